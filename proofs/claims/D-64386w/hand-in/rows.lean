section
-- ===== PART A: goes FIRST, ahead of the names: the tables' words, and 'selects' of the private methods out of them =====
/-- a private method of a class that the tables say can be made, by its rows of tables_1 -/
def lw_okq (q : MethodName × Nat) : Prop := (q.1.cls ≠ "java/lang/invoke/MethodHandle" ∧ q.1.cls ≠ "java/lang/invoke/VarHandle") ∧ Cond.instantiable q.1.cls q.2 ∈ tables_1 ∧ Cond.privateMethod q.1 ∈ tables_1 ∧ Cond.instanceMethod q.1 ∈ tables_1
set_option maxRecDepth 100000
theorem lw_t1 {w : Cond} (h : w ∈ tables_1_1) : w ∈ tables_1 := List.mem_append_left _ h
theorem lw_t2 {w : Cond} (h : w ∈ tables_1_2) : w ∈ tables_1 := List.mem_append_right _ h
theorem lw_p0 : lw_okq (⟨"LayoutWidths", "bad", "(I)Z"⟩, 6) := ⟨⟨by decide +kernel, by decide +kernel⟩, lw_t1 (List.mem_of_getElem? (i := 4) rfl), lw_t1 (List.mem_of_getElem? (i := 36) rfl), lw_t1 (List.mem_of_getElem? (i := 37) rfl)⟩
theorem lw_p1 : lw_okq (⟨"LayoutWidths", "turn", "(II)V"⟩, 6) := ⟨⟨by decide +kernel, by decide +kernel⟩, lw_t1 (List.mem_of_getElem? (i := 4) rfl), lw_t1 (List.mem_of_getElem? (i := 40) rfl), lw_t1 (List.mem_of_getElem? (i := 41) rfl)⟩
theorem lw_p2 : lw_okq (⟨"LayoutWidths", "sizeOf", "(I)I"⟩, 6) := ⟨⟨by decide +kernel, by decide +kernel⟩, lw_t1 (List.mem_of_getElem? (i := 4) rfl), lw_t1 (List.mem_of_getElem? (i := 52) rfl), lw_t1 (List.mem_of_getElem? (i := 53) rfl)⟩
theorem lw_p3 : lw_okq (⟨"LayoutWidths", "leastOf", "(I)I"⟩, 6) := ⟨⟨by decide +kernel, by decide +kernel⟩, lw_t1 (List.mem_of_getElem? (i := 4) rfl), lw_t1 (List.mem_of_getElem? (i := 61) rfl), lw_t1 (List.mem_of_getElem? (i := 62) rfl)⟩
theorem lw_p4 : lw_okq (⟨"LayoutWidths", "fillCost", "(I)V"⟩, 6) := ⟨⟨by decide +kernel, by decide +kernel⟩, lw_t1 (List.mem_of_getElem? (i := 4) rfl), lw_t1 (List.mem_of_getElem? (i := 65) rfl), lw_t1 (List.mem_of_getElem? (i := 66) rfl)⟩
theorem lw_p5 : lw_okq (⟨"LayoutWidths", "price", "(III)I"⟩, 6) := ⟨⟨by decide +kernel, by decide +kernel⟩, lw_t1 (List.mem_of_getElem? (i := 4) rfl), lw_t1 (List.mem_of_getElem? (i := 69) rfl), lw_t1 (List.mem_of_getElem? (i := 70) rfl)⟩
theorem lw_p6 : lw_okq (⟨"LayoutWidths", "cutOf", "(I)I"⟩, 6) := ⟨⟨by decide +kernel, by decide +kernel⟩, lw_t1 (List.mem_of_getElem? (i := 4) rfl), lw_t1 (List.mem_of_getElem? (i := 73) rfl), lw_t1 (List.mem_of_getElem? (i := 74) rfl)⟩
theorem lw_p7 : lw_okq (⟨"LayoutWidths", "separationOf", "(I)I"⟩, 6) := ⟨⟨by decide +kernel, by decide +kernel⟩, lw_t1 (List.mem_of_getElem? (i := 4) rfl), lw_t1 (List.mem_of_getElem? (i := 77) rfl), lw_t1 (List.mem_of_getElem? (i := 78) rfl)⟩
theorem lw_p8 : lw_okq (⟨"LayoutWidths", "neighbours", "(II)I"⟩, 6) := ⟨⟨by decide +kernel, by decide +kernel⟩, lw_t1 (List.mem_of_getElem? (i := 4) rfl), lw_t1 (List.mem_of_getElem? (i := 81) rfl), lw_t1 (List.mem_of_getElem? (i := 82) rfl)⟩
theorem lw_p9 : lw_okq (⟨"LayoutWidths", "missing", "(II)I"⟩, 6) := ⟨⟨by decide +kernel, by decide +kernel⟩, lw_t1 (List.mem_of_getElem? (i := 4) rfl), lw_t1 (List.mem_of_getElem? (i := 85) rfl), lw_t1 (List.mem_of_getElem? (i := 86) rfl)⟩
theorem lw_p10 : lw_okq (⟨"LayoutWidths", "joined", "(III)I"⟩, 6) := ⟨⟨by decide +kernel, by decide +kernel⟩, lw_t1 (List.mem_of_getElem? (i := 4) rfl), lw_t1 (List.mem_of_getElem? (i := 89) rfl), lw_t1 (List.mem_of_getElem? (i := 90) rfl)⟩
theorem lw_p11 : lw_okq (⟨"LayoutWidths", "fits", "(I)Z"⟩, 6) := ⟨⟨by decide +kernel, by decide +kernel⟩, lw_t1 (List.mem_of_getElem? (i := 4) rfl), lw_t1 (List.mem_of_getElem? (i := 101) rfl), lw_t1 (List.mem_of_getElem? (i := 102) rfl)⟩
theorem lw_p12 : lw_okq (⟨"LayoutWidths", "reaches", "(III)Z"⟩, 6) := ⟨⟨by decide +kernel, by decide +kernel⟩, lw_t1 (List.mem_of_getElem? (i := 4) rfl), lw_t1 (List.mem_of_getElem? (i := 105) rfl), lw_t1 (List.mem_of_getElem? (i := 106) rfl)⟩
theorem lw_p13 : lw_okq (⟨"LayoutWidths", "ordersOf", "(I)I"⟩, 6) := ⟨⟨by decide +kernel, by decide +kernel⟩, lw_t1 (List.mem_of_getElem? (i := 4) rfl), lw_t1 (List.mem_of_getElem? (i := 125) rfl), lw_t1 (List.mem_of_getElem? (i := 126) rfl)⟩
theorem lw_p14 : lw_okq (⟨"LayoutWidths", "orderAt", "(II)I"⟩, 6) := ⟨⟨by decide +kernel, by decide +kernel⟩, lw_t1 (List.mem_of_getElem? (i := 4) rfl), lw_t1 (List.mem_of_getElem? (i := 141) rfl), lw_t1 (List.mem_of_getElem? (i := 142) rfl)⟩
theorem lw_p15 : lw_okq (⟨"LayoutWidths", "fillAhead", "(I)V"⟩, 6) := ⟨⟨by decide +kernel, by decide +kernel⟩, lw_t1 (List.mem_of_getElem? (i := 4) rfl), lw_t1 (List.mem_of_getElem? (i := 145) rfl), lw_t1 (List.mem_of_getElem? (i := 146) rfl)⟩
def lw_privs_1 : List (MethodName × Nat) := [(⟨"LayoutWidths", "bad", "(I)Z"⟩, 6), (⟨"LayoutWidths", "turn", "(II)V"⟩, 6), (⟨"LayoutWidths", "sizeOf", "(I)I"⟩, 6), (⟨"LayoutWidths", "leastOf", "(I)I"⟩, 6), (⟨"LayoutWidths", "fillCost", "(I)V"⟩, 6), (⟨"LayoutWidths", "price", "(III)I"⟩, 6), (⟨"LayoutWidths", "cutOf", "(I)I"⟩, 6), (⟨"LayoutWidths", "separationOf", "(I)I"⟩, 6), (⟨"LayoutWidths", "neighbours", "(II)I"⟩, 6), (⟨"LayoutWidths", "missing", "(II)I"⟩, 6), (⟨"LayoutWidths", "joined", "(III)I"⟩, 6), (⟨"LayoutWidths", "fits", "(I)Z"⟩, 6), (⟨"LayoutWidths", "reaches", "(III)Z"⟩, 6), (⟨"LayoutWidths", "ordersOf", "(I)I"⟩, 6), (⟨"LayoutWidths", "orderAt", "(II)I"⟩, 6), (⟨"LayoutWidths", "fillAhead", "(I)V"⟩, 6)]
theorem lw_r1 : ∀ q ∈ lw_privs_1, lw_okq q := List.forall_mem_cons.mpr ⟨lw_p0, List.forall_mem_cons.mpr ⟨lw_p1, List.forall_mem_cons.mpr ⟨lw_p2, List.forall_mem_cons.mpr ⟨lw_p3, List.forall_mem_cons.mpr ⟨lw_p4, List.forall_mem_cons.mpr ⟨lw_p5, List.forall_mem_cons.mpr ⟨lw_p6, List.forall_mem_cons.mpr ⟨lw_p7, List.forall_mem_cons.mpr ⟨lw_p8, List.forall_mem_cons.mpr ⟨lw_p9, List.forall_mem_cons.mpr ⟨lw_p10, List.forall_mem_cons.mpr ⟨lw_p11, List.forall_mem_cons.mpr ⟨lw_p12, List.forall_mem_cons.mpr ⟨lw_p13, List.forall_mem_cons.mpr ⟨lw_p14, List.forall_mem_cons.mpr ⟨lw_p15, fun _ h => absurd h List.not_mem_nil⟩⟩⟩⟩⟩⟩⟩⟩⟩⟩⟩⟩⟩⟩⟩⟩
theorem lw_p16 : lw_okq (⟨"LayoutWidthsModel", "isPair", "(II)Z"⟩, 8) := ⟨⟨by decide +kernel, by decide +kernel⟩, lw_t1 (List.mem_of_getElem? (i := 165) rfl), lw_t1 (List.mem_of_getElem? (i := 200) rfl), lw_t1 (List.mem_of_getElem? (i := 201) rfl)⟩
theorem lw_p17 : lw_okq (⟨"LayoutWidthsModel", "exchange", "(II)V"⟩, 8) := ⟨⟨by decide +kernel, by decide +kernel⟩, lw_t1 (List.mem_of_getElem? (i := 165) rfl), lw_t1 (List.mem_of_getElem? (i := 204) rfl), lw_t1 (List.mem_of_getElem? (i := 205) rfl)⟩
theorem lw_p18 : lw_okq (⟨"LayoutWidthsModel", "bits", "(I)I"⟩, 8) := ⟨⟨by decide +kernel, by decide +kernel⟩, lw_t1 (List.mem_of_getElem? (i := 165) rfl), lw_t1 (List.mem_of_getElem? (i := 216) rfl), lw_t1 (List.mem_of_getElem? (i := 217) rfl)⟩
theorem lw_p19 : lw_okq (⟨"LayoutWidthsModel", "least", "(I)I"⟩, 8) := ⟨⟨by decide +kernel, by decide +kernel⟩, lw_t1 (List.mem_of_getElem? (i := 165) rfl), lw_t1 (List.mem_of_getElem? (i := 225) rfl), lw_t1 (List.mem_of_getElem? (i := 226) rfl)⟩
theorem lw_p20 : lw_okq (⟨"LayoutWidthsModel", "goOver", "()V"⟩, 8) := ⟨⟨by decide +kernel, by decide +kernel⟩, lw_t1 (List.mem_of_getElem? (i := 165) rfl), lw_t1 (List.mem_of_getElem? (i := 229) rfl), lw_t1 (List.mem_of_getElem? (i := 230) rfl)⟩
theorem lw_p21 : lw_okq (⟨"LayoutWidthsModel", "setOrder", "(I)V"⟩, 8) := ⟨⟨by decide +kernel, by decide +kernel⟩, lw_t1 (List.mem_of_getElem? (i := 165) rfl), lw_t1 (List.mem_of_getElem? (i := 233) rfl), lw_t1 (List.mem_of_getElem? (i := 234) rfl)⟩
theorem lw_p22 : lw_okq (⟨"LayoutWidthsModel", "nth", "(II)I"⟩, 8) := ⟨⟨by decide +kernel, by decide +kernel⟩, lw_t1 (List.mem_of_getElem? (i := 165) rfl), lw_t1 (List.mem_of_getElem? (i := 237) rfl), lw_t1 (List.mem_of_getElem? (i := 238) rfl)⟩
theorem lw_p23 : lw_okq (⟨"LayoutWidthsModel", "lay", "()V"⟩, 8) := ⟨⟨by decide +kernel, by decide +kernel⟩, lw_t1 (List.mem_of_getElem? (i := 165) rfl), lw_t2 (List.mem_of_getElem? (i := 1) rfl), lw_t2 (List.mem_of_getElem? (i := 2) rfl)⟩
theorem lw_p24 : lw_okq (⟨"LayoutWidthsModel", "takeApart", "()V"⟩, 8) := ⟨⟨by decide +kernel, by decide +kernel⟩, lw_t1 (List.mem_of_getElem? (i := 165) rfl), lw_t2 (List.mem_of_getElem? (i := 5) rfl), lw_t2 (List.mem_of_getElem? (i := 6) rfl)⟩
theorem lw_p25 : lw_okq (⟨"LayoutWidthsModel", "joinNeighbours", "(I)I"⟩, 8) := ⟨⟨by decide +kernel, by decide +kernel⟩, lw_t1 (List.mem_of_getElem? (i := 165) rfl), lw_t2 (List.mem_of_getElem? (i := 9) rfl), lw_t2 (List.mem_of_getElem? (i := 10) rfl)⟩
theorem lw_p26 : lw_okq (⟨"LayoutWidthsModel", "countLeast", "(I)I"⟩, 8) := ⟨⟨by decide +kernel, by decide +kernel⟩, lw_t1 (List.mem_of_getElem? (i := 165) rfl), lw_t2 (List.mem_of_getElem? (i := 37) rfl), lw_t2 (List.mem_of_getElem? (i := 38) rfl)⟩
theorem lw_p27 : lw_okq (⟨"LayoutWidthsModel", "firstLeast", "(II)I"⟩, 8) := ⟨⟨by decide +kernel, by decide +kernel⟩, lw_t1 (List.mem_of_getElem? (i := 165) rfl), lw_t2 (List.mem_of_getElem? (i := 53) rfl), lw_t2 (List.mem_of_getElem? (i := 54) rfl)⟩
theorem lw_p28 : lw_okq (⟨"LayoutWidthsModel", "widthNow", "()I"⟩, 8) := ⟨⟨by decide +kernel, by decide +kernel⟩, lw_t1 (List.mem_of_getElem? (i := 165) rfl), lw_t2 (List.mem_of_getElem? (i := 69) rfl), lw_t2 (List.mem_of_getElem? (i := 70) rfl)⟩
theorem lw_p29 : lw_okq (⟨"LayoutWidthsModel", "isClique", "(I)Z"⟩, 8) := ⟨⟨by decide +kernel, by decide +kernel⟩, lw_t1 (List.mem_of_getElem? (i := 165) rfl), lw_t2 (List.mem_of_getElem? (i := 77) rfl), lw_t2 (List.mem_of_getElem? (i := 78) rfl)⟩
def lw_privs_2 : List (MethodName × Nat) := [(⟨"LayoutWidthsModel", "isPair", "(II)Z"⟩, 8), (⟨"LayoutWidthsModel", "exchange", "(II)V"⟩, 8), (⟨"LayoutWidthsModel", "bits", "(I)I"⟩, 8), (⟨"LayoutWidthsModel", "least", "(I)I"⟩, 8), (⟨"LayoutWidthsModel", "goOver", "()V"⟩, 8), (⟨"LayoutWidthsModel", "setOrder", "(I)V"⟩, 8), (⟨"LayoutWidthsModel", "nth", "(II)I"⟩, 8), (⟨"LayoutWidthsModel", "lay", "()V"⟩, 8), (⟨"LayoutWidthsModel", "takeApart", "()V"⟩, 8), (⟨"LayoutWidthsModel", "joinNeighbours", "(I)I"⟩, 8), (⟨"LayoutWidthsModel", "countLeast", "(I)I"⟩, 8), (⟨"LayoutWidthsModel", "firstLeast", "(II)I"⟩, 8), (⟨"LayoutWidthsModel", "widthNow", "()I"⟩, 8), (⟨"LayoutWidthsModel", "isClique", "(I)Z"⟩, 8)]
theorem lw_r2 : ∀ q ∈ lw_privs_2, lw_okq q := List.forall_mem_cons.mpr ⟨lw_p16, List.forall_mem_cons.mpr ⟨lw_p17, List.forall_mem_cons.mpr ⟨lw_p18, List.forall_mem_cons.mpr ⟨lw_p19, List.forall_mem_cons.mpr ⟨lw_p20, List.forall_mem_cons.mpr ⟨lw_p21, List.forall_mem_cons.mpr ⟨lw_p22, List.forall_mem_cons.mpr ⟨lw_p23, List.forall_mem_cons.mpr ⟨lw_p24, List.forall_mem_cons.mpr ⟨lw_p25, List.forall_mem_cons.mpr ⟨lw_p26, List.forall_mem_cons.mpr ⟨lw_p27, List.forall_mem_cons.mpr ⟨lw_p28, List.forall_mem_cons.mpr ⟨lw_p29, fun _ h => absurd h List.not_mem_nil⟩⟩⟩⟩⟩⟩⟩⟩⟩⟩⟩⟩⟩⟩
def lw_privs : List (MethodName × Nat) := lw_privs_1 ++ (lw_privs_2)
def lw_tbl : List Cond := k2_sels lw_privs ++ tables_1
theorem lw_privs_ok : ∀ q ∈ lw_privs, lw_okq q := by
  show ∀ q ∈ lw_privs_1 ++ (lw_privs_2), lw_okq q
  exact List.forall_mem_append.mpr ⟨lw_r1, lw_r2⟩
-- ===== ONE list of words for every method: the tables' words that hold all through a run =====
def lw_all : List Cond := lw_tbl.filter goodWord
/-- a word of the tables by its place: claim/WORDS.tsv -/
theorem lw_w {w : Cond} (i : Nat) (h : lw_tbl[i]? = some w) (g : goodWord w = true) : w ∈ lw_all := List.mem_filter.mpr ⟨List.mem_of_getElem? h, g⟩
theorem lw_all_tbl {w : Cond} (h : w ∈ lw_all) : w ∈ lw_tbl := (List.mem_filter.mp h).1
theorem lw_self : GoodIn lw_all lw_all := fun w h => ⟨h, good_of_word (List.mem_filter.mp h).2⟩
/-- a class's field words, by their places -/
theorem lw_in (ws : List Cond) (ps : List Nat) (hp : ws = ps.filterMap (fun i => lw_tbl[i]?)) (hg : ws.all goodWord = true) : ∀ w ∈ ws, w ∈ lw_all := by
  intro w h
  have h1 := List.all_eq_true.mp hg w h
  rw [hp] at h
  obtain ⟨i, -, hi⟩ := List.mem_filterMap.mp h
  exact lw_w i hi h1
/-- the words of a contract for the method y with code b, L locals, answer r -/
abbrev ws_ (y : MethodName) (b : ByteArray) (L : Nat) (r : Option FieldType) : List Cond := Cond.code y b L r :: lw_all
theorem lw_meth {y : MethodName} {b : ByteArray} {L : Nat} {r : Option FieldType} (h : Cond.code y b L r ∈ lw_all) : GoodIn lw_all (ws_ y b L r) := by
  intro w hw
  rcases List.mem_cons.mp hw with e | e
  · rw [e]
    exact lw_self _ h
  · exact lw_self _ e
theorem lw_app {a c : List Cond} (ha : ∀ w ∈ a, w ∈ lw_all) (hc : GoodIn lw_all c) : GoodIn lw_all (a ++ c) := by
  intro w hw
  rcases List.mem_append.mp hw with e | e
  · exact lw_self w (ha w e)
  · exact hc w e
/-- what a call through an object asks: cwV n hts (lw_V ..) -/
theorem lw_V {own : String} {idx : Nat} {C : String} {y : MethodName} {b : ByteArray} {L : Nat} {r : Option FieldType} (h1 : Cond.methodLink own idx y ∈ lw_all) (h2 : Cond.instanceMethod y ∈ lw_all) (h3 : Cond.selects C y y ∈ lw_all) (h4 : Cond.initialized C ∈ lw_all) (h5 : Cond.code y b L r ∈ lw_all) : GoodIn lw_all (wsV own idx C y (ws_ y b L r)) := by
  refine lw_app ?_ (lw_meth h5)
  intro w hw
  simp only [List.mem_cons, List.not_mem_nil, or_false] at hw
  rcases hw with e | e | e | e
  · rw [e]; exact h1
  · rw [e]; exact h2
  · rw [e]; exact h3
  · rw [e]; exact h4
/-- what a static call asks: va_cwS n hts (lw_S ..) -/
theorem lw_S {own : String} {idx : Nat} {y : MethodName} {b : ByteArray} {L : Nat} {r : Option FieldType} (h1 : Cond.methodLink own idx y ∈ lw_all) (h2 : Cond.static y ∈ lw_all) (h3 : Cond.initialized y.cls ∈ lw_all) (h4 : Cond.code y b L r ∈ lw_all) : GoodIn lw_all (va_wsS own idx y (ws_ y b L r)) := by
  refine lw_app ?_ (lw_meth h4)
  intro w hw
  simp only [List.mem_cons, List.not_mem_nil, or_false] at hw
  rcases hw with e | e | e
  · rw [e]; exact h1
  · rw [e]; exact h2
  · rw [e]; exact h3
/-- the words of a contract for a method WITH HANDLERS (hh: its table) -/
abbrev wsW_ (y : MethodName) (b : ByteArray) (L : Nat) (r : Option FieldType) (hh : List (Nat × Nat × Nat × Nat)) : List Cond := Cond.codeWith y b L r hh :: lw_all
theorem lw_methW {y : MethodName} {b : ByteArray} {L : Nat} {r : Option FieldType} {hh : List (Nat × Nat × Nat × Nat)} (h : Cond.codeWith y b L r hh ∈ lw_all) : GoodIn lw_all (wsW_ y b L r hh) := by
  intro w hw
  rcases List.mem_cons.mp hw with e | e
  · rw [e]
    exact lw_self _ h
  · exact lw_self _ e
/-- any list of words by their places (lw_in), good -/
theorem lw_good {ws : List Cond} (h : ∀ w ∈ ws, w ∈ lw_all) : GoodIn lw_all ws := fun w hw => lw_self w (h w hw)
/-- what a call of a method with handlers asks: vx_cwVW n hts (lw_VW ..), vx_cwSW n hts (lw_SW ..) -/
theorem lw_VW {own : String} {idx : Nat} {C : String} {y : MethodName} {b : ByteArray} {L : Nat} {r : Option FieldType} {hh : List (Nat × Nat × Nat × Nat)} (h1 : Cond.methodLink own idx y ∈ lw_all) (h2 : Cond.instanceMethod y ∈ lw_all) (h3 : Cond.selects C y y ∈ lw_all) (h4 : Cond.initialized C ∈ lw_all) (h5 : Cond.codeWith y b L r hh ∈ lw_all) : GoodIn lw_all (wsV own idx C y (wsW_ y b L r hh)) := by
  refine lw_app ?_ (lw_methW h5)
  intro w hw
  simp only [List.mem_cons, List.not_mem_nil, or_false] at hw
  rcases hw with e | e | e | e
  · rw [e]; exact h1
  · rw [e]; exact h2
  · rw [e]; exact h3
  · rw [e]; exact h4
theorem lw_SW {own : String} {idx : Nat} {y : MethodName} {b : ByteArray} {L : Nat} {r : Option FieldType} {hh : List (Nat × Nat × Nat × Nat)} (h1 : Cond.methodLink own idx y ∈ lw_all) (h2 : Cond.static y ∈ lw_all) (h3 : Cond.initialized y.cls ∈ lw_all) (h4 : Cond.codeWith y b L r hh ∈ lw_all) : GoodIn lw_all (va_wsS own idx y (wsW_ y b L r hh)) := by
  refine lw_app ?_ (lw_methW h4)
  intro w hw
  simp only [List.mem_cons, List.not_mem_nil, or_false] at hw
  rcases hw with e | e | e
  · rw [e]; exact h1
  · rw [e]; exact h2
  · rw [e]; exact h3
/-- a word by its place in its run of the tables -/
theorem lw_at {r : List Cond} (hr : ∀ w ∈ r, w ∈ lw_tbl) {w : Cond} (i : Nat) (h : r[i]? = some w) : w ∈ lw_tbl := hr w (List.mem_of_getElem? h)
theorem lw_g {w : Cond} (h : w ∈ lw_tbl) (g : goodWord w = true) : w ∈ lw_all := List.mem_filter.mpr ⟨h, g⟩
theorem lw_ms : ∀ w ∈ k2_sels lw_privs, w ∈ lw_tbl := fun w h => show w ∈ k2_sels lw_privs ++ tables_1 from List.mem_append_left _ h
theorem lw_m1 : ∀ w ∈ tables_1_1, w ∈ lw_tbl := fun w h => show w ∈ k2_sels lw_privs ++ tables_1 from List.mem_append_right (k2_sels lw_privs) (show w ∈ tables_1 from List.mem_append_left _ h)
theorem lw_m2 : ∀ w ∈ tables_1_2, w ∈ lw_tbl := fun w h => show w ∈ k2_sels lw_privs ++ tables_1 from List.mem_append_right (k2_sels lw_privs) (show w ∈ tables_1 from List.mem_append_right _ h)
theorem qs0 : (Cond.selects "LayoutWidths" ⟨"LayoutWidths", "bad", "(I)Z"⟩ ⟨"LayoutWidths", "bad", "(I)Z"⟩) ∈ lw_all := lw_g (lw_at lw_ms 0 rfl) rfl
theorem qs1 : (Cond.selects "LayoutWidths" ⟨"LayoutWidths", "turn", "(II)V"⟩ ⟨"LayoutWidths", "turn", "(II)V"⟩) ∈ lw_all := lw_g (lw_at lw_ms 1 rfl) rfl
theorem qs2 : (Cond.selects "LayoutWidths" ⟨"LayoutWidths", "sizeOf", "(I)I"⟩ ⟨"LayoutWidths", "sizeOf", "(I)I"⟩) ∈ lw_all := lw_g (lw_at lw_ms 2 rfl) rfl
theorem qs3 : (Cond.selects "LayoutWidths" ⟨"LayoutWidths", "leastOf", "(I)I"⟩ ⟨"LayoutWidths", "leastOf", "(I)I"⟩) ∈ lw_all := lw_g (lw_at lw_ms 3 rfl) rfl
theorem qs4 : (Cond.selects "LayoutWidths" ⟨"LayoutWidths", "fillCost", "(I)V"⟩ ⟨"LayoutWidths", "fillCost", "(I)V"⟩) ∈ lw_all := lw_g (lw_at lw_ms 4 rfl) rfl
theorem qs5 : (Cond.selects "LayoutWidths" ⟨"LayoutWidths", "price", "(III)I"⟩ ⟨"LayoutWidths", "price", "(III)I"⟩) ∈ lw_all := lw_g (lw_at lw_ms 5 rfl) rfl
theorem qs6 : (Cond.selects "LayoutWidths" ⟨"LayoutWidths", "cutOf", "(I)I"⟩ ⟨"LayoutWidths", "cutOf", "(I)I"⟩) ∈ lw_all := lw_g (lw_at lw_ms 6 rfl) rfl
theorem qs7 : (Cond.selects "LayoutWidths" ⟨"LayoutWidths", "separationOf", "(I)I"⟩ ⟨"LayoutWidths", "separationOf", "(I)I"⟩) ∈ lw_all := lw_g (lw_at lw_ms 7 rfl) rfl
theorem qs8 : (Cond.selects "LayoutWidths" ⟨"LayoutWidths", "neighbours", "(II)I"⟩ ⟨"LayoutWidths", "neighbours", "(II)I"⟩) ∈ lw_all := lw_g (lw_at lw_ms 8 rfl) rfl
theorem qs9 : (Cond.selects "LayoutWidths" ⟨"LayoutWidths", "missing", "(II)I"⟩ ⟨"LayoutWidths", "missing", "(II)I"⟩) ∈ lw_all := lw_g (lw_at lw_ms 9 rfl) rfl
theorem qs10 : (Cond.selects "LayoutWidths" ⟨"LayoutWidths", "joined", "(III)I"⟩ ⟨"LayoutWidths", "joined", "(III)I"⟩) ∈ lw_all := lw_g (lw_at lw_ms 10 rfl) rfl
theorem qs11 : (Cond.selects "LayoutWidths" ⟨"LayoutWidths", "fits", "(I)Z"⟩ ⟨"LayoutWidths", "fits", "(I)Z"⟩) ∈ lw_all := lw_g (lw_at lw_ms 11 rfl) rfl
theorem qs12 : (Cond.selects "LayoutWidths" ⟨"LayoutWidths", "reaches", "(III)Z"⟩ ⟨"LayoutWidths", "reaches", "(III)Z"⟩) ∈ lw_all := lw_g (lw_at lw_ms 12 rfl) rfl
theorem qs13 : (Cond.selects "LayoutWidths" ⟨"LayoutWidths", "ordersOf", "(I)I"⟩ ⟨"LayoutWidths", "ordersOf", "(I)I"⟩) ∈ lw_all := lw_g (lw_at lw_ms 13 rfl) rfl
theorem qs14 : (Cond.selects "LayoutWidths" ⟨"LayoutWidths", "orderAt", "(II)I"⟩ ⟨"LayoutWidths", "orderAt", "(II)I"⟩) ∈ lw_all := lw_g (lw_at lw_ms 14 rfl) rfl
theorem qs15 : (Cond.selects "LayoutWidths" ⟨"LayoutWidths", "fillAhead", "(I)V"⟩ ⟨"LayoutWidths", "fillAhead", "(I)V"⟩) ∈ lw_all := lw_g (lw_at lw_ms 15 rfl) rfl
theorem qs16 : (Cond.selects "LayoutWidthsModel" ⟨"LayoutWidthsModel", "isPair", "(II)Z"⟩ ⟨"LayoutWidthsModel", "isPair", "(II)Z"⟩) ∈ lw_all := lw_g (lw_at lw_ms 16 rfl) rfl
theorem qs17 : (Cond.selects "LayoutWidthsModel" ⟨"LayoutWidthsModel", "exchange", "(II)V"⟩ ⟨"LayoutWidthsModel", "exchange", "(II)V"⟩) ∈ lw_all := lw_g (lw_at lw_ms 17 rfl) rfl
theorem qs18 : (Cond.selects "LayoutWidthsModel" ⟨"LayoutWidthsModel", "bits", "(I)I"⟩ ⟨"LayoutWidthsModel", "bits", "(I)I"⟩) ∈ lw_all := lw_g (lw_at lw_ms 18 rfl) rfl
theorem qs19 : (Cond.selects "LayoutWidthsModel" ⟨"LayoutWidthsModel", "least", "(I)I"⟩ ⟨"LayoutWidthsModel", "least", "(I)I"⟩) ∈ lw_all := lw_g (lw_at lw_ms 19 rfl) rfl
theorem qs20 : (Cond.selects "LayoutWidthsModel" ⟨"LayoutWidthsModel", "goOver", "()V"⟩ ⟨"LayoutWidthsModel", "goOver", "()V"⟩) ∈ lw_all := lw_g (lw_at lw_ms 20 rfl) rfl
theorem qs21 : (Cond.selects "LayoutWidthsModel" ⟨"LayoutWidthsModel", "setOrder", "(I)V"⟩ ⟨"LayoutWidthsModel", "setOrder", "(I)V"⟩) ∈ lw_all := lw_g (lw_at lw_ms 21 rfl) rfl
theorem qs22 : (Cond.selects "LayoutWidthsModel" ⟨"LayoutWidthsModel", "nth", "(II)I"⟩ ⟨"LayoutWidthsModel", "nth", "(II)I"⟩) ∈ lw_all := lw_g (lw_at lw_ms 22 rfl) rfl
theorem qs23 : (Cond.selects "LayoutWidthsModel" ⟨"LayoutWidthsModel", "lay", "()V"⟩ ⟨"LayoutWidthsModel", "lay", "()V"⟩) ∈ lw_all := lw_g (lw_at lw_ms 23 rfl) rfl
theorem qs24 : (Cond.selects "LayoutWidthsModel" ⟨"LayoutWidthsModel", "takeApart", "()V"⟩ ⟨"LayoutWidthsModel", "takeApart", "()V"⟩) ∈ lw_all := lw_g (lw_at lw_ms 24 rfl) rfl
theorem qs25 : (Cond.selects "LayoutWidthsModel" ⟨"LayoutWidthsModel", "joinNeighbours", "(I)I"⟩ ⟨"LayoutWidthsModel", "joinNeighbours", "(I)I"⟩) ∈ lw_all := lw_g (lw_at lw_ms 25 rfl) rfl
theorem qs26 : (Cond.selects "LayoutWidthsModel" ⟨"LayoutWidthsModel", "countLeast", "(I)I"⟩ ⟨"LayoutWidthsModel", "countLeast", "(I)I"⟩) ∈ lw_all := lw_g (lw_at lw_ms 26 rfl) rfl
theorem qs27 : (Cond.selects "LayoutWidthsModel" ⟨"LayoutWidthsModel", "firstLeast", "(II)I"⟩ ⟨"LayoutWidthsModel", "firstLeast", "(II)I"⟩) ∈ lw_all := lw_g (lw_at lw_ms 27 rfl) rfl
theorem qs28 : (Cond.selects "LayoutWidthsModel" ⟨"LayoutWidthsModel", "widthNow", "()I"⟩ ⟨"LayoutWidthsModel", "widthNow", "()I"⟩) ∈ lw_all := lw_g (lw_at lw_ms 28 rfl) rfl
theorem qs29 : (Cond.selects "LayoutWidthsModel" ⟨"LayoutWidthsModel", "isClique", "(I)Z"⟩ ⟨"LayoutWidthsModel", "isClique", "(I)Z"⟩) ∈ lw_all := lw_g (lw_at lw_ms 29 rfl) rfl
end
section
set_option maxRecDepth 100000
/-! LayoutWidths -/
def RX0 : String := "LayoutWidths"
def TX0 : u_T := fun k => match k with
  | 0 => ("LayoutWidths", "near", "[I", true)
  | 1 => ("LayoutWidths", "cost", "[I", true)
  | 2 => ("LayoutWidths", "ways", "[I", true)
  | 3 => ("LayoutWidths", "ahead", "[I", true)
  | 4 => ("LayoutWidths", "placed", "[I", true)
  | _ => ("LayoutWidths", "tried", "[I", true)
def tyX0 : Nat → FieldType := fun k => match k with
  | 0 => .array .int
  | 1 => .array .int
  | 2 => .array .int
  | 3 => .array .int
  | 4 => .array .int
  | _ => .array .int
abbrev wsX00 : List Cond := u_ws RX0 TX0 6
theorem nmX0 : ∀ a, a < 6 → ∀ b, b < 6 → a ≠ b → (TX0 a).2.1 ≠ (TX0 b).2.1 := by decide +kernel
theorem tyX0_ok : ∀ k, k < 6 → parseFieldDescriptor (TX0 k).2.2.1 = some (tyX0 k) := by decide +kernel
abbrev cX0_init : ByteArray := prog_1_method_1_code
def yX0_init : MethodName := ⟨RX0, "<init>", "()V"⟩
abbrev cX0_line : ByteArray := prog_1_method_5_code
def yX0_line : MethodName := ⟨RX0, "line", "(II)I"⟩
abbrev cX0_bad : ByteArray := prog_1_method_2_code
def yX0_bad : MethodName := ⟨RX0, "bad", "(I)Z"⟩
abbrev cX0_turn : ByteArray := prog_1_method_4_code
def yX0_turn : MethodName := ⟨RX0, "turn", "(II)V"⟩
abbrev cX0_clear : ByteArray := prog_1_method_6_code
def yX0_clear : MethodName := ⟨RX0, "clear", "()I"⟩
abbrev cX0_lines : ByteArray := prog_1_method_7_code
def yX0_lines : MethodName := ⟨RX0, "lines", "()I"⟩
abbrev cX0_sizeOf : ByteArray := prog_1_method_3_code
def yX0_sizeOf : MethodName := ⟨RX0, "sizeOf", "(I)I"⟩
abbrev cX0_cutWidth : ByteArray := prog_1_method_19_code
def yX0_cutWidth : MethodName := ⟨RX0, "cutWidth", "()I"⟩
abbrev cX0_leastOf : ByteArray := prog_1_method_16_code
def yX0_leastOf : MethodName := ⟨RX0, "leastOf", "(I)I"⟩
abbrev cX0_fillCost : ByteArray := prog_1_method_14_code
def yX0_fillCost : MethodName := ⟨RX0, "fillCost", "(I)V"⟩
abbrev cX0_price : ByteArray := prog_1_method_12_code
def yX0_price : MethodName := ⟨RX0, "price", "(III)I"⟩
abbrev cX0_cutOf : ByteArray := prog_1_method_8_code
def yX0_cutOf : MethodName := ⟨RX0, "cutOf", "(I)I"⟩
abbrev cX0_separationOf : ByteArray := prog_1_method_9_code
def yX0_separationOf : MethodName := ⟨RX0, "separationOf", "(I)I"⟩
abbrev cX0_neighbours : ByteArray := prog_1_method_10_code
def yX0_neighbours : MethodName := ⟨RX0, "neighbours", "(II)I"⟩
abbrev cX0_missing : ByteArray := prog_1_method_11_code
def yX0_missing : MethodName := ⟨RX0, "missing", "(II)I"⟩
abbrev cX0_joined : ByteArray := prog_1_method_13_code
def yX0_joined : MethodName := ⟨RX0, "joined", "(III)I"⟩
abbrev cX0_separation : ByteArray := prog_1_method_20_code
def yX0_separation : MethodName := ⟨RX0, "separation", "()I"⟩
abbrev cX0_stretch : ByteArray := prog_1_method_23_code
def yX0_stretch : MethodName := ⟨RX0, "stretch", "()I"⟩
abbrev cX0_fits : ByteArray := prog_1_method_22_code
def yX0_fits : MethodName := ⟨RX0, "fits", "(I)Z"⟩
abbrev cX0_reaches : ByteArray := prog_1_method_21_code
def yX0_reaches : MethodName := ⟨RX0, "reaches", "(III)Z"⟩
abbrev cX0_length : ByteArray := prog_1_method_24_code
def yX0_length : MethodName := ⟨RX0, "length", "()I"⟩
abbrev cX0_width : ByteArray := prog_1_method_25_code
def yX0_width : MethodName := ⟨RX0, "width", "()I"⟩
abbrev cX0_fill : ByteArray := prog_1_method_26_code
def yX0_fill : MethodName := ⟨RX0, "fill", "()I"⟩
abbrev cX0_cutOrders : ByteArray := prog_1_method_27_code
def yX0_cutOrders : MethodName := ⟨RX0, "cutOrders", "()I"⟩
abbrev cX0_ordersOf : ByteArray := prog_1_method_17_code
def yX0_ordersOf : MethodName := ⟨RX0, "ordersOf", "(I)I"⟩
abbrev cX0_lengthOrders : ByteArray := prog_1_method_28_code
def yX0_lengthOrders : MethodName := ⟨RX0, "lengthOrders", "()I"⟩
abbrev cX0_fillOrders : ByteArray := prog_1_method_29_code
def yX0_fillOrders : MethodName := ⟨RX0, "fillOrders", "()I"⟩
abbrev cX0_lengthOrder : ByteArray := prog_1_method_30_code
def yX0_lengthOrder : MethodName := ⟨RX0, "lengthOrder", "(I)I"⟩
abbrev cX0_orderAt : ByteArray := prog_1_method_18_code
def yX0_orderAt : MethodName := ⟨RX0, "orderAt", "(II)I"⟩
abbrev cX0_fillAhead : ByteArray := prog_1_method_15_code
def yX0_fillAhead : MethodName := ⟨RX0, "fillAhead", "(I)V"⟩
abbrev cX0_widthOrder : ByteArray := prog_1_method_31_code
def yX0_widthOrder : MethodName := ⟨RX0, "widthOrder", "(I)I"⟩
abbrev cX0_whole : ByteArray := prog_1_method_32_code
def yX0_whole : MethodName := ⟨RX0, "whole", "()Z"⟩
abbrev cX0_growth : ByteArray := prog_1_method_33_code
def yX0_growth : MethodName := ⟨RX0, "growth", "(II)I"⟩
abbrev cX0_clique : ByteArray := prog_1_method_34_code
def yX0_clique : MethodName := ⟨RX0, "clique", "()I"⟩
theorem q31 : (Jvm.Cond.initialized "LayoutWidths") ∈ lw_all := lw_g (lw_at lw_m1 1 rfl) rfl
theorem q34 : (Jvm.Cond.instantiable "LayoutWidths" (6 : Nat)) ∈ lw_all := lw_g (lw_at lw_m1 4 rfl) rfl
theorem q36 : (Jvm.Cond.instanceMethod ({ cls := "LayoutWidths", name := "<init>", desc := "()V" } : Jvm.MethodName)) ∈ lw_all := lw_g (lw_at lw_m1 6 rfl) rfl
theorem q37 : (Jvm.Cond.code ({ cls := "LayoutWidths", name := "<init>", desc := "()V" } : Jvm.MethodName) prog_1_method_1_code (1 : Nat) (Option.none : Option Jvm.ClassFile.FieldType)) ∈ lw_all := lw_g (lw_at lw_m1 7 rfl) rfl
theorem q38 : (Jvm.Cond.methodLink "LayoutWidths" (1 : Nat) ({ cls := "java/lang/Object", name := "<init>", desc := "()V" } : Jvm.MethodName)) ∈ lw_all := lw_g (lw_at lw_m1 8 rfl) rfl
theorem q41 : (Jvm.Cond.fieldLink "LayoutWidths" (7 : Nat) "LayoutWidths" "near" "[I") ∈ lw_all := lw_g (lw_at lw_m1 11 rfl) rfl
theorem q42 : (Jvm.Cond.fieldLink "LayoutWidths" (13 : Nat) "LayoutWidths" "cost" "[I") ∈ lw_all := lw_g (lw_at lw_m1 12 rfl) rfl
theorem q43 : (Jvm.Cond.fieldLink "LayoutWidths" (16 : Nat) "LayoutWidths" "ways" "[I") ∈ lw_all := lw_g (lw_at lw_m1 13 rfl) rfl
theorem q44 : (Jvm.Cond.fieldLink "LayoutWidths" (19 : Nat) "LayoutWidths" "ahead" "[I") ∈ lw_all := lw_g (lw_at lw_m1 14 rfl) rfl
theorem q45 : (Jvm.Cond.fieldLink "LayoutWidths" (22 : Nat) "LayoutWidths" "placed" "[I") ∈ lw_all := lw_g (lw_at lw_m1 15 rfl) rfl
theorem q46 : (Jvm.Cond.fieldLink "LayoutWidths" (25 : Nat) "LayoutWidths" "tried" "[I") ∈ lw_all := lw_g (lw_at lw_m1 16 rfl) rfl
theorem q47 : (Jvm.Cond.laysFinal "LayoutWidths" "LayoutWidths" "near" "[I") ∈ lw_all := lw_g (lw_at lw_m1 17 rfl) rfl
theorem q48 : (Jvm.Cond.soleField "LayoutWidths" "near") ∈ lw_all := lw_g (lw_at lw_m1 18 rfl) rfl
theorem q49 : (Jvm.Cond.laysFinal "LayoutWidths" "LayoutWidths" "cost" "[I") ∈ lw_all := lw_g (lw_at lw_m1 19 rfl) rfl
theorem q50 : (Jvm.Cond.soleField "LayoutWidths" "cost") ∈ lw_all := lw_g (lw_at lw_m1 20 rfl) rfl
theorem q51 : (Jvm.Cond.laysFinal "LayoutWidths" "LayoutWidths" "ways" "[I") ∈ lw_all := lw_g (lw_at lw_m1 21 rfl) rfl
theorem q52 : (Jvm.Cond.soleField "LayoutWidths" "ways") ∈ lw_all := lw_g (lw_at lw_m1 22 rfl) rfl
theorem q53 : (Jvm.Cond.laysFinal "LayoutWidths" "LayoutWidths" "ahead" "[I") ∈ lw_all := lw_g (lw_at lw_m1 23 rfl) rfl
theorem q54 : (Jvm.Cond.soleField "LayoutWidths" "ahead") ∈ lw_all := lw_g (lw_at lw_m1 24 rfl) rfl
theorem q55 : (Jvm.Cond.laysFinal "LayoutWidths" "LayoutWidths" "placed" "[I") ∈ lw_all := lw_g (lw_at lw_m1 25 rfl) rfl
theorem q56 : (Jvm.Cond.soleField "LayoutWidths" "placed") ∈ lw_all := lw_g (lw_at lw_m1 26 rfl) rfl
theorem q57 : (Jvm.Cond.laysFinal "LayoutWidths" "LayoutWidths" "tried" "[I") ∈ lw_all := lw_g (lw_at lw_m1 27 rfl) rfl
theorem q58 : (Jvm.Cond.soleField "LayoutWidths" "tried") ∈ lw_all := lw_g (lw_at lw_m1 28 rfl) rfl
theorem q59 : (Jvm.Cond.superclass "LayoutWidths" "java/lang/Object") ∈ lw_all := lw_g (lw_at lw_m1 29 rfl) rfl
theorem q62 : (Jvm.Cond.instanceMethod ({ cls := "LayoutWidths", name := "line", desc := "(II)I" } : Jvm.MethodName)) ∈ lw_all := lw_g (lw_at lw_m1 32 rfl) rfl
theorem q63 : (Jvm.Cond.selects "LayoutWidths" ({ cls := "LayoutWidths", name := "line", desc := "(II)I" } : Jvm.MethodName) ({ cls := "LayoutWidths", name := "line", desc := "(II)I" } : Jvm.MethodName)) ∈ lw_all := lw_g (lw_at lw_m1 33 rfl) rfl
theorem q64 : (Jvm.Cond.code ({ cls := "LayoutWidths", name := "line", desc := "(II)I" } : Jvm.MethodName) prog_1_method_5_code (3 : Nat) (Option.some Jvm.ClassFile.FieldType.int)) ∈ lw_all := lw_g (lw_at lw_m1 34 rfl) rfl
theorem q65 : (Jvm.Cond.methodLink "LayoutWidths" (28 : Nat) ({ cls := "LayoutWidths", name := "bad", desc := "(I)Z" } : Jvm.MethodName)) ∈ lw_all := lw_g (lw_at lw_m1 35 rfl) rfl
theorem q66 : (Jvm.Cond.privateMethod ({ cls := "LayoutWidths", name := "bad", desc := "(I)Z" } : Jvm.MethodName)) ∈ lw_tbl := lw_at lw_m1 36 rfl
theorem q67 : (Jvm.Cond.instanceMethod ({ cls := "LayoutWidths", name := "bad", desc := "(I)Z" } : Jvm.MethodName)) ∈ lw_all := lw_g (lw_at lw_m1 37 rfl) rfl
theorem q68 : (Jvm.Cond.code ({ cls := "LayoutWidths", name := "bad", desc := "(I)Z" } : Jvm.MethodName) prog_1_method_2_code (2 : Nat) (Option.some Jvm.ClassFile.FieldType.boolean)) ∈ lw_all := lw_g (lw_at lw_m1 38 rfl) rfl
theorem q69 : (Jvm.Cond.methodLink "LayoutWidths" (32 : Nat) ({ cls := "LayoutWidths", name := "turn", desc := "(II)V" } : Jvm.MethodName)) ∈ lw_all := lw_g (lw_at lw_m1 39 rfl) rfl
theorem q70 : (Jvm.Cond.privateMethod ({ cls := "LayoutWidths", name := "turn", desc := "(II)V" } : Jvm.MethodName)) ∈ lw_tbl := lw_at lw_m1 40 rfl
theorem q71 : (Jvm.Cond.instanceMethod ({ cls := "LayoutWidths", name := "turn", desc := "(II)V" } : Jvm.MethodName)) ∈ lw_all := lw_g (lw_at lw_m1 41 rfl) rfl
theorem q72 : (Jvm.Cond.code ({ cls := "LayoutWidths", name := "turn", desc := "(II)V" } : Jvm.MethodName) prog_1_method_4_code (3 : Nat) (Option.none : Option Jvm.ClassFile.FieldType)) ∈ lw_all := lw_g (lw_at lw_m1 42 rfl) rfl
theorem q74 : (Jvm.Cond.instanceMethod ({ cls := "LayoutWidths", name := "clear", desc := "()I" } : Jvm.MethodName)) ∈ lw_all := lw_g (lw_at lw_m1 44 rfl) rfl
theorem q75 : (Jvm.Cond.selects "LayoutWidths" ({ cls := "LayoutWidths", name := "clear", desc := "()I" } : Jvm.MethodName) ({ cls := "LayoutWidths", name := "clear", desc := "()I" } : Jvm.MethodName)) ∈ lw_all := lw_g (lw_at lw_m1 45 rfl) rfl
theorem q76 : (Jvm.Cond.code ({ cls := "LayoutWidths", name := "clear", desc := "()I" } : Jvm.MethodName) prog_1_method_6_code (3 : Nat) (Option.some Jvm.ClassFile.FieldType.int)) ∈ lw_all := lw_g (lw_at lw_m1 46 rfl) rfl
theorem q77 : (Jvm.Cond.methodLink "LayoutWidths" (36 : Nat) ({ cls := "LayoutWidths", name := "lines", desc := "()I" } : Jvm.MethodName)) ∈ lw_all := lw_g (lw_at lw_m1 47 rfl) rfl
theorem q78 : (Jvm.Cond.instanceMethod ({ cls := "LayoutWidths", name := "lines", desc := "()I" } : Jvm.MethodName)) ∈ lw_all := lw_g (lw_at lw_m1 48 rfl) rfl
theorem q79 : (Jvm.Cond.selects "LayoutWidths" ({ cls := "LayoutWidths", name := "lines", desc := "()I" } : Jvm.MethodName) ({ cls := "LayoutWidths", name := "lines", desc := "()I" } : Jvm.MethodName)) ∈ lw_all := lw_g (lw_at lw_m1 49 rfl) rfl
theorem q80 : (Jvm.Cond.code ({ cls := "LayoutWidths", name := "lines", desc := "()I" } : Jvm.MethodName) prog_1_method_7_code (4 : Nat) (Option.some Jvm.ClassFile.FieldType.int)) ∈ lw_all := lw_g (lw_at lw_m1 50 rfl) rfl
theorem q81 : (Jvm.Cond.methodLink "LayoutWidths" (40 : Nat) ({ cls := "LayoutWidths", name := "sizeOf", desc := "(I)I" } : Jvm.MethodName)) ∈ lw_all := lw_g (lw_at lw_m1 51 rfl) rfl
theorem q82 : (Jvm.Cond.privateMethod ({ cls := "LayoutWidths", name := "sizeOf", desc := "(I)I" } : Jvm.MethodName)) ∈ lw_tbl := lw_at lw_m1 52 rfl
theorem q83 : (Jvm.Cond.instanceMethod ({ cls := "LayoutWidths", name := "sizeOf", desc := "(I)I" } : Jvm.MethodName)) ∈ lw_all := lw_g (lw_at lw_m1 53 rfl) rfl
theorem q84 : (Jvm.Cond.code ({ cls := "LayoutWidths", name := "sizeOf", desc := "(I)I" } : Jvm.MethodName) prog_1_method_3_code (4 : Nat) (Option.some Jvm.ClassFile.FieldType.int)) ∈ lw_all := lw_g (lw_at lw_m1 54 rfl) rfl
theorem q87 : (Jvm.Cond.instanceMethod ({ cls := "LayoutWidths", name := "cutWidth", desc := "()I" } : Jvm.MethodName)) ∈ lw_all := lw_g (lw_at lw_m1 57 rfl) rfl
theorem q88 : (Jvm.Cond.selects "LayoutWidths" ({ cls := "LayoutWidths", name := "cutWidth", desc := "()I" } : Jvm.MethodName) ({ cls := "LayoutWidths", name := "cutWidth", desc := "()I" } : Jvm.MethodName)) ∈ lw_all := lw_g (lw_at lw_m1 58 rfl) rfl
theorem q89 : (Jvm.Cond.code ({ cls := "LayoutWidths", name := "cutWidth", desc := "()I" } : Jvm.MethodName) prog_1_method_19_code (1 : Nat) (Option.some Jvm.ClassFile.FieldType.int)) ∈ lw_all := lw_g (lw_at lw_m1 59 rfl) rfl
theorem q90 : (Jvm.Cond.methodLink "LayoutWidths" (71 : Nat) ({ cls := "LayoutWidths", name := "leastOf", desc := "(I)I" } : Jvm.MethodName)) ∈ lw_all := lw_g (lw_at lw_m1 60 rfl) rfl
theorem q91 : (Jvm.Cond.privateMethod ({ cls := "LayoutWidths", name := "leastOf", desc := "(I)I" } : Jvm.MethodName)) ∈ lw_tbl := lw_at lw_m1 61 rfl
theorem q92 : (Jvm.Cond.instanceMethod ({ cls := "LayoutWidths", name := "leastOf", desc := "(I)I" } : Jvm.MethodName)) ∈ lw_all := lw_g (lw_at lw_m1 62 rfl) rfl
theorem q93 : (Jvm.Cond.code ({ cls := "LayoutWidths", name := "leastOf", desc := "(I)I" } : Jvm.MethodName) prog_1_method_16_code (2 : Nat) (Option.some Jvm.ClassFile.FieldType.int)) ∈ lw_all := lw_g (lw_at lw_m1 63 rfl) rfl
theorem q94 : (Jvm.Cond.methodLink "LayoutWidths" (64 : Nat) ({ cls := "LayoutWidths", name := "fillCost", desc := "(I)V" } : Jvm.MethodName)) ∈ lw_all := lw_g (lw_at lw_m1 64 rfl) rfl
theorem q95 : (Jvm.Cond.privateMethod ({ cls := "LayoutWidths", name := "fillCost", desc := "(I)V" } : Jvm.MethodName)) ∈ lw_tbl := lw_at lw_m1 65 rfl
theorem q96 : (Jvm.Cond.instanceMethod ({ cls := "LayoutWidths", name := "fillCost", desc := "(I)V" } : Jvm.MethodName)) ∈ lw_all := lw_g (lw_at lw_m1 66 rfl) rfl
theorem q97 : (Jvm.Cond.code ({ cls := "LayoutWidths", name := "fillCost", desc := "(I)V" } : Jvm.MethodName) prog_1_method_14_code (7 : Nat) (Option.none : Option Jvm.ClassFile.FieldType)) ∈ lw_all := lw_g (lw_at lw_m1 67 rfl) rfl
theorem q98 : (Jvm.Cond.methodLink "LayoutWidths" (57 : Nat) ({ cls := "LayoutWidths", name := "price", desc := "(III)I" } : Jvm.MethodName)) ∈ lw_all := lw_g (lw_at lw_m1 68 rfl) rfl
theorem q99 : (Jvm.Cond.privateMethod ({ cls := "LayoutWidths", name := "price", desc := "(III)I" } : Jvm.MethodName)) ∈ lw_tbl := lw_at lw_m1 69 rfl
theorem q100 : (Jvm.Cond.instanceMethod ({ cls := "LayoutWidths", name := "price", desc := "(III)I" } : Jvm.MethodName)) ∈ lw_all := lw_g (lw_at lw_m1 70 rfl) rfl
theorem q101 : (Jvm.Cond.code ({ cls := "LayoutWidths", name := "price", desc := "(III)I" } : Jvm.MethodName) prog_1_method_12_code (6 : Nat) (Option.some Jvm.ClassFile.FieldType.int)) ∈ lw_all := lw_g (lw_at lw_m1 71 rfl) rfl
theorem q102 : (Jvm.Cond.methodLink "LayoutWidths" (48 : Nat) ({ cls := "LayoutWidths", name := "cutOf", desc := "(I)I" } : Jvm.MethodName)) ∈ lw_all := lw_g (lw_at lw_m1 72 rfl) rfl
theorem q103 : (Jvm.Cond.privateMethod ({ cls := "LayoutWidths", name := "cutOf", desc := "(I)I" } : Jvm.MethodName)) ∈ lw_tbl := lw_at lw_m1 73 rfl
theorem q104 : (Jvm.Cond.instanceMethod ({ cls := "LayoutWidths", name := "cutOf", desc := "(I)I" } : Jvm.MethodName)) ∈ lw_all := lw_g (lw_at lw_m1 74 rfl) rfl
theorem q105 : (Jvm.Cond.code ({ cls := "LayoutWidths", name := "cutOf", desc := "(I)I" } : Jvm.MethodName) prog_1_method_8_code (5 : Nat) (Option.some Jvm.ClassFile.FieldType.int)) ∈ lw_all := lw_g (lw_at lw_m1 75 rfl) rfl
theorem q106 : (Jvm.Cond.methodLink "LayoutWidths" (51 : Nat) ({ cls := "LayoutWidths", name := "separationOf", desc := "(I)I" } : Jvm.MethodName)) ∈ lw_all := lw_g (lw_at lw_m1 76 rfl) rfl
theorem q107 : (Jvm.Cond.privateMethod ({ cls := "LayoutWidths", name := "separationOf", desc := "(I)I" } : Jvm.MethodName)) ∈ lw_tbl := lw_at lw_m1 77 rfl
theorem q108 : (Jvm.Cond.instanceMethod ({ cls := "LayoutWidths", name := "separationOf", desc := "(I)I" } : Jvm.MethodName)) ∈ lw_all := lw_g (lw_at lw_m1 78 rfl) rfl
theorem q109 : (Jvm.Cond.code ({ cls := "LayoutWidths", name := "separationOf", desc := "(I)I" } : Jvm.MethodName) prog_1_method_9_code (4 : Nat) (Option.some Jvm.ClassFile.FieldType.int)) ∈ lw_all := lw_g (lw_at lw_m1 79 rfl) rfl
theorem q110 : (Jvm.Cond.methodLink "LayoutWidths" (44 : Nat) ({ cls := "LayoutWidths", name := "neighbours", desc := "(II)I" } : Jvm.MethodName)) ∈ lw_all := lw_g (lw_at lw_m1 80 rfl) rfl
theorem q111 : (Jvm.Cond.privateMethod ({ cls := "LayoutWidths", name := "neighbours", desc := "(II)I" } : Jvm.MethodName)) ∈ lw_tbl := lw_at lw_m1 81 rfl
theorem q112 : (Jvm.Cond.instanceMethod ({ cls := "LayoutWidths", name := "neighbours", desc := "(II)I" } : Jvm.MethodName)) ∈ lw_all := lw_g (lw_at lw_m1 82 rfl) rfl
theorem q113 : (Jvm.Cond.code ({ cls := "LayoutWidths", name := "neighbours", desc := "(II)I" } : Jvm.MethodName) prog_1_method_10_code (7 : Nat) (Option.some Jvm.ClassFile.FieldType.int)) ∈ lw_all := lw_g (lw_at lw_m1 83 rfl) rfl
theorem q114 : (Jvm.Cond.methodLink "LayoutWidths" (54 : Nat) ({ cls := "LayoutWidths", name := "missing", desc := "(II)I" } : Jvm.MethodName)) ∈ lw_all := lw_g (lw_at lw_m1 84 rfl) rfl
theorem q115 : (Jvm.Cond.privateMethod ({ cls := "LayoutWidths", name := "missing", desc := "(II)I" } : Jvm.MethodName)) ∈ lw_tbl := lw_at lw_m1 85 rfl
theorem q116 : (Jvm.Cond.instanceMethod ({ cls := "LayoutWidths", name := "missing", desc := "(II)I" } : Jvm.MethodName)) ∈ lw_all := lw_g (lw_at lw_m1 86 rfl) rfl
theorem q117 : (Jvm.Cond.code ({ cls := "LayoutWidths", name := "missing", desc := "(II)I" } : Jvm.MethodName) prog_1_method_11_code (8 : Nat) (Option.some Jvm.ClassFile.FieldType.int)) ∈ lw_all := lw_g (lw_at lw_m1 87 rfl) rfl
theorem q118 : (Jvm.Cond.methodLink "LayoutWidths" (61 : Nat) ({ cls := "LayoutWidths", name := "joined", desc := "(III)I" } : Jvm.MethodName)) ∈ lw_all := lw_g (lw_at lw_m1 88 rfl) rfl
theorem q119 : (Jvm.Cond.privateMethod ({ cls := "LayoutWidths", name := "joined", desc := "(III)I" } : Jvm.MethodName)) ∈ lw_tbl := lw_at lw_m1 89 rfl
theorem q120 : (Jvm.Cond.instanceMethod ({ cls := "LayoutWidths", name := "joined", desc := "(III)I" } : Jvm.MethodName)) ∈ lw_all := lw_g (lw_at lw_m1 90 rfl) rfl
theorem q121 : (Jvm.Cond.code ({ cls := "LayoutWidths", name := "joined", desc := "(III)I" } : Jvm.MethodName) prog_1_method_13_code (4 : Nat) (Option.some Jvm.ClassFile.FieldType.int)) ∈ lw_all := lw_g (lw_at lw_m1 91 rfl) rfl
theorem q123 : (Jvm.Cond.instanceMethod ({ cls := "LayoutWidths", name := "separation", desc := "()I" } : Jvm.MethodName)) ∈ lw_all := lw_g (lw_at lw_m1 93 rfl) rfl
theorem q124 : (Jvm.Cond.selects "LayoutWidths" ({ cls := "LayoutWidths", name := "separation", desc := "()I" } : Jvm.MethodName) ({ cls := "LayoutWidths", name := "separation", desc := "()I" } : Jvm.MethodName)) ∈ lw_all := lw_g (lw_at lw_m1 94 rfl) rfl
theorem q125 : (Jvm.Cond.code ({ cls := "LayoutWidths", name := "separation", desc := "()I" } : Jvm.MethodName) prog_1_method_20_code (1 : Nat) (Option.some Jvm.ClassFile.FieldType.int)) ∈ lw_all := lw_g (lw_at lw_m1 95 rfl) rfl
theorem q127 : (Jvm.Cond.instanceMethod ({ cls := "LayoutWidths", name := "stretch", desc := "()I" } : Jvm.MethodName)) ∈ lw_all := lw_g (lw_at lw_m1 97 rfl) rfl
theorem q128 : (Jvm.Cond.selects "LayoutWidths" ({ cls := "LayoutWidths", name := "stretch", desc := "()I" } : Jvm.MethodName) ({ cls := "LayoutWidths", name := "stretch", desc := "()I" } : Jvm.MethodName)) ∈ lw_all := lw_g (lw_at lw_m1 98 rfl) rfl
theorem q129 : (Jvm.Cond.code ({ cls := "LayoutWidths", name := "stretch", desc := "()I" } : Jvm.MethodName) prog_1_method_23_code (3 : Nat) (Option.some Jvm.ClassFile.FieldType.int)) ∈ lw_all := lw_g (lw_at lw_m1 99 rfl) rfl
theorem q130 : (Jvm.Cond.methodLink "LayoutWidths" (78 : Nat) ({ cls := "LayoutWidths", name := "fits", desc := "(I)Z" } : Jvm.MethodName)) ∈ lw_all := lw_g (lw_at lw_m1 100 rfl) rfl
theorem q131 : (Jvm.Cond.privateMethod ({ cls := "LayoutWidths", name := "fits", desc := "(I)Z" } : Jvm.MethodName)) ∈ lw_tbl := lw_at lw_m1 101 rfl
theorem q132 : (Jvm.Cond.instanceMethod ({ cls := "LayoutWidths", name := "fits", desc := "(I)Z" } : Jvm.MethodName)) ∈ lw_all := lw_g (lw_at lw_m1 102 rfl) rfl
theorem q133 : (Jvm.Cond.code ({ cls := "LayoutWidths", name := "fits", desc := "(I)Z" } : Jvm.MethodName) prog_1_method_22_code (6 : Nat) (Option.some Jvm.ClassFile.FieldType.boolean)) ∈ lw_all := lw_g (lw_at lw_m1 103 rfl) rfl
theorem q134 : (Jvm.Cond.methodLink "LayoutWidths" (74 : Nat) ({ cls := "LayoutWidths", name := "reaches", desc := "(III)Z" } : Jvm.MethodName)) ∈ lw_all := lw_g (lw_at lw_m1 104 rfl) rfl
theorem q135 : (Jvm.Cond.privateMethod ({ cls := "LayoutWidths", name := "reaches", desc := "(III)Z" } : Jvm.MethodName)) ∈ lw_tbl := lw_at lw_m1 105 rfl
theorem q136 : (Jvm.Cond.instanceMethod ({ cls := "LayoutWidths", name := "reaches", desc := "(III)Z" } : Jvm.MethodName)) ∈ lw_all := lw_g (lw_at lw_m1 106 rfl) rfl
theorem q137 : (Jvm.Cond.code ({ cls := "LayoutWidths", name := "reaches", desc := "(III)Z" } : Jvm.MethodName) prog_1_method_21_code (5 : Nat) (Option.some Jvm.ClassFile.FieldType.boolean)) ∈ lw_all := lw_g (lw_at lw_m1 107 rfl) rfl
theorem q139 : (Jvm.Cond.instanceMethod ({ cls := "LayoutWidths", name := "length", desc := "()I" } : Jvm.MethodName)) ∈ lw_all := lw_g (lw_at lw_m1 109 rfl) rfl
theorem q140 : (Jvm.Cond.selects "LayoutWidths" ({ cls := "LayoutWidths", name := "length", desc := "()I" } : Jvm.MethodName) ({ cls := "LayoutWidths", name := "length", desc := "()I" } : Jvm.MethodName)) ∈ lw_all := lw_g (lw_at lw_m1 110 rfl) rfl
theorem q141 : (Jvm.Cond.code ({ cls := "LayoutWidths", name := "length", desc := "()I" } : Jvm.MethodName) prog_1_method_24_code (1 : Nat) (Option.some Jvm.ClassFile.FieldType.int)) ∈ lw_all := lw_g (lw_at lw_m1 111 rfl) rfl
theorem q143 : (Jvm.Cond.instanceMethod ({ cls := "LayoutWidths", name := "width", desc := "()I" } : Jvm.MethodName)) ∈ lw_all := lw_g (lw_at lw_m1 113 rfl) rfl
theorem q144 : (Jvm.Cond.selects "LayoutWidths" ({ cls := "LayoutWidths", name := "width", desc := "()I" } : Jvm.MethodName) ({ cls := "LayoutWidths", name := "width", desc := "()I" } : Jvm.MethodName)) ∈ lw_all := lw_g (lw_at lw_m1 114 rfl) rfl
theorem q145 : (Jvm.Cond.code ({ cls := "LayoutWidths", name := "width", desc := "()I" } : Jvm.MethodName) prog_1_method_25_code (1 : Nat) (Option.some Jvm.ClassFile.FieldType.int)) ∈ lw_all := lw_g (lw_at lw_m1 115 rfl) rfl
theorem q147 : (Jvm.Cond.instanceMethod ({ cls := "LayoutWidths", name := "fill", desc := "()I" } : Jvm.MethodName)) ∈ lw_all := lw_g (lw_at lw_m1 117 rfl) rfl
theorem q148 : (Jvm.Cond.selects "LayoutWidths" ({ cls := "LayoutWidths", name := "fill", desc := "()I" } : Jvm.MethodName) ({ cls := "LayoutWidths", name := "fill", desc := "()I" } : Jvm.MethodName)) ∈ lw_all := lw_g (lw_at lw_m1 118 rfl) rfl
theorem q149 : (Jvm.Cond.code ({ cls := "LayoutWidths", name := "fill", desc := "()I" } : Jvm.MethodName) prog_1_method_26_code (1 : Nat) (Option.some Jvm.ClassFile.FieldType.int)) ∈ lw_all := lw_g (lw_at lw_m1 119 rfl) rfl
theorem q151 : (Jvm.Cond.instanceMethod ({ cls := "LayoutWidths", name := "cutOrders", desc := "()I" } : Jvm.MethodName)) ∈ lw_all := lw_g (lw_at lw_m1 121 rfl) rfl
theorem q152 : (Jvm.Cond.selects "LayoutWidths" ({ cls := "LayoutWidths", name := "cutOrders", desc := "()I" } : Jvm.MethodName) ({ cls := "LayoutWidths", name := "cutOrders", desc := "()I" } : Jvm.MethodName)) ∈ lw_all := lw_g (lw_at lw_m1 122 rfl) rfl
theorem q153 : (Jvm.Cond.code ({ cls := "LayoutWidths", name := "cutOrders", desc := "()I" } : Jvm.MethodName) prog_1_method_27_code (1 : Nat) (Option.some Jvm.ClassFile.FieldType.int)) ∈ lw_all := lw_g (lw_at lw_m1 123 rfl) rfl
theorem q154 : (Jvm.Cond.methodLink "LayoutWidths" (81 : Nat) ({ cls := "LayoutWidths", name := "ordersOf", desc := "(I)I" } : Jvm.MethodName)) ∈ lw_all := lw_g (lw_at lw_m1 124 rfl) rfl
theorem q155 : (Jvm.Cond.privateMethod ({ cls := "LayoutWidths", name := "ordersOf", desc := "(I)I" } : Jvm.MethodName)) ∈ lw_tbl := lw_at lw_m1 125 rfl
theorem q156 : (Jvm.Cond.instanceMethod ({ cls := "LayoutWidths", name := "ordersOf", desc := "(I)I" } : Jvm.MethodName)) ∈ lw_all := lw_g (lw_at lw_m1 126 rfl) rfl
theorem q157 : (Jvm.Cond.code ({ cls := "LayoutWidths", name := "ordersOf", desc := "(I)I" } : Jvm.MethodName) prog_1_method_17_code (8 : Nat) (Option.some Jvm.ClassFile.FieldType.int)) ∈ lw_all := lw_g (lw_at lw_m1 127 rfl) rfl
theorem q159 : (Jvm.Cond.instanceMethod ({ cls := "LayoutWidths", name := "lengthOrders", desc := "()I" } : Jvm.MethodName)) ∈ lw_all := lw_g (lw_at lw_m1 129 rfl) rfl
theorem q160 : (Jvm.Cond.selects "LayoutWidths" ({ cls := "LayoutWidths", name := "lengthOrders", desc := "()I" } : Jvm.MethodName) ({ cls := "LayoutWidths", name := "lengthOrders", desc := "()I" } : Jvm.MethodName)) ∈ lw_all := lw_g (lw_at lw_m1 130 rfl) rfl
theorem q161 : (Jvm.Cond.code ({ cls := "LayoutWidths", name := "lengthOrders", desc := "()I" } : Jvm.MethodName) prog_1_method_28_code (1 : Nat) (Option.some Jvm.ClassFile.FieldType.int)) ∈ lw_all := lw_g (lw_at lw_m1 131 rfl) rfl
theorem q163 : (Jvm.Cond.instanceMethod ({ cls := "LayoutWidths", name := "fillOrders", desc := "()I" } : Jvm.MethodName)) ∈ lw_all := lw_g (lw_at lw_m1 133 rfl) rfl
theorem q164 : (Jvm.Cond.selects "LayoutWidths" ({ cls := "LayoutWidths", name := "fillOrders", desc := "()I" } : Jvm.MethodName) ({ cls := "LayoutWidths", name := "fillOrders", desc := "()I" } : Jvm.MethodName)) ∈ lw_all := lw_g (lw_at lw_m1 134 rfl) rfl
theorem q165 : (Jvm.Cond.code ({ cls := "LayoutWidths", name := "fillOrders", desc := "()I" } : Jvm.MethodName) prog_1_method_29_code (1 : Nat) (Option.some Jvm.ClassFile.FieldType.int)) ∈ lw_all := lw_g (lw_at lw_m1 135 rfl) rfl
theorem q167 : (Jvm.Cond.instanceMethod ({ cls := "LayoutWidths", name := "lengthOrder", desc := "(I)I" } : Jvm.MethodName)) ∈ lw_all := lw_g (lw_at lw_m1 137 rfl) rfl
theorem q168 : (Jvm.Cond.selects "LayoutWidths" ({ cls := "LayoutWidths", name := "lengthOrder", desc := "(I)I" } : Jvm.MethodName) ({ cls := "LayoutWidths", name := "lengthOrder", desc := "(I)I" } : Jvm.MethodName)) ∈ lw_all := lw_g (lw_at lw_m1 138 rfl) rfl
theorem q169 : (Jvm.Cond.code ({ cls := "LayoutWidths", name := "lengthOrder", desc := "(I)I" } : Jvm.MethodName) prog_1_method_30_code (2 : Nat) (Option.some Jvm.ClassFile.FieldType.int)) ∈ lw_all := lw_g (lw_at lw_m1 139 rfl) rfl
theorem q170 : (Jvm.Cond.methodLink "LayoutWidths" (84 : Nat) ({ cls := "LayoutWidths", name := "orderAt", desc := "(II)I" } : Jvm.MethodName)) ∈ lw_all := lw_g (lw_at lw_m1 140 rfl) rfl
theorem q171 : (Jvm.Cond.privateMethod ({ cls := "LayoutWidths", name := "orderAt", desc := "(II)I" } : Jvm.MethodName)) ∈ lw_tbl := lw_at lw_m1 141 rfl
theorem q172 : (Jvm.Cond.instanceMethod ({ cls := "LayoutWidths", name := "orderAt", desc := "(II)I" } : Jvm.MethodName)) ∈ lw_all := lw_g (lw_at lw_m1 142 rfl) rfl
theorem q173 : (Jvm.Cond.code ({ cls := "LayoutWidths", name := "orderAt", desc := "(II)I" } : Jvm.MethodName) prog_1_method_18_code (12 : Nat) (Option.some Jvm.ClassFile.FieldType.int)) ∈ lw_all := lw_g (lw_at lw_m1 143 rfl) rfl
theorem q174 : (Jvm.Cond.methodLink "LayoutWidths" (68 : Nat) ({ cls := "LayoutWidths", name := "fillAhead", desc := "(I)V" } : Jvm.MethodName)) ∈ lw_all := lw_g (lw_at lw_m1 144 rfl) rfl
theorem q175 : (Jvm.Cond.privateMethod ({ cls := "LayoutWidths", name := "fillAhead", desc := "(I)V" } : Jvm.MethodName)) ∈ lw_tbl := lw_at lw_m1 145 rfl
theorem q176 : (Jvm.Cond.instanceMethod ({ cls := "LayoutWidths", name := "fillAhead", desc := "(I)V" } : Jvm.MethodName)) ∈ lw_all := lw_g (lw_at lw_m1 146 rfl) rfl
theorem q177 : (Jvm.Cond.code ({ cls := "LayoutWidths", name := "fillAhead", desc := "(I)V" } : Jvm.MethodName) prog_1_method_15_code (6 : Nat) (Option.none : Option Jvm.ClassFile.FieldType)) ∈ lw_all := lw_g (lw_at lw_m1 147 rfl) rfl
theorem q179 : (Jvm.Cond.instanceMethod ({ cls := "LayoutWidths", name := "widthOrder", desc := "(I)I" } : Jvm.MethodName)) ∈ lw_all := lw_g (lw_at lw_m1 149 rfl) rfl
theorem q180 : (Jvm.Cond.selects "LayoutWidths" ({ cls := "LayoutWidths", name := "widthOrder", desc := "(I)I" } : Jvm.MethodName) ({ cls := "LayoutWidths", name := "widthOrder", desc := "(I)I" } : Jvm.MethodName)) ∈ lw_all := lw_g (lw_at lw_m1 150 rfl) rfl
theorem q181 : (Jvm.Cond.code ({ cls := "LayoutWidths", name := "widthOrder", desc := "(I)I" } : Jvm.MethodName) prog_1_method_31_code (2 : Nat) (Option.some Jvm.ClassFile.FieldType.int)) ∈ lw_all := lw_g (lw_at lw_m1 151 rfl) rfl
theorem q183 : (Jvm.Cond.instanceMethod ({ cls := "LayoutWidths", name := "whole", desc := "()Z" } : Jvm.MethodName)) ∈ lw_all := lw_g (lw_at lw_m1 153 rfl) rfl
theorem q184 : (Jvm.Cond.selects "LayoutWidths" ({ cls := "LayoutWidths", name := "whole", desc := "()Z" } : Jvm.MethodName) ({ cls := "LayoutWidths", name := "whole", desc := "()Z" } : Jvm.MethodName)) ∈ lw_all := lw_g (lw_at lw_m1 154 rfl) rfl
theorem q185 : (Jvm.Cond.code ({ cls := "LayoutWidths", name := "whole", desc := "()Z" } : Jvm.MethodName) prog_1_method_32_code (1 : Nat) (Option.some Jvm.ClassFile.FieldType.boolean)) ∈ lw_all := lw_g (lw_at lw_m1 155 rfl) rfl
theorem q187 : (Jvm.Cond.instanceMethod ({ cls := "LayoutWidths", name := "growth", desc := "(II)I" } : Jvm.MethodName)) ∈ lw_all := lw_g (lw_at lw_m1 157 rfl) rfl
theorem q188 : (Jvm.Cond.selects "LayoutWidths" ({ cls := "LayoutWidths", name := "growth", desc := "(II)I" } : Jvm.MethodName) ({ cls := "LayoutWidths", name := "growth", desc := "(II)I" } : Jvm.MethodName)) ∈ lw_all := lw_g (lw_at lw_m1 158 rfl) rfl
theorem q189 : (Jvm.Cond.code ({ cls := "LayoutWidths", name := "growth", desc := "(II)I" } : Jvm.MethodName) prog_1_method_33_code (5 : Nat) (Option.some Jvm.ClassFile.FieldType.int)) ∈ lw_all := lw_g (lw_at lw_m1 159 rfl) rfl
theorem q191 : (Jvm.Cond.instanceMethod ({ cls := "LayoutWidths", name := "clique", desc := "()I" } : Jvm.MethodName)) ∈ lw_all := lw_g (lw_at lw_m1 161 rfl) rfl
theorem q192 : (Jvm.Cond.selects "LayoutWidths" ({ cls := "LayoutWidths", name := "clique", desc := "()I" } : Jvm.MethodName) ({ cls := "LayoutWidths", name := "clique", desc := "()I" } : Jvm.MethodName)) ∈ lw_all := lw_g (lw_at lw_m1 162 rfl) rfl
theorem q193 : (Jvm.Cond.code ({ cls := "LayoutWidths", name := "clique", desc := "()I" } : Jvm.MethodName) prog_1_method_34_code (6 : Nat) (Option.some Jvm.ClassFile.FieldType.int)) ∈ lw_all := lw_g (lw_at lw_m1 163 rfl) rfl
theorem in_X0 : ∀ w ∈ wsX00, w ∈ lw_all := lw_in wsX00 [47, 49, 51, 53, 55, 57] (by decide +kernel) (by decide +kernel)

/-! LayoutWidthsModel -/
def RX1 : String := "LayoutWidthsModel"
def TX1 : u_T := fun k => match k with
  | 0 => ("LayoutWidthsModel", "near", "[I", true)
  | 1 => ("LayoutWidthsModel", "left", "[I", true)
  | 2 => ("LayoutWidthsModel", "row", "[I", true)
  | 3 => ("LayoutWidthsModel", "numbers", "[I", true)
  | 4 => ("LayoutWidthsModel", "leasts", "[I", true)
  | 5 => ("LayoutWidthsModel", "counts", "[I", true)
  | 6 => ("LayoutWidthsModel", "firsts", "[I", true)
  | _ => ("LayoutWidthsModel", "known", "Z", false)
def tyX1 : Nat → FieldType := fun k => match k with
  | 0 => .array .int
  | 1 => .array .int
  | 2 => .array .int
  | 3 => .array .int
  | 4 => .array .int
  | 5 => .array .int
  | 6 => .array .int
  | _ => .boolean
abbrev wsX10 : List Cond := u_ws RX1 TX1 8
theorem nmX1 : ∀ a, a < 8 → ∀ b, b < 8 → a ≠ b → (TX1 a).2.1 ≠ (TX1 b).2.1 := by decide +kernel
theorem tyX1_ok : ∀ k, k < 8 → parseFieldDescriptor (TX1 k).2.2.1 = some (tyX1 k) := by decide +kernel
abbrev cX1_init : ByteArray := prog_3_method_1_code
def yX1_init : MethodName := ⟨RX1, "<init>", "()V"⟩
abbrev cX1_line : ByteArray := prog_3_method_5_code
def yX1_line : MethodName := ⟨RX1, "line", "(II)I"⟩
abbrev cX1_isPair : ByteArray := prog_3_method_2_code
def yX1_isPair : MethodName := ⟨RX1, "isPair", "(II)Z"⟩
abbrev cX1_exchange : ByteArray := prog_3_method_4_code
def yX1_exchange : MethodName := ⟨RX1, "exchange", "(II)V"⟩
abbrev cX1_clear : ByteArray := prog_3_method_6_code
def yX1_clear : MethodName := ⟨RX1, "clear", "()I"⟩
abbrev cX1_lines : ByteArray := prog_3_method_7_code
def yX1_lines : MethodName := ⟨RX1, "lines", "()I"⟩
abbrev cX1_bits : ByteArray := prog_3_method_3_code
def yX1_bits : MethodName := ⟨RX1, "bits", "(I)I"⟩
abbrev cX1_cutWidth : ByteArray := prog_3_method_18_code
def yX1_cutWidth : MethodName := ⟨RX1, "cutWidth", "()I"⟩
abbrev cX1_least : ByteArray := prog_3_method_14_code
def yX1_least : MethodName := ⟨RX1, "least", "(I)I"⟩
abbrev cX1_goOver : ByteArray := prog_3_method_13_code
def yX1_goOver : MethodName := ⟨RX1, "goOver", "()V"⟩
abbrev cX1_setOrder : ByteArray := prog_3_method_9_code
def yX1_setOrder : MethodName := ⟨RX1, "setOrder", "(I)V"⟩
abbrev cX1_nth : ByteArray := prog_3_method_8_code
def yX1_nth : MethodName := ⟨RX1, "nth", "(II)I"⟩
abbrev cX1_lay : ByteArray := prog_3_method_10_code
def yX1_lay : MethodName := ⟨RX1, "lay", "()V"⟩
abbrev cX1_takeApart : ByteArray := prog_3_method_12_code
def yX1_takeApart : MethodName := ⟨RX1, "takeApart", "()V"⟩
abbrev cX1_joinNeighbours : ByteArray := prog_3_method_11_code
def yX1_joinNeighbours : MethodName := ⟨RX1, "joinNeighbours", "(I)I"⟩
abbrev cX1_separation : ByteArray := prog_3_method_19_code
def yX1_separation : MethodName := ⟨RX1, "separation", "()I"⟩
abbrev cX1_stretch : ByteArray := prog_3_method_20_code
def yX1_stretch : MethodName := ⟨RX1, "stretch", "()I"⟩
abbrev cX1_length : ByteArray := prog_3_method_21_code
def yX1_length : MethodName := ⟨RX1, "length", "()I"⟩
abbrev cX1_width : ByteArray := prog_3_method_22_code
def yX1_width : MethodName := ⟨RX1, "width", "()I"⟩
abbrev cX1_fill : ByteArray := prog_3_method_23_code
def yX1_fill : MethodName := ⟨RX1, "fill", "()I"⟩
abbrev cX1_cutOrders : ByteArray := prog_3_method_24_code
def yX1_cutOrders : MethodName := ⟨RX1, "cutOrders", "()I"⟩
abbrev cX1_countLeast : ByteArray := prog_3_method_15_code
def yX1_countLeast : MethodName := ⟨RX1, "countLeast", "(I)I"⟩
abbrev cX1_lengthOrders : ByteArray := prog_3_method_25_code
def yX1_lengthOrders : MethodName := ⟨RX1, "lengthOrders", "()I"⟩
abbrev cX1_fillOrders : ByteArray := prog_3_method_26_code
def yX1_fillOrders : MethodName := ⟨RX1, "fillOrders", "()I"⟩
abbrev cX1_lengthOrder : ByteArray := prog_3_method_27_code
def yX1_lengthOrder : MethodName := ⟨RX1, "lengthOrder", "(I)I"⟩
abbrev cX1_firstLeast : ByteArray := prog_3_method_16_code
def yX1_firstLeast : MethodName := ⟨RX1, "firstLeast", "(II)I"⟩
abbrev cX1_widthOrder : ByteArray := prog_3_method_28_code
def yX1_widthOrder : MethodName := ⟨RX1, "widthOrder", "(I)I"⟩
abbrev cX1_whole : ByteArray := prog_3_method_29_code
def yX1_whole : MethodName := ⟨RX1, "whole", "()Z"⟩
abbrev cX1_growth : ByteArray := prog_3_method_30_code
def yX1_growth : MethodName := ⟨RX1, "growth", "(II)I"⟩
abbrev cX1_widthNow : ByteArray := prog_3_method_17_code
def yX1_widthNow : MethodName := ⟨RX1, "widthNow", "()I"⟩
abbrev cX1_clique : ByteArray := prog_3_method_32_code
def yX1_clique : MethodName := ⟨RX1, "clique", "()I"⟩
abbrev cX1_isClique : ByteArray := prog_3_method_31_code
def yX1_isClique : MethodName := ⟨RX1, "isClique", "(I)Z"⟩
theorem q32 : (Jvm.Cond.initialized "LayoutWidthsModel") ∈ lw_all := lw_g (lw_at lw_m1 2 rfl) rfl
theorem q195 : (Jvm.Cond.instantiable "LayoutWidthsModel" (8 : Nat)) ∈ lw_all := lw_g (lw_at lw_m1 165 rfl) rfl
theorem q197 : (Jvm.Cond.instanceMethod ({ cls := "LayoutWidthsModel", name := "<init>", desc := "()V" } : Jvm.MethodName)) ∈ lw_all := lw_g (lw_at lw_m1 167 rfl) rfl
theorem q198 : (Jvm.Cond.code ({ cls := "LayoutWidthsModel", name := "<init>", desc := "()V" } : Jvm.MethodName) prog_3_method_1_code (1 : Nat) (Option.none : Option Jvm.ClassFile.FieldType)) ∈ lw_all := lw_g (lw_at lw_m1 168 rfl) rfl
theorem q199 : (Jvm.Cond.methodLink "LayoutWidthsModel" (1 : Nat) ({ cls := "java/lang/Object", name := "<init>", desc := "()V" } : Jvm.MethodName)) ∈ lw_all := lw_g (lw_at lw_m1 169 rfl) rfl
theorem q200 : (Jvm.Cond.fieldLink "LayoutWidthsModel" (7 : Nat) "LayoutWidthsModel" "near" "[I") ∈ lw_all := lw_g (lw_at lw_m1 170 rfl) rfl
theorem q201 : (Jvm.Cond.fieldLink "LayoutWidthsModel" (13 : Nat) "LayoutWidthsModel" "left" "[I") ∈ lw_all := lw_g (lw_at lw_m1 171 rfl) rfl
theorem q202 : (Jvm.Cond.fieldLink "LayoutWidthsModel" (16 : Nat) "LayoutWidthsModel" "row" "[I") ∈ lw_all := lw_g (lw_at lw_m1 172 rfl) rfl
theorem q203 : (Jvm.Cond.fieldLink "LayoutWidthsModel" (19 : Nat) "LayoutWidthsModel" "numbers" "[I") ∈ lw_all := lw_g (lw_at lw_m1 173 rfl) rfl
theorem q204 : (Jvm.Cond.fieldLink "LayoutWidthsModel" (22 : Nat) "LayoutWidthsModel" "leasts" "[I") ∈ lw_all := lw_g (lw_at lw_m1 174 rfl) rfl
theorem q205 : (Jvm.Cond.fieldLink "LayoutWidthsModel" (25 : Nat) "LayoutWidthsModel" "counts" "[I") ∈ lw_all := lw_g (lw_at lw_m1 175 rfl) rfl
theorem q206 : (Jvm.Cond.fieldLink "LayoutWidthsModel" (28 : Nat) "LayoutWidthsModel" "firsts" "[I") ∈ lw_all := lw_g (lw_at lw_m1 176 rfl) rfl
theorem q207 : (Jvm.Cond.fieldLink "LayoutWidthsModel" (39 : Nat) "LayoutWidthsModel" "known" "Z") ∈ lw_all := lw_g (lw_at lw_m1 177 rfl) rfl
theorem q208 : (Jvm.Cond.laysFinal "LayoutWidthsModel" "LayoutWidthsModel" "near" "[I") ∈ lw_all := lw_g (lw_at lw_m1 178 rfl) rfl
theorem q209 : (Jvm.Cond.soleField "LayoutWidthsModel" "near") ∈ lw_all := lw_g (lw_at lw_m1 179 rfl) rfl
theorem q210 : (Jvm.Cond.laysFinal "LayoutWidthsModel" "LayoutWidthsModel" "left" "[I") ∈ lw_all := lw_g (lw_at lw_m1 180 rfl) rfl
theorem q211 : (Jvm.Cond.soleField "LayoutWidthsModel" "left") ∈ lw_all := lw_g (lw_at lw_m1 181 rfl) rfl
theorem q212 : (Jvm.Cond.laysFinal "LayoutWidthsModel" "LayoutWidthsModel" "row" "[I") ∈ lw_all := lw_g (lw_at lw_m1 182 rfl) rfl
theorem q213 : (Jvm.Cond.soleField "LayoutWidthsModel" "row") ∈ lw_all := lw_g (lw_at lw_m1 183 rfl) rfl
theorem q214 : (Jvm.Cond.laysFinal "LayoutWidthsModel" "LayoutWidthsModel" "numbers" "[I") ∈ lw_all := lw_g (lw_at lw_m1 184 rfl) rfl
theorem q215 : (Jvm.Cond.soleField "LayoutWidthsModel" "numbers") ∈ lw_all := lw_g (lw_at lw_m1 185 rfl) rfl
theorem q216 : (Jvm.Cond.laysFinal "LayoutWidthsModel" "LayoutWidthsModel" "leasts" "[I") ∈ lw_all := lw_g (lw_at lw_m1 186 rfl) rfl
theorem q217 : (Jvm.Cond.soleField "LayoutWidthsModel" "leasts") ∈ lw_all := lw_g (lw_at lw_m1 187 rfl) rfl
theorem q218 : (Jvm.Cond.laysFinal "LayoutWidthsModel" "LayoutWidthsModel" "counts" "[I") ∈ lw_all := lw_g (lw_at lw_m1 188 rfl) rfl
theorem q219 : (Jvm.Cond.soleField "LayoutWidthsModel" "counts") ∈ lw_all := lw_g (lw_at lw_m1 189 rfl) rfl
theorem q220 : (Jvm.Cond.laysFinal "LayoutWidthsModel" "LayoutWidthsModel" "firsts" "[I") ∈ lw_all := lw_g (lw_at lw_m1 190 rfl) rfl
theorem q221 : (Jvm.Cond.soleField "LayoutWidthsModel" "firsts") ∈ lw_all := lw_g (lw_at lw_m1 191 rfl) rfl
theorem q222 : (Jvm.Cond.lays "LayoutWidthsModel" "LayoutWidthsModel" "known" "Z") ∈ lw_all := lw_g (lw_at lw_m1 192 rfl) rfl
theorem q223 : (Jvm.Cond.soleField "LayoutWidthsModel" "known") ∈ lw_all := lw_g (lw_at lw_m1 193 rfl) rfl
theorem q224 : (Jvm.Cond.superclass "LayoutWidthsModel" "java/lang/Object") ∈ lw_all := lw_g (lw_at lw_m1 194 rfl) rfl
theorem q226 : (Jvm.Cond.instanceMethod ({ cls := "LayoutWidthsModel", name := "line", desc := "(II)I" } : Jvm.MethodName)) ∈ lw_all := lw_g (lw_at lw_m1 196 rfl) rfl
theorem q227 : (Jvm.Cond.selects "LayoutWidthsModel" ({ cls := "LayoutWidthsModel", name := "line", desc := "(II)I" } : Jvm.MethodName) ({ cls := "LayoutWidthsModel", name := "line", desc := "(II)I" } : Jvm.MethodName)) ∈ lw_all := lw_g (lw_at lw_m1 197 rfl) rfl
theorem q228 : (Jvm.Cond.code ({ cls := "LayoutWidthsModel", name := "line", desc := "(II)I" } : Jvm.MethodName) prog_3_method_5_code (3 : Nat) (Option.some Jvm.ClassFile.FieldType.int)) ∈ lw_all := lw_g (lw_at lw_m1 198 rfl) rfl
theorem q229 : (Jvm.Cond.methodLink "LayoutWidthsModel" (31 : Nat) ({ cls := "LayoutWidthsModel", name := "isPair", desc := "(II)Z" } : Jvm.MethodName)) ∈ lw_all := lw_g (lw_at lw_m1 199 rfl) rfl
theorem q230 : (Jvm.Cond.privateMethod ({ cls := "LayoutWidthsModel", name := "isPair", desc := "(II)Z" } : Jvm.MethodName)) ∈ lw_tbl := lw_at lw_m1 200 rfl
theorem q231 : (Jvm.Cond.instanceMethod ({ cls := "LayoutWidthsModel", name := "isPair", desc := "(II)Z" } : Jvm.MethodName)) ∈ lw_all := lw_g (lw_at lw_m1 201 rfl) rfl
theorem q232 : (Jvm.Cond.code ({ cls := "LayoutWidthsModel", name := "isPair", desc := "(II)Z" } : Jvm.MethodName) prog_3_method_2_code (3 : Nat) (Option.some Jvm.ClassFile.FieldType.boolean)) ∈ lw_all := lw_g (lw_at lw_m1 202 rfl) rfl
theorem q233 : (Jvm.Cond.methodLink "LayoutWidthsModel" (35 : Nat) ({ cls := "LayoutWidthsModel", name := "exchange", desc := "(II)V" } : Jvm.MethodName)) ∈ lw_all := lw_g (lw_at lw_m1 203 rfl) rfl
theorem q234 : (Jvm.Cond.privateMethod ({ cls := "LayoutWidthsModel", name := "exchange", desc := "(II)V" } : Jvm.MethodName)) ∈ lw_tbl := lw_at lw_m1 204 rfl
theorem q235 : (Jvm.Cond.instanceMethod ({ cls := "LayoutWidthsModel", name := "exchange", desc := "(II)V" } : Jvm.MethodName)) ∈ lw_all := lw_g (lw_at lw_m1 205 rfl) rfl
theorem q236 : (Jvm.Cond.code ({ cls := "LayoutWidthsModel", name := "exchange", desc := "(II)V" } : Jvm.MethodName) prog_3_method_4_code (3 : Nat) (Option.none : Option Jvm.ClassFile.FieldType)) ∈ lw_all := lw_g (lw_at lw_m1 206 rfl) rfl
theorem q238 : (Jvm.Cond.instanceMethod ({ cls := "LayoutWidthsModel", name := "clear", desc := "()I" } : Jvm.MethodName)) ∈ lw_all := lw_g (lw_at lw_m1 208 rfl) rfl
theorem q239 : (Jvm.Cond.selects "LayoutWidthsModel" ({ cls := "LayoutWidthsModel", name := "clear", desc := "()I" } : Jvm.MethodName) ({ cls := "LayoutWidthsModel", name := "clear", desc := "()I" } : Jvm.MethodName)) ∈ lw_all := lw_g (lw_at lw_m1 209 rfl) rfl
theorem q240 : (Jvm.Cond.code ({ cls := "LayoutWidthsModel", name := "clear", desc := "()I" } : Jvm.MethodName) prog_3_method_6_code (3 : Nat) (Option.some Jvm.ClassFile.FieldType.int)) ∈ lw_all := lw_g (lw_at lw_m1 210 rfl) rfl
theorem q241 : (Jvm.Cond.methodLink "LayoutWidthsModel" (43 : Nat) ({ cls := "LayoutWidthsModel", name := "lines", desc := "()I" } : Jvm.MethodName)) ∈ lw_all := lw_g (lw_at lw_m1 211 rfl) rfl
theorem q242 : (Jvm.Cond.instanceMethod ({ cls := "LayoutWidthsModel", name := "lines", desc := "()I" } : Jvm.MethodName)) ∈ lw_all := lw_g (lw_at lw_m1 212 rfl) rfl
theorem q243 : (Jvm.Cond.selects "LayoutWidthsModel" ({ cls := "LayoutWidthsModel", name := "lines", desc := "()I" } : Jvm.MethodName) ({ cls := "LayoutWidthsModel", name := "lines", desc := "()I" } : Jvm.MethodName)) ∈ lw_all := lw_g (lw_at lw_m1 213 rfl) rfl
theorem q244 : (Jvm.Cond.code ({ cls := "LayoutWidthsModel", name := "lines", desc := "()I" } : Jvm.MethodName) prog_3_method_7_code (3 : Nat) (Option.some Jvm.ClassFile.FieldType.int)) ∈ lw_all := lw_g (lw_at lw_m1 214 rfl) rfl
theorem q245 : (Jvm.Cond.methodLink "LayoutWidthsModel" (47 : Nat) ({ cls := "LayoutWidthsModel", name := "bits", desc := "(I)I" } : Jvm.MethodName)) ∈ lw_all := lw_g (lw_at lw_m1 215 rfl) rfl
theorem q246 : (Jvm.Cond.privateMethod ({ cls := "LayoutWidthsModel", name := "bits", desc := "(I)I" } : Jvm.MethodName)) ∈ lw_tbl := lw_at lw_m1 216 rfl
theorem q247 : (Jvm.Cond.instanceMethod ({ cls := "LayoutWidthsModel", name := "bits", desc := "(I)I" } : Jvm.MethodName)) ∈ lw_all := lw_g (lw_at lw_m1 217 rfl) rfl
theorem q248 : (Jvm.Cond.code ({ cls := "LayoutWidthsModel", name := "bits", desc := "(I)I" } : Jvm.MethodName) prog_3_method_3_code (4 : Nat) (Option.some Jvm.ClassFile.FieldType.int)) ∈ lw_all := lw_g (lw_at lw_m1 218 rfl) rfl
theorem q251 : (Jvm.Cond.instanceMethod ({ cls := "LayoutWidthsModel", name := "cutWidth", desc := "()I" } : Jvm.MethodName)) ∈ lw_all := lw_g (lw_at lw_m1 221 rfl) rfl
theorem q252 : (Jvm.Cond.selects "LayoutWidthsModel" ({ cls := "LayoutWidthsModel", name := "cutWidth", desc := "()I" } : Jvm.MethodName) ({ cls := "LayoutWidthsModel", name := "cutWidth", desc := "()I" } : Jvm.MethodName)) ∈ lw_all := lw_g (lw_at lw_m1 222 rfl) rfl
theorem q253 : (Jvm.Cond.code ({ cls := "LayoutWidthsModel", name := "cutWidth", desc := "()I" } : Jvm.MethodName) prog_3_method_18_code (1 : Nat) (Option.some Jvm.ClassFile.FieldType.int)) ∈ lw_all := lw_g (lw_at lw_m1 223 rfl) rfl
theorem q254 : (Jvm.Cond.methodLink "LayoutWidthsModel" (71 : Nat) ({ cls := "LayoutWidthsModel", name := "least", desc := "(I)I" } : Jvm.MethodName)) ∈ lw_all := lw_g (lw_at lw_m1 224 rfl) rfl
theorem q255 : (Jvm.Cond.privateMethod ({ cls := "LayoutWidthsModel", name := "least", desc := "(I)I" } : Jvm.MethodName)) ∈ lw_tbl := lw_at lw_m1 225 rfl
theorem q256 : (Jvm.Cond.instanceMethod ({ cls := "LayoutWidthsModel", name := "least", desc := "(I)I" } : Jvm.MethodName)) ∈ lw_all := lw_g (lw_at lw_m1 226 rfl) rfl
theorem q257 : (Jvm.Cond.code ({ cls := "LayoutWidthsModel", name := "least", desc := "(I)I" } : Jvm.MethodName) prog_3_method_14_code (2 : Nat) (Option.some Jvm.ClassFile.FieldType.int)) ∈ lw_all := lw_g (lw_at lw_m1 227 rfl) rfl
theorem q258 : (Jvm.Cond.methodLink "LayoutWidthsModel" (68 : Nat) ({ cls := "LayoutWidthsModel", name := "goOver", desc := "()V" } : Jvm.MethodName)) ∈ lw_all := lw_g (lw_at lw_m1 228 rfl) rfl
theorem q259 : (Jvm.Cond.privateMethod ({ cls := "LayoutWidthsModel", name := "goOver", desc := "()V" } : Jvm.MethodName)) ∈ lw_tbl := lw_at lw_m1 229 rfl
theorem q260 : (Jvm.Cond.instanceMethod ({ cls := "LayoutWidthsModel", name := "goOver", desc := "()V" } : Jvm.MethodName)) ∈ lw_all := lw_g (lw_at lw_m1 230 rfl) rfl
theorem q261 : (Jvm.Cond.code ({ cls := "LayoutWidthsModel", name := "goOver", desc := "()V" } : Jvm.MethodName) prog_3_method_13_code (3 : Nat) (Option.none : Option Jvm.ClassFile.FieldType)) ∈ lw_all := lw_g (lw_at lw_m1 231 rfl) rfl
theorem q262 : (Jvm.Cond.methodLink "LayoutWidthsModel" (58 : Nat) ({ cls := "LayoutWidthsModel", name := "setOrder", desc := "(I)V" } : Jvm.MethodName)) ∈ lw_all := lw_g (lw_at lw_m1 232 rfl) rfl
theorem q263 : (Jvm.Cond.privateMethod ({ cls := "LayoutWidthsModel", name := "setOrder", desc := "(I)V" } : Jvm.MethodName)) ∈ lw_tbl := lw_at lw_m1 233 rfl
theorem q264 : (Jvm.Cond.instanceMethod ({ cls := "LayoutWidthsModel", name := "setOrder", desc := "(I)V" } : Jvm.MethodName)) ∈ lw_all := lw_g (lw_at lw_m1 234 rfl) rfl
theorem q265 : (Jvm.Cond.code ({ cls := "LayoutWidthsModel", name := "setOrder", desc := "(I)V" } : Jvm.MethodName) prog_3_method_9_code (6 : Nat) (Option.none : Option Jvm.ClassFile.FieldType)) ∈ lw_all := lw_g (lw_at lw_m1 235 rfl) rfl
theorem q266 : (Jvm.Cond.methodLink "LayoutWidthsModel" (51 : Nat) ({ cls := "LayoutWidthsModel", name := "nth", desc := "(II)I" } : Jvm.MethodName)) ∈ lw_all := lw_g (lw_at lw_m1 236 rfl) rfl
theorem q267 : (Jvm.Cond.privateMethod ({ cls := "LayoutWidthsModel", name := "nth", desc := "(II)I" } : Jvm.MethodName)) ∈ lw_tbl := lw_at lw_m1 237 rfl
theorem q268 : (Jvm.Cond.instanceMethod ({ cls := "LayoutWidthsModel", name := "nth", desc := "(II)I" } : Jvm.MethodName)) ∈ lw_all := lw_g (lw_at lw_m1 238 rfl) rfl
theorem q269 : (Jvm.Cond.code ({ cls := "LayoutWidthsModel", name := "nth", desc := "(II)I" } : Jvm.MethodName) prog_3_method_8_code (5 : Nat) (Option.some Jvm.ClassFile.FieldType.int)) ∈ lw_all := lw_g (lw_at lw_m1 239 rfl) rfl
theorem q270 : (Jvm.Cond.methodLink "LayoutWidthsModel" (62 : Nat) ({ cls := "LayoutWidthsModel", name := "lay", desc := "()V" } : Jvm.MethodName)) ∈ lw_all := lw_g (lw_at lw_m2 0 rfl) rfl
theorem q271 : (Jvm.Cond.privateMethod ({ cls := "LayoutWidthsModel", name := "lay", desc := "()V" } : Jvm.MethodName)) ∈ lw_tbl := lw_at lw_m2 1 rfl
theorem q272 : (Jvm.Cond.instanceMethod ({ cls := "LayoutWidthsModel", name := "lay", desc := "()V" } : Jvm.MethodName)) ∈ lw_all := lw_g (lw_at lw_m2 2 rfl) rfl
theorem q273 : (Jvm.Cond.code ({ cls := "LayoutWidthsModel", name := "lay", desc := "()V" } : Jvm.MethodName) prog_3_method_10_code (8 : Nat) (Option.none : Option Jvm.ClassFile.FieldType)) ∈ lw_all := lw_g (lw_at lw_m2 3 rfl) rfl
theorem q274 : (Jvm.Cond.methodLink "LayoutWidthsModel" (65 : Nat) ({ cls := "LayoutWidthsModel", name := "takeApart", desc := "()V" } : Jvm.MethodName)) ∈ lw_all := lw_g (lw_at lw_m2 4 rfl) rfl
theorem q275 : (Jvm.Cond.privateMethod ({ cls := "LayoutWidthsModel", name := "takeApart", desc := "()V" } : Jvm.MethodName)) ∈ lw_tbl := lw_at lw_m2 5 rfl
theorem q276 : (Jvm.Cond.instanceMethod ({ cls := "LayoutWidthsModel", name := "takeApart", desc := "()V" } : Jvm.MethodName)) ∈ lw_all := lw_g (lw_at lw_m2 6 rfl) rfl
theorem q277 : (Jvm.Cond.code ({ cls := "LayoutWidthsModel", name := "takeApart", desc := "()V" } : Jvm.MethodName) prog_3_method_12_code (5 : Nat) (Option.none : Option Jvm.ClassFile.FieldType)) ∈ lw_all := lw_g (lw_at lw_m2 7 rfl) rfl
theorem q278 : (Jvm.Cond.methodLink "LayoutWidthsModel" (55 : Nat) ({ cls := "LayoutWidthsModel", name := "joinNeighbours", desc := "(I)I" } : Jvm.MethodName)) ∈ lw_all := lw_g (lw_at lw_m2 8 rfl) rfl
theorem q279 : (Jvm.Cond.privateMethod ({ cls := "LayoutWidthsModel", name := "joinNeighbours", desc := "(I)I" } : Jvm.MethodName)) ∈ lw_tbl := lw_at lw_m2 9 rfl
theorem q280 : (Jvm.Cond.instanceMethod ({ cls := "LayoutWidthsModel", name := "joinNeighbours", desc := "(I)I" } : Jvm.MethodName)) ∈ lw_all := lw_g (lw_at lw_m2 10 rfl) rfl
theorem q281 : (Jvm.Cond.code ({ cls := "LayoutWidthsModel", name := "joinNeighbours", desc := "(I)I" } : Jvm.MethodName) prog_3_method_11_code (5 : Nat) (Option.some Jvm.ClassFile.FieldType.int)) ∈ lw_all := lw_g (lw_at lw_m2 11 rfl) rfl
theorem q283 : (Jvm.Cond.instanceMethod ({ cls := "LayoutWidthsModel", name := "separation", desc := "()I" } : Jvm.MethodName)) ∈ lw_all := lw_g (lw_at lw_m2 13 rfl) rfl
theorem q284 : (Jvm.Cond.selects "LayoutWidthsModel" ({ cls := "LayoutWidthsModel", name := "separation", desc := "()I" } : Jvm.MethodName) ({ cls := "LayoutWidthsModel", name := "separation", desc := "()I" } : Jvm.MethodName)) ∈ lw_all := lw_g (lw_at lw_m2 14 rfl) rfl
theorem q285 : (Jvm.Cond.code ({ cls := "LayoutWidthsModel", name := "separation", desc := "()I" } : Jvm.MethodName) prog_3_method_19_code (1 : Nat) (Option.some Jvm.ClassFile.FieldType.int)) ∈ lw_all := lw_g (lw_at lw_m2 15 rfl) rfl
theorem q287 : (Jvm.Cond.instanceMethod ({ cls := "LayoutWidthsModel", name := "stretch", desc := "()I" } : Jvm.MethodName)) ∈ lw_all := lw_g (lw_at lw_m2 17 rfl) rfl
theorem q288 : (Jvm.Cond.selects "LayoutWidthsModel" ({ cls := "LayoutWidthsModel", name := "stretch", desc := "()I" } : Jvm.MethodName) ({ cls := "LayoutWidthsModel", name := "stretch", desc := "()I" } : Jvm.MethodName)) ∈ lw_all := lw_g (lw_at lw_m2 18 rfl) rfl
theorem q289 : (Jvm.Cond.code ({ cls := "LayoutWidthsModel", name := "stretch", desc := "()I" } : Jvm.MethodName) prog_3_method_20_code (1 : Nat) (Option.some Jvm.ClassFile.FieldType.int)) ∈ lw_all := lw_g (lw_at lw_m2 19 rfl) rfl
theorem q291 : (Jvm.Cond.instanceMethod ({ cls := "LayoutWidthsModel", name := "length", desc := "()I" } : Jvm.MethodName)) ∈ lw_all := lw_g (lw_at lw_m2 21 rfl) rfl
theorem q292 : (Jvm.Cond.selects "LayoutWidthsModel" ({ cls := "LayoutWidthsModel", name := "length", desc := "()I" } : Jvm.MethodName) ({ cls := "LayoutWidthsModel", name := "length", desc := "()I" } : Jvm.MethodName)) ∈ lw_all := lw_g (lw_at lw_m2 22 rfl) rfl
theorem q293 : (Jvm.Cond.code ({ cls := "LayoutWidthsModel", name := "length", desc := "()I" } : Jvm.MethodName) prog_3_method_21_code (1 : Nat) (Option.some Jvm.ClassFile.FieldType.int)) ∈ lw_all := lw_g (lw_at lw_m2 23 rfl) rfl
theorem q295 : (Jvm.Cond.instanceMethod ({ cls := "LayoutWidthsModel", name := "width", desc := "()I" } : Jvm.MethodName)) ∈ lw_all := lw_g (lw_at lw_m2 25 rfl) rfl
theorem q296 : (Jvm.Cond.selects "LayoutWidthsModel" ({ cls := "LayoutWidthsModel", name := "width", desc := "()I" } : Jvm.MethodName) ({ cls := "LayoutWidthsModel", name := "width", desc := "()I" } : Jvm.MethodName)) ∈ lw_all := lw_g (lw_at lw_m2 26 rfl) rfl
theorem q297 : (Jvm.Cond.code ({ cls := "LayoutWidthsModel", name := "width", desc := "()I" } : Jvm.MethodName) prog_3_method_22_code (1 : Nat) (Option.some Jvm.ClassFile.FieldType.int)) ∈ lw_all := lw_g (lw_at lw_m2 27 rfl) rfl
theorem q299 : (Jvm.Cond.instanceMethod ({ cls := "LayoutWidthsModel", name := "fill", desc := "()I" } : Jvm.MethodName)) ∈ lw_all := lw_g (lw_at lw_m2 29 rfl) rfl
theorem q300 : (Jvm.Cond.selects "LayoutWidthsModel" ({ cls := "LayoutWidthsModel", name := "fill", desc := "()I" } : Jvm.MethodName) ({ cls := "LayoutWidthsModel", name := "fill", desc := "()I" } : Jvm.MethodName)) ∈ lw_all := lw_g (lw_at lw_m2 30 rfl) rfl
theorem q301 : (Jvm.Cond.code ({ cls := "LayoutWidthsModel", name := "fill", desc := "()I" } : Jvm.MethodName) prog_3_method_23_code (1 : Nat) (Option.some Jvm.ClassFile.FieldType.int)) ∈ lw_all := lw_g (lw_at lw_m2 31 rfl) rfl
theorem q303 : (Jvm.Cond.instanceMethod ({ cls := "LayoutWidthsModel", name := "cutOrders", desc := "()I" } : Jvm.MethodName)) ∈ lw_all := lw_g (lw_at lw_m2 33 rfl) rfl
theorem q304 : (Jvm.Cond.selects "LayoutWidthsModel" ({ cls := "LayoutWidthsModel", name := "cutOrders", desc := "()I" } : Jvm.MethodName) ({ cls := "LayoutWidthsModel", name := "cutOrders", desc := "()I" } : Jvm.MethodName)) ∈ lw_all := lw_g (lw_at lw_m2 34 rfl) rfl
theorem q305 : (Jvm.Cond.code ({ cls := "LayoutWidthsModel", name := "cutOrders", desc := "()I" } : Jvm.MethodName) prog_3_method_24_code (1 : Nat) (Option.some Jvm.ClassFile.FieldType.int)) ∈ lw_all := lw_g (lw_at lw_m2 35 rfl) rfl
theorem q306 : (Jvm.Cond.methodLink "LayoutWidthsModel" (74 : Nat) ({ cls := "LayoutWidthsModel", name := "countLeast", desc := "(I)I" } : Jvm.MethodName)) ∈ lw_all := lw_g (lw_at lw_m2 36 rfl) rfl
theorem q307 : (Jvm.Cond.privateMethod ({ cls := "LayoutWidthsModel", name := "countLeast", desc := "(I)I" } : Jvm.MethodName)) ∈ lw_tbl := lw_at lw_m2 37 rfl
theorem q308 : (Jvm.Cond.instanceMethod ({ cls := "LayoutWidthsModel", name := "countLeast", desc := "(I)I" } : Jvm.MethodName)) ∈ lw_all := lw_g (lw_at lw_m2 38 rfl) rfl
theorem q309 : (Jvm.Cond.code ({ cls := "LayoutWidthsModel", name := "countLeast", desc := "(I)I" } : Jvm.MethodName) prog_3_method_15_code (2 : Nat) (Option.some Jvm.ClassFile.FieldType.int)) ∈ lw_all := lw_g (lw_at lw_m2 39 rfl) rfl
theorem q311 : (Jvm.Cond.instanceMethod ({ cls := "LayoutWidthsModel", name := "lengthOrders", desc := "()I" } : Jvm.MethodName)) ∈ lw_all := lw_g (lw_at lw_m2 41 rfl) rfl
theorem q312 : (Jvm.Cond.selects "LayoutWidthsModel" ({ cls := "LayoutWidthsModel", name := "lengthOrders", desc := "()I" } : Jvm.MethodName) ({ cls := "LayoutWidthsModel", name := "lengthOrders", desc := "()I" } : Jvm.MethodName)) ∈ lw_all := lw_g (lw_at lw_m2 42 rfl) rfl
theorem q313 : (Jvm.Cond.code ({ cls := "LayoutWidthsModel", name := "lengthOrders", desc := "()I" } : Jvm.MethodName) prog_3_method_25_code (1 : Nat) (Option.some Jvm.ClassFile.FieldType.int)) ∈ lw_all := lw_g (lw_at lw_m2 43 rfl) rfl
theorem q315 : (Jvm.Cond.instanceMethod ({ cls := "LayoutWidthsModel", name := "fillOrders", desc := "()I" } : Jvm.MethodName)) ∈ lw_all := lw_g (lw_at lw_m2 45 rfl) rfl
theorem q316 : (Jvm.Cond.selects "LayoutWidthsModel" ({ cls := "LayoutWidthsModel", name := "fillOrders", desc := "()I" } : Jvm.MethodName) ({ cls := "LayoutWidthsModel", name := "fillOrders", desc := "()I" } : Jvm.MethodName)) ∈ lw_all := lw_g (lw_at lw_m2 46 rfl) rfl
theorem q317 : (Jvm.Cond.code ({ cls := "LayoutWidthsModel", name := "fillOrders", desc := "()I" } : Jvm.MethodName) prog_3_method_26_code (1 : Nat) (Option.some Jvm.ClassFile.FieldType.int)) ∈ lw_all := lw_g (lw_at lw_m2 47 rfl) rfl
theorem q319 : (Jvm.Cond.instanceMethod ({ cls := "LayoutWidthsModel", name := "lengthOrder", desc := "(I)I" } : Jvm.MethodName)) ∈ lw_all := lw_g (lw_at lw_m2 49 rfl) rfl
theorem q320 : (Jvm.Cond.selects "LayoutWidthsModel" ({ cls := "LayoutWidthsModel", name := "lengthOrder", desc := "(I)I" } : Jvm.MethodName) ({ cls := "LayoutWidthsModel", name := "lengthOrder", desc := "(I)I" } : Jvm.MethodName)) ∈ lw_all := lw_g (lw_at lw_m2 50 rfl) rfl
theorem q321 : (Jvm.Cond.code ({ cls := "LayoutWidthsModel", name := "lengthOrder", desc := "(I)I" } : Jvm.MethodName) prog_3_method_27_code (2 : Nat) (Option.some Jvm.ClassFile.FieldType.int)) ∈ lw_all := lw_g (lw_at lw_m2 51 rfl) rfl
theorem q322 : (Jvm.Cond.methodLink "LayoutWidthsModel" (77 : Nat) ({ cls := "LayoutWidthsModel", name := "firstLeast", desc := "(II)I" } : Jvm.MethodName)) ∈ lw_all := lw_g (lw_at lw_m2 52 rfl) rfl
theorem q323 : (Jvm.Cond.privateMethod ({ cls := "LayoutWidthsModel", name := "firstLeast", desc := "(II)I" } : Jvm.MethodName)) ∈ lw_tbl := lw_at lw_m2 53 rfl
theorem q324 : (Jvm.Cond.instanceMethod ({ cls := "LayoutWidthsModel", name := "firstLeast", desc := "(II)I" } : Jvm.MethodName)) ∈ lw_all := lw_g (lw_at lw_m2 54 rfl) rfl
theorem q325 : (Jvm.Cond.code ({ cls := "LayoutWidthsModel", name := "firstLeast", desc := "(II)I" } : Jvm.MethodName) prog_3_method_16_code (3 : Nat) (Option.some Jvm.ClassFile.FieldType.int)) ∈ lw_all := lw_g (lw_at lw_m2 55 rfl) rfl
theorem q327 : (Jvm.Cond.instanceMethod ({ cls := "LayoutWidthsModel", name := "widthOrder", desc := "(I)I" } : Jvm.MethodName)) ∈ lw_all := lw_g (lw_at lw_m2 57 rfl) rfl
theorem q328 : (Jvm.Cond.selects "LayoutWidthsModel" ({ cls := "LayoutWidthsModel", name := "widthOrder", desc := "(I)I" } : Jvm.MethodName) ({ cls := "LayoutWidthsModel", name := "widthOrder", desc := "(I)I" } : Jvm.MethodName)) ∈ lw_all := lw_g (lw_at lw_m2 58 rfl) rfl
theorem q329 : (Jvm.Cond.code ({ cls := "LayoutWidthsModel", name := "widthOrder", desc := "(I)I" } : Jvm.MethodName) prog_3_method_28_code (2 : Nat) (Option.some Jvm.ClassFile.FieldType.int)) ∈ lw_all := lw_g (lw_at lw_m2 59 rfl) rfl
theorem q331 : (Jvm.Cond.instanceMethod ({ cls := "LayoutWidthsModel", name := "whole", desc := "()Z" } : Jvm.MethodName)) ∈ lw_all := lw_g (lw_at lw_m2 61 rfl) rfl
theorem q332 : (Jvm.Cond.selects "LayoutWidthsModel" ({ cls := "LayoutWidthsModel", name := "whole", desc := "()Z" } : Jvm.MethodName) ({ cls := "LayoutWidthsModel", name := "whole", desc := "()Z" } : Jvm.MethodName)) ∈ lw_all := lw_g (lw_at lw_m2 62 rfl) rfl
theorem q333 : (Jvm.Cond.code ({ cls := "LayoutWidthsModel", name := "whole", desc := "()Z" } : Jvm.MethodName) prog_3_method_29_code (1 : Nat) (Option.some Jvm.ClassFile.FieldType.boolean)) ∈ lw_all := lw_g (lw_at lw_m2 63 rfl) rfl
theorem q335 : (Jvm.Cond.instanceMethod ({ cls := "LayoutWidthsModel", name := "growth", desc := "(II)I" } : Jvm.MethodName)) ∈ lw_all := lw_g (lw_at lw_m2 65 rfl) rfl
theorem q336 : (Jvm.Cond.selects "LayoutWidthsModel" ({ cls := "LayoutWidthsModel", name := "growth", desc := "(II)I" } : Jvm.MethodName) ({ cls := "LayoutWidthsModel", name := "growth", desc := "(II)I" } : Jvm.MethodName)) ∈ lw_all := lw_g (lw_at lw_m2 66 rfl) rfl
theorem q337 : (Jvm.Cond.code ({ cls := "LayoutWidthsModel", name := "growth", desc := "(II)I" } : Jvm.MethodName) prog_3_method_30_code (5 : Nat) (Option.some Jvm.ClassFile.FieldType.int)) ∈ lw_all := lw_g (lw_at lw_m2 67 rfl) rfl
theorem q338 : (Jvm.Cond.methodLink "LayoutWidthsModel" (80 : Nat) ({ cls := "LayoutWidthsModel", name := "widthNow", desc := "()I" } : Jvm.MethodName)) ∈ lw_all := lw_g (lw_at lw_m2 68 rfl) rfl
theorem q339 : (Jvm.Cond.privateMethod ({ cls := "LayoutWidthsModel", name := "widthNow", desc := "()I" } : Jvm.MethodName)) ∈ lw_tbl := lw_at lw_m2 69 rfl
theorem q340 : (Jvm.Cond.instanceMethod ({ cls := "LayoutWidthsModel", name := "widthNow", desc := "()I" } : Jvm.MethodName)) ∈ lw_all := lw_g (lw_at lw_m2 70 rfl) rfl
theorem q341 : (Jvm.Cond.code ({ cls := "LayoutWidthsModel", name := "widthNow", desc := "()I" } : Jvm.MethodName) prog_3_method_17_code (3 : Nat) (Option.some Jvm.ClassFile.FieldType.int)) ∈ lw_all := lw_g (lw_at lw_m2 71 rfl) rfl
theorem q343 : (Jvm.Cond.instanceMethod ({ cls := "LayoutWidthsModel", name := "clique", desc := "()I" } : Jvm.MethodName)) ∈ lw_all := lw_g (lw_at lw_m2 73 rfl) rfl
theorem q344 : (Jvm.Cond.selects "LayoutWidthsModel" ({ cls := "LayoutWidthsModel", name := "clique", desc := "()I" } : Jvm.MethodName) ({ cls := "LayoutWidthsModel", name := "clique", desc := "()I" } : Jvm.MethodName)) ∈ lw_all := lw_g (lw_at lw_m2 74 rfl) rfl
theorem q345 : (Jvm.Cond.code ({ cls := "LayoutWidthsModel", name := "clique", desc := "()I" } : Jvm.MethodName) prog_3_method_32_code (4 : Nat) (Option.some Jvm.ClassFile.FieldType.int)) ∈ lw_all := lw_g (lw_at lw_m2 75 rfl) rfl
theorem q346 : (Jvm.Cond.methodLink "LayoutWidthsModel" (83 : Nat) ({ cls := "LayoutWidthsModel", name := "isClique", desc := "(I)Z" } : Jvm.MethodName)) ∈ lw_all := lw_g (lw_at lw_m2 76 rfl) rfl
theorem q347 : (Jvm.Cond.privateMethod ({ cls := "LayoutWidthsModel", name := "isClique", desc := "(I)Z" } : Jvm.MethodName)) ∈ lw_tbl := lw_at lw_m2 77 rfl
theorem q348 : (Jvm.Cond.instanceMethod ({ cls := "LayoutWidthsModel", name := "isClique", desc := "(I)Z" } : Jvm.MethodName)) ∈ lw_all := lw_g (lw_at lw_m2 78 rfl) rfl
theorem q349 : (Jvm.Cond.code ({ cls := "LayoutWidthsModel", name := "isClique", desc := "(I)Z" } : Jvm.MethodName) prog_3_method_31_code (3 : Nat) (Option.some Jvm.ClassFile.FieldType.boolean)) ∈ lw_all := lw_g (lw_at lw_m2 79 rfl) rfl
theorem in_X1 : ∀ w ∈ wsX10, w ∈ lw_all := lw_in wsX10 [208, 210, 212, 214, 216, 218, 220, 222] (by decide +kernel) (by decide +kernel)

/-! java/lang/Object -/
def RJ0 : String := "java/lang/Object"
abbrev cJ0_init : ByteArray := object_method_1_code
def yJ0_init : MethodName := ⟨RJ0, "<init>", "()V"⟩
theorem q39 : (Jvm.Cond.instanceMethod ({ cls := "java/lang/Object", name := "<init>", desc := "()V" } : Jvm.MethodName)) ∈ lw_all := lw_g (lw_at lw_m1 9 rfl) rfl
theorem q40 : (Jvm.Cond.code ({ cls := "java/lang/Object", name := "<init>", desc := "()V" } : Jvm.MethodName) object_method_1_code (1 : Nat) (Option.none : Option Jvm.ClassFile.FieldType)) ∈ lw_all := lw_g (lw_at lw_m1 10 rfl) rfl

/-! the law's own entry -/
abbrev cL_law : ByteArray := code

theorem q30 : (Jvm.Cond.initialized "LayoutWidthsLaw") ∈ lw_all := lw_g (lw_at lw_m1 0 rfl) rfl
theorem q33 : (Jvm.Cond.classLink "LayoutWidthsLaw" (7 : Nat) "LayoutWidths") ∈ lw_all := lw_g (lw_at lw_m1 3 rfl) rfl
theorem q35 : (Jvm.Cond.methodLink "LayoutWidthsLaw" (9 : Nat) ({ cls := "LayoutWidths", name := "<init>", desc := "()V" } : Jvm.MethodName)) ∈ lw_all := lw_g (lw_at lw_m1 5 rfl) rfl
theorem q61 : (Jvm.Cond.methodLink "LayoutWidthsLaw" (13 : Nat) ({ cls := "LayoutWidths", name := "line", desc := "(II)I" } : Jvm.MethodName)) ∈ lw_all := lw_g (lw_at lw_m1 31 rfl) rfl
theorem q73 : (Jvm.Cond.methodLink "LayoutWidthsLaw" (18 : Nat) ({ cls := "LayoutWidths", name := "clear", desc := "()I" } : Jvm.MethodName)) ∈ lw_all := lw_g (lw_at lw_m1 43 rfl) rfl
theorem q85 : (Jvm.Cond.methodLink "LayoutWidthsLaw" (23 : Nat) ({ cls := "LayoutWidths", name := "lines", desc := "()I" } : Jvm.MethodName)) ∈ lw_all := lw_g (lw_at lw_m1 55 rfl) rfl
theorem q86 : (Jvm.Cond.methodLink "LayoutWidthsLaw" (27 : Nat) ({ cls := "LayoutWidths", name := "cutWidth", desc := "()I" } : Jvm.MethodName)) ∈ lw_all := lw_g (lw_at lw_m1 56 rfl) rfl
theorem q122 : (Jvm.Cond.methodLink "LayoutWidthsLaw" (31 : Nat) ({ cls := "LayoutWidths", name := "separation", desc := "()I" } : Jvm.MethodName)) ∈ lw_all := lw_g (lw_at lw_m1 92 rfl) rfl
theorem q126 : (Jvm.Cond.methodLink "LayoutWidthsLaw" (35 : Nat) ({ cls := "LayoutWidths", name := "stretch", desc := "()I" } : Jvm.MethodName)) ∈ lw_all := lw_g (lw_at lw_m1 96 rfl) rfl
theorem q138 : (Jvm.Cond.methodLink "LayoutWidthsLaw" (39 : Nat) ({ cls := "LayoutWidths", name := "length", desc := "()I" } : Jvm.MethodName)) ∈ lw_all := lw_g (lw_at lw_m1 108 rfl) rfl
theorem q142 : (Jvm.Cond.methodLink "LayoutWidthsLaw" (43 : Nat) ({ cls := "LayoutWidths", name := "width", desc := "()I" } : Jvm.MethodName)) ∈ lw_all := lw_g (lw_at lw_m1 112 rfl) rfl
theorem q146 : (Jvm.Cond.methodLink "LayoutWidthsLaw" (47 : Nat) ({ cls := "LayoutWidths", name := "fill", desc := "()I" } : Jvm.MethodName)) ∈ lw_all := lw_g (lw_at lw_m1 116 rfl) rfl
theorem q150 : (Jvm.Cond.methodLink "LayoutWidthsLaw" (51 : Nat) ({ cls := "LayoutWidths", name := "cutOrders", desc := "()I" } : Jvm.MethodName)) ∈ lw_all := lw_g (lw_at lw_m1 120 rfl) rfl
theorem q158 : (Jvm.Cond.methodLink "LayoutWidthsLaw" (55 : Nat) ({ cls := "LayoutWidths", name := "lengthOrders", desc := "()I" } : Jvm.MethodName)) ∈ lw_all := lw_g (lw_at lw_m1 128 rfl) rfl
theorem q162 : (Jvm.Cond.methodLink "LayoutWidthsLaw" (59 : Nat) ({ cls := "LayoutWidths", name := "fillOrders", desc := "()I" } : Jvm.MethodName)) ∈ lw_all := lw_g (lw_at lw_m1 132 rfl) rfl
theorem q166 : (Jvm.Cond.methodLink "LayoutWidthsLaw" (63 : Nat) ({ cls := "LayoutWidths", name := "lengthOrder", desc := "(I)I" } : Jvm.MethodName)) ∈ lw_all := lw_g (lw_at lw_m1 136 rfl) rfl
theorem q178 : (Jvm.Cond.methodLink "LayoutWidthsLaw" (68 : Nat) ({ cls := "LayoutWidths", name := "widthOrder", desc := "(I)I" } : Jvm.MethodName)) ∈ lw_all := lw_g (lw_at lw_m1 148 rfl) rfl
theorem q182 : (Jvm.Cond.methodLink "LayoutWidthsLaw" (72 : Nat) ({ cls := "LayoutWidths", name := "whole", desc := "()Z" } : Jvm.MethodName)) ∈ lw_all := lw_g (lw_at lw_m1 152 rfl) rfl
theorem q186 : (Jvm.Cond.methodLink "LayoutWidthsLaw" (77 : Nat) ({ cls := "LayoutWidths", name := "growth", desc := "(II)I" } : Jvm.MethodName)) ∈ lw_all := lw_g (lw_at lw_m1 156 rfl) rfl
theorem q190 : (Jvm.Cond.methodLink "LayoutWidthsLaw" (81 : Nat) ({ cls := "LayoutWidths", name := "clique", desc := "()I" } : Jvm.MethodName)) ∈ lw_all := lw_g (lw_at lw_m1 160 rfl) rfl
theorem q194 : (Jvm.Cond.classLink "LayoutWidthsLaw" (10 : Nat) "LayoutWidthsModel") ∈ lw_all := lw_g (lw_at lw_m1 164 rfl) rfl
theorem q196 : (Jvm.Cond.methodLink "LayoutWidthsLaw" (12 : Nat) ({ cls := "LayoutWidthsModel", name := "<init>", desc := "()V" } : Jvm.MethodName)) ∈ lw_all := lw_g (lw_at lw_m1 166 rfl) rfl
theorem q225 : (Jvm.Cond.methodLink "LayoutWidthsLaw" (17 : Nat) ({ cls := "LayoutWidthsModel", name := "line", desc := "(II)I" } : Jvm.MethodName)) ∈ lw_all := lw_g (lw_at lw_m1 195 rfl) rfl
theorem q237 : (Jvm.Cond.methodLink "LayoutWidthsLaw" (22 : Nat) ({ cls := "LayoutWidthsModel", name := "clear", desc := "()I" } : Jvm.MethodName)) ∈ lw_all := lw_g (lw_at lw_m1 207 rfl) rfl
theorem q249 : (Jvm.Cond.methodLink "LayoutWidthsLaw" (26 : Nat) ({ cls := "LayoutWidthsModel", name := "lines", desc := "()I" } : Jvm.MethodName)) ∈ lw_all := lw_g (lw_at lw_m1 219 rfl) rfl
theorem q250 : (Jvm.Cond.methodLink "LayoutWidthsLaw" (30 : Nat) ({ cls := "LayoutWidthsModel", name := "cutWidth", desc := "()I" } : Jvm.MethodName)) ∈ lw_all := lw_g (lw_at lw_m1 220 rfl) rfl
theorem q282 : (Jvm.Cond.methodLink "LayoutWidthsLaw" (34 : Nat) ({ cls := "LayoutWidthsModel", name := "separation", desc := "()I" } : Jvm.MethodName)) ∈ lw_all := lw_g (lw_at lw_m2 12 rfl) rfl
theorem q286 : (Jvm.Cond.methodLink "LayoutWidthsLaw" (38 : Nat) ({ cls := "LayoutWidthsModel", name := "stretch", desc := "()I" } : Jvm.MethodName)) ∈ lw_all := lw_g (lw_at lw_m2 16 rfl) rfl
theorem q290 : (Jvm.Cond.methodLink "LayoutWidthsLaw" (42 : Nat) ({ cls := "LayoutWidthsModel", name := "length", desc := "()I" } : Jvm.MethodName)) ∈ lw_all := lw_g (lw_at lw_m2 20 rfl) rfl
theorem q294 : (Jvm.Cond.methodLink "LayoutWidthsLaw" (46 : Nat) ({ cls := "LayoutWidthsModel", name := "width", desc := "()I" } : Jvm.MethodName)) ∈ lw_all := lw_g (lw_at lw_m2 24 rfl) rfl
theorem q298 : (Jvm.Cond.methodLink "LayoutWidthsLaw" (50 : Nat) ({ cls := "LayoutWidthsModel", name := "fill", desc := "()I" } : Jvm.MethodName)) ∈ lw_all := lw_g (lw_at lw_m2 28 rfl) rfl
theorem q302 : (Jvm.Cond.methodLink "LayoutWidthsLaw" (54 : Nat) ({ cls := "LayoutWidthsModel", name := "cutOrders", desc := "()I" } : Jvm.MethodName)) ∈ lw_all := lw_g (lw_at lw_m2 32 rfl) rfl
theorem q310 : (Jvm.Cond.methodLink "LayoutWidthsLaw" (58 : Nat) ({ cls := "LayoutWidthsModel", name := "lengthOrders", desc := "()I" } : Jvm.MethodName)) ∈ lw_all := lw_g (lw_at lw_m2 40 rfl) rfl
theorem q314 : (Jvm.Cond.methodLink "LayoutWidthsLaw" (62 : Nat) ({ cls := "LayoutWidthsModel", name := "fillOrders", desc := "()I" } : Jvm.MethodName)) ∈ lw_all := lw_g (lw_at lw_m2 44 rfl) rfl
theorem q318 : (Jvm.Cond.methodLink "LayoutWidthsLaw" (67 : Nat) ({ cls := "LayoutWidthsModel", name := "lengthOrder", desc := "(I)I" } : Jvm.MethodName)) ∈ lw_all := lw_g (lw_at lw_m2 48 rfl) rfl
theorem q326 : (Jvm.Cond.methodLink "LayoutWidthsLaw" (71 : Nat) ({ cls := "LayoutWidthsModel", name := "widthOrder", desc := "(I)I" } : Jvm.MethodName)) ∈ lw_all := lw_g (lw_at lw_m2 56 rfl) rfl
theorem q330 : (Jvm.Cond.methodLink "LayoutWidthsLaw" (76 : Nat) ({ cls := "LayoutWidthsModel", name := "whole", desc := "()Z" } : Jvm.MethodName)) ∈ lw_all := lw_g (lw_at lw_m2 60 rfl) rfl
theorem q334 : (Jvm.Cond.methodLink "LayoutWidthsLaw" (80 : Nat) ({ cls := "LayoutWidthsModel", name := "growth", desc := "(II)I" } : Jvm.MethodName)) ∈ lw_all := lw_g (lw_at lw_m2 64 rfl) rfl
theorem q342 : (Jvm.Cond.methodLink "LayoutWidthsLaw" (84 : Nat) ({ cls := "LayoutWidthsModel", name := "clique", desc := "()I" } : Jvm.MethodName)) ∈ lw_all := lw_g (lw_at lw_m2 72 rfl) rfl

theorem q60 : (Jvm.Cond.arrayClass Jvm.ClassFile.FieldType.int) ∈ lw_all := lw_g (lw_at lw_m1 30 rfl) rfl

abbrev vwCl : List vw_C := [(RX0, TX0, 6), (RX1, TX1, 8)]
end
section
set_option maxRecDepth 100000
theorem dX0_init_0 : decode cX0_init 0 = .ok (.aload_n 0, 1) := by decide +kernel
theorem dX0_init_1 : decode cX0_init 1 = .ok (.invokespecial 1, 3) := by decide +kernel
theorem dX0_init_4 : decode cX0_init 4 = .ok (.aload_n 0, 1) := by decide +kernel
theorem dX0_init_5 : decode cX0_init 5 = .ok (.bipush 6, 2) := by decide +kernel
theorem dX0_init_7 : decode cX0_init 7 = .ok (.newarray .int, 2) := by decide +kernel
theorem dX0_init_9 : decode cX0_init 9 = .ok (.putfield 7, 3) := by decide +kernel
theorem dX0_init_12 : decode cX0_init 12 = .ok (.aload_n 0, 1) := by decide +kernel
theorem dX0_init_13 : decode cX0_init 13 = .ok (.bipush 64, 2) := by decide +kernel
theorem dX0_init_15 : decode cX0_init 15 = .ok (.newarray .int, 2) := by decide +kernel
theorem dX0_init_17 : decode cX0_init 17 = .ok (.putfield 13, 3) := by decide +kernel
theorem dX0_init_20 : decode cX0_init 20 = .ok (.aload_n 0, 1) := by decide +kernel
theorem dX0_init_21 : decode cX0_init 21 = .ok (.bipush 64, 2) := by decide +kernel
theorem dX0_init_23 : decode cX0_init 23 = .ok (.newarray .int, 2) := by decide +kernel
theorem dX0_init_25 : decode cX0_init 25 = .ok (.putfield 16, 3) := by decide +kernel
theorem dX0_init_28 : decode cX0_init 28 = .ok (.aload_n 0, 1) := by decide +kernel
theorem dX0_init_29 : decode cX0_init 29 = .ok (.bipush 64, 2) := by decide +kernel
theorem dX0_init_31 : decode cX0_init 31 = .ok (.newarray .int, 2) := by decide +kernel
theorem dX0_init_33 : decode cX0_init 33 = .ok (.putfield 19, 3) := by decide +kernel
theorem dX0_init_36 : decode cX0_init 36 = .ok (.aload_n 0, 1) := by decide +kernel
theorem dX0_init_37 : decode cX0_init 37 = .ok (.bipush 6, 2) := by decide +kernel
theorem dX0_init_39 : decode cX0_init 39 = .ok (.newarray .int, 2) := by decide +kernel
theorem dX0_init_41 : decode cX0_init 41 = .ok (.putfield 22, 3) := by decide +kernel
theorem dX0_init_44 : decode cX0_init 44 = .ok (.aload_n 0, 1) := by decide +kernel
theorem dX0_init_45 : decode cX0_init 45 = .ok (.bipush 7, 2) := by decide +kernel
theorem dX0_init_47 : decode cX0_init 47 = .ok (.newarray .int, 2) := by decide +kernel
theorem dX0_init_49 : decode cX0_init 49 = .ok (.putfield 25, 3) := by decide +kernel
theorem dX0_init_52 : decode cX0_init 52 = .ok (.return_, 1) := by decide +kernel
theorem dX0_line_0 : decode cX0_line 0 = .ok (.aload_n 0, 1) := by decide +kernel
theorem dX0_line_1 : decode cX0_line 1 = .ok (.iload_n 1, 1) := by decide +kernel
theorem dX0_line_2 : decode cX0_line 2 = .ok (.invokevirtual 28, 3) := by decide +kernel
theorem dX0_line_5 : decode cX0_line 5 = .ok (.ifCond .ne 16, 3) := by decide +kernel
theorem dX0_line_8 : decode cX0_line 8 = .ok (.aload_n 0, 1) := by decide +kernel
theorem dX0_line_9 : decode cX0_line 9 = .ok (.iload_n 2, 1) := by decide +kernel
theorem dX0_line_10 : decode cX0_line 10 = .ok (.invokevirtual 28, 3) := by decide +kernel
theorem dX0_line_13 : decode cX0_line 13 = .ok (.ifCond .ne 8, 3) := by decide +kernel
theorem dX0_line_16 : decode cX0_line 16 = .ok (.iload_n 1, 1) := by decide +kernel
theorem dX0_line_17 : decode cX0_line 17 = .ok (.iload_n 2, 1) := by decide +kernel
theorem dX0_line_18 : decode cX0_line 18 = .ok (.if_icmp .ne 5, 3) := by decide +kernel
theorem dX0_line_21 : decode cX0_line 21 = .ok (.iconst (-1), 1) := by decide +kernel
theorem dX0_line_22 : decode cX0_line 22 = .ok (.ireturn, 1) := by decide +kernel
theorem dX0_line_23 : decode cX0_line 23 = .ok (.aload_n 0, 1) := by decide +kernel
theorem dX0_line_24 : decode cX0_line 24 = .ok (.iload_n 1, 1) := by decide +kernel
theorem dX0_line_25 : decode cX0_line 25 = .ok (.iload_n 2, 1) := by decide +kernel
theorem dX0_line_26 : decode cX0_line 26 = .ok (.invokevirtual 32, 3) := by decide +kernel
theorem dX0_line_29 : decode cX0_line 29 = .ok (.aload_n 0, 1) := by decide +kernel
theorem dX0_line_30 : decode cX0_line 30 = .ok (.getfield 7, 3) := by decide +kernel
theorem dX0_line_33 : decode cX0_line 33 = .ok (.iload_n 1, 1) := by decide +kernel
theorem dX0_line_34 : decode cX0_line 34 = .ok (.iaload, 1) := by decide +kernel
theorem dX0_line_35 : decode cX0_line 35 = .ok (.iload_n 2, 1) := by decide +kernel
theorem dX0_line_36 : decode cX0_line 36 = .ok (.ishr, 1) := by decide +kernel
theorem dX0_line_37 : decode cX0_line 37 = .ok (.iconst 1, 1) := by decide +kernel
theorem dX0_line_38 : decode cX0_line 38 = .ok (.iand, 1) := by decide +kernel
theorem dX0_line_39 : decode cX0_line 39 = .ok (.ireturn, 1) := by decide +kernel
theorem dX0_bad_0 : decode cX0_bad 0 = .ok (.iload_n 1, 1) := by decide +kernel
theorem dX0_bad_1 : decode cX0_bad 1 = .ok (.ifCond .lt 9, 3) := by decide +kernel
theorem dX0_bad_4 : decode cX0_bad 4 = .ok (.iload_n 1, 1) := by decide +kernel
theorem dX0_bad_5 : decode cX0_bad 5 = .ok (.bipush 6, 2) := by decide +kernel
theorem dX0_bad_7 : decode cX0_bad 7 = .ok (.if_icmp .lt 7, 3) := by decide +kernel
theorem dX0_bad_10 : decode cX0_bad 10 = .ok (.iconst 1, 1) := by decide +kernel
theorem dX0_bad_11 : decode cX0_bad 11 = .ok (.goto 4, 3) := by decide +kernel
theorem dX0_bad_14 : decode cX0_bad 14 = .ok (.iconst 0, 1) := by decide +kernel
theorem dX0_bad_15 : decode cX0_bad 15 = .ok (.ireturn, 1) := by decide +kernel
theorem dX0_turn_0 : decode cX0_turn 0 = .ok (.aload_n 0, 1) := by decide +kernel
theorem dX0_turn_1 : decode cX0_turn 1 = .ok (.getfield 7, 3) := by decide +kernel
theorem dX0_turn_4 : decode cX0_turn 4 = .ok (.iload_n 1, 1) := by decide +kernel
theorem dX0_turn_5 : decode cX0_turn 5 = .ok (.aload_n 0, 1) := by decide +kernel
theorem dX0_turn_6 : decode cX0_turn 6 = .ok (.getfield 7, 3) := by decide +kernel
theorem dX0_turn_9 : decode cX0_turn 9 = .ok (.iload_n 1, 1) := by decide +kernel
theorem dX0_turn_10 : decode cX0_turn 10 = .ok (.iaload, 1) := by decide +kernel
theorem dX0_turn_11 : decode cX0_turn 11 = .ok (.iconst 1, 1) := by decide +kernel
theorem dX0_turn_12 : decode cX0_turn 12 = .ok (.iload_n 2, 1) := by decide +kernel
theorem dX0_turn_13 : decode cX0_turn 13 = .ok (.ishl, 1) := by decide +kernel
theorem dX0_turn_14 : decode cX0_turn 14 = .ok (.ixor, 1) := by decide +kernel
theorem dX0_turn_15 : decode cX0_turn 15 = .ok (.iastore, 1) := by decide +kernel
theorem dX0_turn_16 : decode cX0_turn 16 = .ok (.aload_n 0, 1) := by decide +kernel
theorem dX0_turn_17 : decode cX0_turn 17 = .ok (.getfield 7, 3) := by decide +kernel
theorem dX0_turn_20 : decode cX0_turn 20 = .ok (.iload_n 2, 1) := by decide +kernel
theorem dX0_turn_21 : decode cX0_turn 21 = .ok (.aload_n 0, 1) := by decide +kernel
theorem dX0_turn_22 : decode cX0_turn 22 = .ok (.getfield 7, 3) := by decide +kernel
theorem dX0_turn_25 : decode cX0_turn 25 = .ok (.iload_n 2, 1) := by decide +kernel
theorem dX0_turn_26 : decode cX0_turn 26 = .ok (.iaload, 1) := by decide +kernel
theorem dX0_turn_27 : decode cX0_turn 27 = .ok (.iconst 1, 1) := by decide +kernel
theorem dX0_turn_28 : decode cX0_turn 28 = .ok (.iload_n 1, 1) := by decide +kernel
theorem dX0_turn_29 : decode cX0_turn 29 = .ok (.ishl, 1) := by decide +kernel
theorem dX0_turn_30 : decode cX0_turn 30 = .ok (.ixor, 1) := by decide +kernel
theorem dX0_turn_31 : decode cX0_turn 31 = .ok (.iastore, 1) := by decide +kernel
theorem dX0_turn_32 : decode cX0_turn 32 = .ok (.return_, 1) := by decide +kernel
theorem dX0_clear_0 : decode cX0_clear 0 = .ok (.aload_n 0, 1) := by decide +kernel
theorem dX0_clear_1 : decode cX0_clear 1 = .ok (.invokevirtual 36, 3) := by decide +kernel
theorem dX0_clear_4 : decode cX0_clear 4 = .ok (.istore_n 1, 1) := by decide +kernel
theorem dX0_clear_5 : decode cX0_clear 5 = .ok (.iconst 0, 1) := by decide +kernel
theorem dX0_clear_6 : decode cX0_clear 6 = .ok (.istore_n 2, 1) := by decide +kernel
theorem dX0_clear_7 : decode cX0_clear 7 = .ok (.iload_n 2, 1) := by decide +kernel
theorem dX0_clear_8 : decode cX0_clear 8 = .ok (.bipush 6, 2) := by decide +kernel
theorem dX0_clear_10 : decode cX0_clear 10 = .ok (.if_icmp .ge 16, 3) := by decide +kernel
theorem dX0_clear_13 : decode cX0_clear 13 = .ok (.aload_n 0, 1) := by decide +kernel
theorem dX0_clear_14 : decode cX0_clear 14 = .ok (.getfield 7, 3) := by decide +kernel
theorem dX0_clear_17 : decode cX0_clear 17 = .ok (.iload_n 2, 1) := by decide +kernel
theorem dX0_clear_18 : decode cX0_clear 18 = .ok (.iconst 0, 1) := by decide +kernel
theorem dX0_clear_19 : decode cX0_clear 19 = .ok (.iastore, 1) := by decide +kernel
theorem dX0_clear_20 : decode cX0_clear 20 = .ok (.iinc 2 1, 3) := by decide +kernel
theorem dX0_clear_23 : decode cX0_clear 23 = .ok (.goto (-16), 3) := by decide +kernel
theorem dX0_clear_26 : decode cX0_clear 26 = .ok (.iload_n 1, 1) := by decide +kernel
theorem dX0_clear_27 : decode cX0_clear 27 = .ok (.ireturn, 1) := by decide +kernel
theorem dX0_lines_0 : decode cX0_lines 0 = .ok (.iconst 0, 1) := by decide +kernel
theorem dX0_lines_1 : decode cX0_lines 1 = .ok (.istore_n 1, 1) := by decide +kernel
theorem dX0_lines_2 : decode cX0_lines 2 = .ok (.iconst 0, 1) := by decide +kernel
theorem dX0_lines_3 : decode cX0_lines 3 = .ok (.istore_n 2, 1) := by decide +kernel
theorem dX0_lines_4 : decode cX0_lines 4 = .ok (.iload_n 2, 1) := by decide +kernel
theorem dX0_lines_5 : decode cX0_lines 5 = .ok (.bipush 6, 2) := by decide +kernel
theorem dX0_lines_7 : decode cX0_lines 7 = .ok (.if_icmp .ge 24, 3) := by decide +kernel
theorem dX0_lines_10 : decode cX0_lines 10 = .ok (.aload_n 0, 1) := by decide +kernel
theorem dX0_lines_11 : decode cX0_lines 11 = .ok (.aload_n 0, 1) := by decide +kernel
theorem dX0_lines_12 : decode cX0_lines 12 = .ok (.getfield 7, 3) := by decide +kernel
theorem dX0_lines_15 : decode cX0_lines 15 = .ok (.iload_n 2, 1) := by decide +kernel
theorem dX0_lines_16 : decode cX0_lines 16 = .ok (.iaload, 1) := by decide +kernel
theorem dX0_lines_17 : decode cX0_lines 17 = .ok (.invokevirtual 40, 3) := by decide +kernel
theorem dX0_lines_20 : decode cX0_lines 20 = .ok (.istore_n 3, 1) := by decide +kernel
theorem dX0_lines_21 : decode cX0_lines 21 = .ok (.iload_n 1, 1) := by decide +kernel
theorem dX0_lines_22 : decode cX0_lines 22 = .ok (.iload_n 3, 1) := by decide +kernel
theorem dX0_lines_23 : decode cX0_lines 23 = .ok (.iadd, 1) := by decide +kernel
theorem dX0_lines_24 : decode cX0_lines 24 = .ok (.istore_n 1, 1) := by decide +kernel
theorem dX0_lines_25 : decode cX0_lines 25 = .ok (.iinc 2 1, 3) := by decide +kernel
theorem dX0_lines_28 : decode cX0_lines 28 = .ok (.goto (-24), 3) := by decide +kernel
theorem dX0_lines_31 : decode cX0_lines 31 = .ok (.iload_n 1, 1) := by decide +kernel
theorem dX0_lines_32 : decode cX0_lines 32 = .ok (.iconst 2, 1) := by decide +kernel
theorem dX0_lines_33 : decode cX0_lines 33 = .ok (.idiv, 1) := by decide +kernel
theorem dX0_lines_34 : decode cX0_lines 34 = .ok (.ireturn, 1) := by decide +kernel
theorem dX0_sizeOf_0 : decode cX0_sizeOf 0 = .ok (.iconst 0, 1) := by decide +kernel
theorem dX0_sizeOf_1 : decode cX0_sizeOf 1 = .ok (.istore_n 2, 1) := by decide +kernel
theorem dX0_sizeOf_2 : decode cX0_sizeOf 2 = .ok (.iconst 0, 1) := by decide +kernel
theorem dX0_sizeOf_3 : decode cX0_sizeOf 3 = .ok (.istore_n 3, 1) := by decide +kernel
theorem dX0_sizeOf_4 : decode cX0_sizeOf 4 = .ok (.iload_n 3, 1) := by decide +kernel
theorem dX0_sizeOf_5 : decode cX0_sizeOf 5 = .ok (.bipush 6, 2) := by decide +kernel
theorem dX0_sizeOf_7 : decode cX0_sizeOf 7 = .ok (.if_icmp .ge 17, 3) := by decide +kernel
theorem dX0_sizeOf_10 : decode cX0_sizeOf 10 = .ok (.iload_n 2, 1) := by decide +kernel
theorem dX0_sizeOf_11 : decode cX0_sizeOf 11 = .ok (.iload_n 1, 1) := by decide +kernel
theorem dX0_sizeOf_12 : decode cX0_sizeOf 12 = .ok (.iload_n 3, 1) := by decide +kernel
theorem dX0_sizeOf_13 : decode cX0_sizeOf 13 = .ok (.ishr, 1) := by decide +kernel
theorem dX0_sizeOf_14 : decode cX0_sizeOf 14 = .ok (.iconst 1, 1) := by decide +kernel
theorem dX0_sizeOf_15 : decode cX0_sizeOf 15 = .ok (.iand, 1) := by decide +kernel
theorem dX0_sizeOf_16 : decode cX0_sizeOf 16 = .ok (.iadd, 1) := by decide +kernel
theorem dX0_sizeOf_17 : decode cX0_sizeOf 17 = .ok (.istore_n 2, 1) := by decide +kernel
theorem dX0_sizeOf_18 : decode cX0_sizeOf 18 = .ok (.iinc 3 1, 3) := by decide +kernel
theorem dX0_sizeOf_21 : decode cX0_sizeOf 21 = .ok (.goto (-17), 3) := by decide +kernel
theorem dX0_sizeOf_24 : decode cX0_sizeOf 24 = .ok (.iload_n 2, 1) := by decide +kernel
theorem dX0_sizeOf_25 : decode cX0_sizeOf 25 = .ok (.ireturn, 1) := by decide +kernel
theorem dX0_cutWidth_0 : decode cX0_cutWidth 0 = .ok (.aload_n 0, 1) := by decide +kernel
theorem dX0_cutWidth_1 : decode cX0_cutWidth 1 = .ok (.iconst 0, 1) := by decide +kernel
theorem dX0_cutWidth_2 : decode cX0_cutWidth 2 = .ok (.invokevirtual 71, 3) := by decide +kernel
theorem dX0_cutWidth_5 : decode cX0_cutWidth 5 = .ok (.ireturn, 1) := by decide +kernel
theorem dX0_leastOf_0 : decode cX0_leastOf 0 = .ok (.aload_n 0, 1) := by decide +kernel
theorem dX0_leastOf_1 : decode cX0_leastOf 1 = .ok (.iload_n 1, 1) := by decide +kernel
theorem dX0_leastOf_2 : decode cX0_leastOf 2 = .ok (.invokevirtual 64, 3) := by decide +kernel
theorem dX0_leastOf_5 : decode cX0_leastOf 5 = .ok (.aload_n 0, 1) := by decide +kernel
theorem dX0_leastOf_6 : decode cX0_leastOf 6 = .ok (.getfield 13, 3) := by decide +kernel
theorem dX0_leastOf_9 : decode cX0_leastOf 9 = .ok (.bipush 63, 2) := by decide +kernel
theorem dX0_leastOf_11 : decode cX0_leastOf 11 = .ok (.iaload, 1) := by decide +kernel
theorem dX0_leastOf_12 : decode cX0_leastOf 12 = .ok (.ireturn, 1) := by decide +kernel
theorem dX0_fillCost_0 : decode cX0_fillCost 0 = .ok (.aload_n 0, 1) := by decide +kernel
theorem dX0_fillCost_1 : decode cX0_fillCost 1 = .ok (.getfield 13, 3) := by decide +kernel
theorem dX0_fillCost_4 : decode cX0_fillCost 4 = .ok (.iconst 0, 1) := by decide +kernel
theorem dX0_fillCost_5 : decode cX0_fillCost 5 = .ok (.iconst 0, 1) := by decide +kernel
theorem dX0_fillCost_6 : decode cX0_fillCost 6 = .ok (.iastore, 1) := by decide +kernel
theorem dX0_fillCost_7 : decode cX0_fillCost 7 = .ok (.iconst 1, 1) := by decide +kernel
theorem dX0_fillCost_8 : decode cX0_fillCost 8 = .ok (.istore_n 2, 1) := by decide +kernel
theorem dX0_fillCost_9 : decode cX0_fillCost 9 = .ok (.iload_n 2, 1) := by decide +kernel
theorem dX0_fillCost_10 : decode cX0_fillCost 10 = .ok (.bipush 64, 2) := by decide +kernel
theorem dX0_fillCost_12 : decode cX0_fillCost 12 = .ok (.if_icmp .ge 101, 3) := by decide +kernel
theorem dX0_fillCost_15 : decode cX0_fillCost 15 = .ok (.aload_n 0, 1) := by decide +kernel
theorem dX0_fillCost_16 : decode cX0_fillCost 16 = .ok (.getfield 13, 3) := by decide +kernel
theorem dX0_fillCost_19 : decode cX0_fillCost 19 = .ok (.iload_n 2, 1) := by decide +kernel
theorem dX0_fillCost_20 : decode cX0_fillCost 20 = .ok (.sipush 1000, 3) := by decide +kernel
theorem dX0_fillCost_23 : decode cX0_fillCost 23 = .ok (.iastore, 1) := by decide +kernel
theorem dX0_fillCost_24 : decode cX0_fillCost 24 = .ok (.iconst 0, 1) := by decide +kernel
theorem dX0_fillCost_25 : decode cX0_fillCost 25 = .ok (.istore_n 3, 1) := by decide +kernel
theorem dX0_fillCost_26 : decode cX0_fillCost 26 = .ok (.iload_n 3, 1) := by decide +kernel
theorem dX0_fillCost_27 : decode cX0_fillCost 27 = .ok (.bipush 6, 2) := by decide +kernel
theorem dX0_fillCost_29 : decode cX0_fillCost 29 = .ok (.if_icmp .ge 78, 3) := by decide +kernel
theorem dX0_fillCost_32 : decode cX0_fillCost 32 = .ok (.iload_n 2, 1) := by decide +kernel
theorem dX0_fillCost_33 : decode cX0_fillCost 33 = .ok (.iconst 1, 1) := by decide +kernel
theorem dX0_fillCost_34 : decode cX0_fillCost 34 = .ok (.iload_n 3, 1) := by decide +kernel
theorem dX0_fillCost_35 : decode cX0_fillCost 35 = .ok (.ishl, 1) := by decide +kernel
theorem dX0_fillCost_36 : decode cX0_fillCost 36 = .ok (.iconst (-1), 1) := by decide +kernel
theorem dX0_fillCost_37 : decode cX0_fillCost 37 = .ok (.ixor, 1) := by decide +kernel
theorem dX0_fillCost_38 : decode cX0_fillCost 38 = .ok (.iand, 1) := by decide +kernel
theorem dX0_fillCost_39 : decode cX0_fillCost 39 = .ok (.istore 4, 2) := by decide +kernel
theorem dX0_fillCost_41 : decode cX0_fillCost 41 = .ok (.iload 4, 2) := by decide +kernel
theorem dX0_fillCost_43 : decode cX0_fillCost 43 = .ok (.iload_n 2, 1) := by decide +kernel
theorem dX0_fillCost_44 : decode cX0_fillCost 44 = .ok (.if_icmp .eq 57, 3) := by decide +kernel
theorem dX0_fillCost_47 : decode cX0_fillCost 47 = .ok (.aload_n 0, 1) := by decide +kernel
theorem dX0_fillCost_48 : decode cX0_fillCost 48 = .ok (.iload_n 1, 1) := by decide +kernel
theorem dX0_fillCost_49 : decode cX0_fillCost 49 = .ok (.iload 4, 2) := by decide +kernel
theorem dX0_fillCost_51 : decode cX0_fillCost 51 = .ok (.iload_n 3, 1) := by decide +kernel
theorem dX0_fillCost_52 : decode cX0_fillCost 52 = .ok (.invokevirtual 57, 3) := by decide +kernel
theorem dX0_fillCost_55 : decode cX0_fillCost 55 = .ok (.istore 5, 2) := by decide +kernel
theorem dX0_fillCost_57 : decode cX0_fillCost 57 = .ok (.aload_n 0, 1) := by decide +kernel
theorem dX0_fillCost_58 : decode cX0_fillCost 58 = .ok (.iload_n 1, 1) := by decide +kernel
theorem dX0_fillCost_59 : decode cX0_fillCost 59 = .ok (.aload_n 0, 1) := by decide +kernel
theorem dX0_fillCost_60 : decode cX0_fillCost 60 = .ok (.getfield 13, 3) := by decide +kernel
theorem dX0_fillCost_63 : decode cX0_fillCost 63 = .ok (.iload 4, 2) := by decide +kernel
theorem dX0_fillCost_65 : decode cX0_fillCost 65 = .ok (.iaload, 1) := by decide +kernel
theorem dX0_fillCost_66 : decode cX0_fillCost 66 = .ok (.iload 5, 2) := by decide +kernel
theorem dX0_fillCost_68 : decode cX0_fillCost 68 = .ok (.invokevirtual 61, 3) := by decide +kernel
theorem dX0_fillCost_71 : decode cX0_fillCost 71 = .ok (.istore 6, 2) := by decide +kernel
theorem dX0_fillCost_73 : decode cX0_fillCost 73 = .ok (.aload_n 0, 1) := by decide +kernel
theorem dX0_fillCost_74 : decode cX0_fillCost 74 = .ok (.getfield 13, 3) := by decide +kernel
theorem dX0_fillCost_77 : decode cX0_fillCost 77 = .ok (.iload_n 2, 1) := by decide +kernel
theorem dX0_fillCost_78 : decode cX0_fillCost 78 = .ok (.iload 6, 2) := by decide +kernel
theorem dX0_fillCost_80 : decode cX0_fillCost 80 = .ok (.aload_n 0, 1) := by decide +kernel
theorem dX0_fillCost_81 : decode cX0_fillCost 81 = .ok (.getfield 13, 3) := by decide +kernel
theorem dX0_fillCost_84 : decode cX0_fillCost 84 = .ok (.iload_n 2, 1) := by decide +kernel
theorem dX0_fillCost_85 : decode cX0_fillCost 85 = .ok (.iaload, 1) := by decide +kernel
theorem dX0_fillCost_86 : decode cX0_fillCost 86 = .ok (.if_icmp .ge 8, 3) := by decide +kernel
theorem dX0_fillCost_89 : decode cX0_fillCost 89 = .ok (.iload 6, 2) := by decide +kernel
theorem dX0_fillCost_91 : decode cX0_fillCost 91 = .ok (.goto 9, 3) := by decide +kernel
theorem dX0_fillCost_94 : decode cX0_fillCost 94 = .ok (.aload_n 0, 1) := by decide +kernel
theorem dX0_fillCost_95 : decode cX0_fillCost 95 = .ok (.getfield 13, 3) := by decide +kernel
theorem dX0_fillCost_98 : decode cX0_fillCost 98 = .ok (.iload_n 2, 1) := by decide +kernel
theorem dX0_fillCost_99 : decode cX0_fillCost 99 = .ok (.iaload, 1) := by decide +kernel
theorem dX0_fillCost_100 : decode cX0_fillCost 100 = .ok (.iastore, 1) := by decide +kernel
theorem dX0_fillCost_101 : decode cX0_fillCost 101 = .ok (.iinc 3 1, 3) := by decide +kernel
theorem dX0_fillCost_104 : decode cX0_fillCost 104 = .ok (.goto (-78), 3) := by decide +kernel
theorem dX0_fillCost_107 : decode cX0_fillCost 107 = .ok (.iinc 2 1, 3) := by decide +kernel
theorem dX0_fillCost_110 : decode cX0_fillCost 110 = .ok (.goto (-101), 3) := by decide +kernel
theorem dX0_fillCost_113 : decode cX0_fillCost 113 = .ok (.return_, 1) := by decide +kernel
theorem dX0_price_0 : decode cX0_price 0 = .ok (.iload_n 2, 1) := by decide +kernel
theorem dX0_price_1 : decode cX0_price 1 = .ok (.iconst 1, 1) := by decide +kernel
theorem dX0_price_2 : decode cX0_price 2 = .ok (.iload_n 3, 1) := by decide +kernel
theorem dX0_price_3 : decode cX0_price 3 = .ok (.ishl, 1) := by decide +kernel
theorem dX0_price_4 : decode cX0_price 4 = .ok (.ior, 1) := by decide +kernel
theorem dX0_price_5 : decode cX0_price 5 = .ok (.istore 4, 2) := by decide +kernel
theorem dX0_price_7 : decode cX0_price 7 = .ok (.iload_n 1, 1) := by decide +kernel
theorem dX0_price_8 : decode cX0_price 8 = .ok (.ifCond .eq 8, 3) := by decide +kernel
theorem dX0_price_11 : decode cX0_price 11 = .ok (.iload_n 1, 1) := by decide +kernel
theorem dX0_price_12 : decode cX0_price 12 = .ok (.iconst 3, 1) := by decide +kernel
theorem dX0_price_13 : decode cX0_price 13 = .ok (.if_icmp .ne 10, 3) := by decide +kernel
theorem dX0_price_16 : decode cX0_price 16 = .ok (.aload_n 0, 1) := by decide +kernel
theorem dX0_price_17 : decode cX0_price 17 = .ok (.iload 4, 2) := by decide +kernel
theorem dX0_price_19 : decode cX0_price 19 = .ok (.invokevirtual 48, 3) := by decide +kernel
theorem dX0_price_22 : decode cX0_price 22 = .ok (.ireturn, 1) := by decide +kernel
theorem dX0_price_23 : decode cX0_price 23 = .ok (.iload_n 1, 1) := by decide +kernel
theorem dX0_price_24 : decode cX0_price 24 = .ok (.iconst 1, 1) := by decide +kernel
theorem dX0_price_25 : decode cX0_price 25 = .ok (.if_icmp .ne 10, 3) := by decide +kernel
theorem dX0_price_28 : decode cX0_price 28 = .ok (.aload_n 0, 1) := by decide +kernel
theorem dX0_price_29 : decode cX0_price 29 = .ok (.iload 4, 2) := by decide +kernel
theorem dX0_price_31 : decode cX0_price 31 = .ok (.invokevirtual 51, 3) := by decide +kernel
theorem dX0_price_34 : decode cX0_price 34 = .ok (.ireturn, 1) := by decide +kernel
theorem dX0_price_35 : decode cX0_price 35 = .ok (.iload_n 1, 1) := by decide +kernel
theorem dX0_price_36 : decode cX0_price 36 = .ok (.iconst 2, 1) := by decide +kernel
theorem dX0_price_37 : decode cX0_price 37 = .ok (.if_icmp .ne 18, 3) := by decide +kernel
theorem dX0_price_40 : decode cX0_price 40 = .ok (.aload_n 0, 1) := by decide +kernel
theorem dX0_price_41 : decode cX0_price 41 = .ok (.iload_n 2, 1) := by decide +kernel
theorem dX0_price_42 : decode cX0_price 42 = .ok (.iload_n 3, 1) := by decide +kernel
theorem dX0_price_43 : decode cX0_price 43 = .ok (.invokevirtual 44, 3) := by decide +kernel
theorem dX0_price_46 : decode cX0_price 46 = .ok (.istore 5, 2) := by decide +kernel
theorem dX0_price_48 : decode cX0_price 48 = .ok (.aload_n 0, 1) := by decide +kernel
theorem dX0_price_49 : decode cX0_price 49 = .ok (.iload 5, 2) := by decide +kernel
theorem dX0_price_51 : decode cX0_price 51 = .ok (.invokevirtual 40, 3) := by decide +kernel
theorem dX0_price_54 : decode cX0_price 54 = .ok (.ireturn, 1) := by decide +kernel
theorem dX0_price_55 : decode cX0_price 55 = .ok (.aload_n 0, 1) := by decide +kernel
theorem dX0_price_56 : decode cX0_price 56 = .ok (.iload_n 2, 1) := by decide +kernel
theorem dX0_price_57 : decode cX0_price 57 = .ok (.iload_n 3, 1) := by decide +kernel
theorem dX0_price_58 : decode cX0_price 58 = .ok (.invokevirtual 54, 3) := by decide +kernel
theorem dX0_price_61 : decode cX0_price 61 = .ok (.ireturn, 1) := by decide +kernel
theorem dX0_cutOf_0 : decode cX0_cutOf 0 = .ok (.iconst 0, 1) := by decide +kernel
theorem dX0_cutOf_1 : decode cX0_cutOf 1 = .ok (.istore_n 2, 1) := by decide +kernel
theorem dX0_cutOf_2 : decode cX0_cutOf 2 = .ok (.iconst 0, 1) := by decide +kernel
theorem dX0_cutOf_3 : decode cX0_cutOf 3 = .ok (.istore_n 3, 1) := by decide +kernel
theorem dX0_cutOf_4 : decode cX0_cutOf 4 = .ok (.iload_n 3, 1) := by decide +kernel
theorem dX0_cutOf_5 : decode cX0_cutOf 5 = .ok (.bipush 6, 2) := by decide +kernel
theorem dX0_cutOf_7 : decode cX0_cutOf 7 = .ok (.if_icmp .ge 39, 3) := by decide +kernel
theorem dX0_cutOf_10 : decode cX0_cutOf 10 = .ok (.iload_n 1, 1) := by decide +kernel
theorem dX0_cutOf_11 : decode cX0_cutOf 11 = .ok (.iload_n 3, 1) := by decide +kernel
theorem dX0_cutOf_12 : decode cX0_cutOf 12 = .ok (.ishr, 1) := by decide +kernel
theorem dX0_cutOf_13 : decode cX0_cutOf 13 = .ok (.iconst 1, 1) := by decide +kernel
theorem dX0_cutOf_14 : decode cX0_cutOf 14 = .ok (.iand, 1) := by decide +kernel
theorem dX0_cutOf_15 : decode cX0_cutOf 15 = .ok (.iconst 1, 1) := by decide +kernel
theorem dX0_cutOf_16 : decode cX0_cutOf 16 = .ok (.if_icmp .ne 24, 3) := by decide +kernel
theorem dX0_cutOf_19 : decode cX0_cutOf 19 = .ok (.aload_n 0, 1) := by decide +kernel
theorem dX0_cutOf_20 : decode cX0_cutOf 20 = .ok (.aload_n 0, 1) := by decide +kernel
theorem dX0_cutOf_21 : decode cX0_cutOf 21 = .ok (.getfield 7, 3) := by decide +kernel
theorem dX0_cutOf_24 : decode cX0_cutOf 24 = .ok (.iload_n 3, 1) := by decide +kernel
theorem dX0_cutOf_25 : decode cX0_cutOf 25 = .ok (.iaload, 1) := by decide +kernel
theorem dX0_cutOf_26 : decode cX0_cutOf 26 = .ok (.iload_n 1, 1) := by decide +kernel
theorem dX0_cutOf_27 : decode cX0_cutOf 27 = .ok (.iconst (-1), 1) := by decide +kernel
theorem dX0_cutOf_28 : decode cX0_cutOf 28 = .ok (.ixor, 1) := by decide +kernel
theorem dX0_cutOf_29 : decode cX0_cutOf 29 = .ok (.iand, 1) := by decide +kernel
theorem dX0_cutOf_30 : decode cX0_cutOf 30 = .ok (.invokevirtual 40, 3) := by decide +kernel
theorem dX0_cutOf_33 : decode cX0_cutOf 33 = .ok (.istore 4, 2) := by decide +kernel
theorem dX0_cutOf_35 : decode cX0_cutOf 35 = .ok (.iload_n 2, 1) := by decide +kernel
theorem dX0_cutOf_36 : decode cX0_cutOf 36 = .ok (.iload 4, 2) := by decide +kernel
theorem dX0_cutOf_38 : decode cX0_cutOf 38 = .ok (.iadd, 1) := by decide +kernel
theorem dX0_cutOf_39 : decode cX0_cutOf 39 = .ok (.istore_n 2, 1) := by decide +kernel
theorem dX0_cutOf_40 : decode cX0_cutOf 40 = .ok (.iinc 3 1, 3) := by decide +kernel
theorem dX0_cutOf_43 : decode cX0_cutOf 43 = .ok (.goto (-39), 3) := by decide +kernel
theorem dX0_cutOf_46 : decode cX0_cutOf 46 = .ok (.iload_n 2, 1) := by decide +kernel
theorem dX0_cutOf_47 : decode cX0_cutOf 47 = .ok (.ireturn, 1) := by decide +kernel
theorem dX0_separationOf_0 : decode cX0_separationOf 0 = .ok (.iconst 0, 1) := by decide +kernel
theorem dX0_separationOf_1 : decode cX0_separationOf 1 = .ok (.istore_n 2, 1) := by decide +kernel
theorem dX0_separationOf_2 : decode cX0_separationOf 2 = .ok (.iconst 0, 1) := by decide +kernel
theorem dX0_separationOf_3 : decode cX0_separationOf 3 = .ok (.istore_n 3, 1) := by decide +kernel
theorem dX0_separationOf_4 : decode cX0_separationOf 4 = .ok (.iload_n 3, 1) := by decide +kernel
theorem dX0_separationOf_5 : decode cX0_separationOf 5 = .ok (.bipush 6, 2) := by decide +kernel
theorem dX0_separationOf_7 : decode cX0_separationOf 7 = .ok (.if_icmp .ge 34, 3) := by decide +kernel
theorem dX0_separationOf_10 : decode cX0_separationOf 10 = .ok (.iload_n 1, 1) := by decide +kernel
theorem dX0_separationOf_11 : decode cX0_separationOf 11 = .ok (.iload_n 3, 1) := by decide +kernel
theorem dX0_separationOf_12 : decode cX0_separationOf 12 = .ok (.ishr, 1) := by decide +kernel
theorem dX0_separationOf_13 : decode cX0_separationOf 13 = .ok (.iconst 1, 1) := by decide +kernel
theorem dX0_separationOf_14 : decode cX0_separationOf 14 = .ok (.iand, 1) := by decide +kernel
theorem dX0_separationOf_15 : decode cX0_separationOf 15 = .ok (.iconst 1, 1) := by decide +kernel
theorem dX0_separationOf_16 : decode cX0_separationOf 16 = .ok (.if_icmp .ne 19, 3) := by decide +kernel
theorem dX0_separationOf_19 : decode cX0_separationOf 19 = .ok (.aload_n 0, 1) := by decide +kernel
theorem dX0_separationOf_20 : decode cX0_separationOf 20 = .ok (.getfield 7, 3) := by decide +kernel
theorem dX0_separationOf_23 : decode cX0_separationOf 23 = .ok (.iload_n 3, 1) := by decide +kernel
theorem dX0_separationOf_24 : decode cX0_separationOf 24 = .ok (.iaload, 1) := by decide +kernel
theorem dX0_separationOf_25 : decode cX0_separationOf 25 = .ok (.iload_n 1, 1) := by decide +kernel
theorem dX0_separationOf_26 : decode cX0_separationOf 26 = .ok (.iconst (-1), 1) := by decide +kernel
theorem dX0_separationOf_27 : decode cX0_separationOf 27 = .ok (.ixor, 1) := by decide +kernel
theorem dX0_separationOf_28 : decode cX0_separationOf 28 = .ok (.iand, 1) := by decide +kernel
theorem dX0_separationOf_29 : decode cX0_separationOf 29 = .ok (.ifCond .eq 6, 3) := by decide +kernel
theorem dX0_separationOf_32 : decode cX0_separationOf 32 = .ok (.iinc 2 1, 3) := by decide +kernel
theorem dX0_separationOf_35 : decode cX0_separationOf 35 = .ok (.iinc 3 1, 3) := by decide +kernel
theorem dX0_separationOf_38 : decode cX0_separationOf 38 = .ok (.goto (-34), 3) := by decide +kernel
theorem dX0_separationOf_41 : decode cX0_separationOf 41 = .ok (.iload_n 2, 1) := by decide +kernel
theorem dX0_separationOf_42 : decode cX0_separationOf 42 = .ok (.ireturn, 1) := by decide +kernel
theorem dX0_neighbours_0 : decode cX0_neighbours 0 = .ok (.iconst 1, 1) := by decide +kernel
theorem dX0_neighbours_1 : decode cX0_neighbours 1 = .ok (.iload_n 2, 1) := by decide +kernel
theorem dX0_neighbours_2 : decode cX0_neighbours 2 = .ok (.ishl, 1) := by decide +kernel
theorem dX0_neighbours_3 : decode cX0_neighbours 3 = .ok (.istore_n 3, 1) := by decide +kernel
theorem dX0_neighbours_4 : decode cX0_neighbours 4 = .ok (.iconst 0, 1) := by decide +kernel
theorem dX0_neighbours_5 : decode cX0_neighbours 5 = .ok (.istore 4, 2) := by decide +kernel
theorem dX0_neighbours_7 : decode cX0_neighbours 7 = .ok (.iload 4, 2) := by decide +kernel
theorem dX0_neighbours_9 : decode cX0_neighbours 9 = .ok (.bipush 6, 2) := by decide +kernel
theorem dX0_neighbours_11 : decode cX0_neighbours 11 = .ok (.if_icmp .ge 71, 3) := by decide +kernel
theorem dX0_neighbours_14 : decode cX0_neighbours 14 = .ok (.iconst 0, 1) := by decide +kernel
theorem dX0_neighbours_15 : decode cX0_neighbours 15 = .ok (.istore 5, 2) := by decide +kernel
theorem dX0_neighbours_17 : decode cX0_neighbours 17 = .ok (.iconst 0, 1) := by decide +kernel
theorem dX0_neighbours_18 : decode cX0_neighbours 18 = .ok (.istore 6, 2) := by decide +kernel
theorem dX0_neighbours_20 : decode cX0_neighbours 20 = .ok (.iload 6, 2) := by decide +kernel
theorem dX0_neighbours_22 : decode cX0_neighbours 22 = .ok (.bipush 6, 2) := by decide +kernel
theorem dX0_neighbours_24 : decode cX0_neighbours 24 = .ok (.if_icmp .ge 47, 3) := by decide +kernel
theorem dX0_neighbours_27 : decode cX0_neighbours 27 = .ok (.iload_n 3, 1) := by decide +kernel
theorem dX0_neighbours_28 : decode cX0_neighbours 28 = .ok (.iload 6, 2) := by decide +kernel
theorem dX0_neighbours_30 : decode cX0_neighbours 30 = .ok (.ishr, 1) := by decide +kernel
theorem dX0_neighbours_31 : decode cX0_neighbours 31 = .ok (.iconst 1, 1) := by decide +kernel
theorem dX0_neighbours_32 : decode cX0_neighbours 32 = .ok (.iand, 1) := by decide +kernel
theorem dX0_neighbours_33 : decode cX0_neighbours 33 = .ok (.iconst 1, 1) := by decide +kernel
theorem dX0_neighbours_34 : decode cX0_neighbours 34 = .ok (.if_icmp .ne 31, 3) := by decide +kernel
theorem dX0_neighbours_37 : decode cX0_neighbours 37 = .ok (.iload 6, 2) := by decide +kernel
end
section
set_option maxRecDepth 100000
theorem dX0_neighbours_39 : decode cX0_neighbours 39 = .ok (.iload_n 2, 1) := by decide +kernel
theorem dX0_neighbours_40 : decode cX0_neighbours 40 = .ok (.if_icmp .eq 13, 3) := by decide +kernel
theorem dX0_neighbours_43 : decode cX0_neighbours 43 = .ok (.iload_n 1, 1) := by decide +kernel
theorem dX0_neighbours_44 : decode cX0_neighbours 44 = .ok (.iload 6, 2) := by decide +kernel
theorem dX0_neighbours_46 : decode cX0_neighbours 46 = .ok (.ishr, 1) := by decide +kernel
theorem dX0_neighbours_47 : decode cX0_neighbours 47 = .ok (.iconst 1, 1) := by decide +kernel
theorem dX0_neighbours_48 : decode cX0_neighbours 48 = .ok (.iand, 1) := by decide +kernel
theorem dX0_neighbours_49 : decode cX0_neighbours 49 = .ok (.iconst 1, 1) := by decide +kernel
theorem dX0_neighbours_50 : decode cX0_neighbours 50 = .ok (.if_icmp .ne 15, 3) := by decide +kernel
theorem dX0_neighbours_53 : decode cX0_neighbours 53 = .ok (.iload 5, 2) := by decide +kernel
theorem dX0_neighbours_55 : decode cX0_neighbours 55 = .ok (.aload_n 0, 1) := by decide +kernel
theorem dX0_neighbours_56 : decode cX0_neighbours 56 = .ok (.getfield 7, 3) := by decide +kernel
theorem dX0_neighbours_59 : decode cX0_neighbours 59 = .ok (.iload 6, 2) := by decide +kernel
theorem dX0_neighbours_61 : decode cX0_neighbours 61 = .ok (.iaload, 1) := by decide +kernel
theorem dX0_neighbours_62 : decode cX0_neighbours 62 = .ok (.ior, 1) := by decide +kernel
theorem dX0_neighbours_63 : decode cX0_neighbours 63 = .ok (.istore 5, 2) := by decide +kernel
theorem dX0_neighbours_65 : decode cX0_neighbours 65 = .ok (.iinc 6 1, 3) := by decide +kernel
theorem dX0_neighbours_68 : decode cX0_neighbours 68 = .ok (.goto (-48), 3) := by decide +kernel
theorem dX0_neighbours_71 : decode cX0_neighbours 71 = .ok (.iload_n 3, 1) := by decide +kernel
theorem dX0_neighbours_72 : decode cX0_neighbours 72 = .ok (.iload 5, 2) := by decide +kernel
theorem dX0_neighbours_74 : decode cX0_neighbours 74 = .ok (.ior, 1) := by decide +kernel
theorem dX0_neighbours_75 : decode cX0_neighbours 75 = .ok (.istore_n 3, 1) := by decide +kernel
theorem dX0_neighbours_76 : decode cX0_neighbours 76 = .ok (.iinc 4 1, 3) := by decide +kernel
theorem dX0_neighbours_79 : decode cX0_neighbours 79 = .ok (.goto (-72), 3) := by decide +kernel
theorem dX0_neighbours_82 : decode cX0_neighbours 82 = .ok (.iload_n 3, 1) := by decide +kernel
theorem dX0_neighbours_83 : decode cX0_neighbours 83 = .ok (.iload_n 1, 1) := by decide +kernel
theorem dX0_neighbours_84 : decode cX0_neighbours 84 = .ok (.iconst (-1), 1) := by decide +kernel
theorem dX0_neighbours_85 : decode cX0_neighbours 85 = .ok (.ixor, 1) := by decide +kernel
theorem dX0_neighbours_86 : decode cX0_neighbours 86 = .ok (.iand, 1) := by decide +kernel
theorem dX0_neighbours_87 : decode cX0_neighbours 87 = .ok (.iconst 1, 1) := by decide +kernel
theorem dX0_neighbours_88 : decode cX0_neighbours 88 = .ok (.iload_n 2, 1) := by decide +kernel
theorem dX0_neighbours_89 : decode cX0_neighbours 89 = .ok (.ishl, 1) := by decide +kernel
theorem dX0_neighbours_90 : decode cX0_neighbours 90 = .ok (.iconst (-1), 1) := by decide +kernel
theorem dX0_neighbours_91 : decode cX0_neighbours 91 = .ok (.ixor, 1) := by decide +kernel
theorem dX0_neighbours_92 : decode cX0_neighbours 92 = .ok (.iand, 1) := by decide +kernel
theorem dX0_neighbours_93 : decode cX0_neighbours 93 = .ok (.ireturn, 1) := by decide +kernel
theorem dX0_missing_0 : decode cX0_missing 0 = .ok (.aload_n 0, 1) := by decide +kernel
theorem dX0_missing_1 : decode cX0_missing 1 = .ok (.iload_n 1, 1) := by decide +kernel
theorem dX0_missing_2 : decode cX0_missing 2 = .ok (.iload_n 2, 1) := by decide +kernel
theorem dX0_missing_3 : decode cX0_missing 3 = .ok (.invokevirtual 44, 3) := by decide +kernel
theorem dX0_missing_6 : decode cX0_missing 6 = .ok (.istore_n 3, 1) := by decide +kernel
theorem dX0_missing_7 : decode cX0_missing 7 = .ok (.iconst 0, 1) := by decide +kernel
theorem dX0_missing_8 : decode cX0_missing 8 = .ok (.istore 4, 2) := by decide +kernel
theorem dX0_missing_10 : decode cX0_missing 10 = .ok (.iconst 0, 1) := by decide +kernel
theorem dX0_missing_11 : decode cX0_missing 11 = .ok (.istore 5, 2) := by decide +kernel
theorem dX0_missing_13 : decode cX0_missing 13 = .ok (.iload 5, 2) := by decide +kernel
theorem dX0_missing_15 : decode cX0_missing 15 = .ok (.bipush 6, 2) := by decide +kernel
theorem dX0_missing_17 : decode cX0_missing 17 = .ok (.if_icmp .ge 54, 3) := by decide +kernel
theorem dX0_missing_20 : decode cX0_missing 20 = .ok (.iload_n 3, 1) := by decide +kernel
theorem dX0_missing_21 : decode cX0_missing 21 = .ok (.iload 5, 2) := by decide +kernel
theorem dX0_missing_23 : decode cX0_missing 23 = .ok (.ishr, 1) := by decide +kernel
theorem dX0_missing_24 : decode cX0_missing 24 = .ok (.iconst 1, 1) := by decide +kernel
theorem dX0_missing_25 : decode cX0_missing 25 = .ok (.iand, 1) := by decide +kernel
theorem dX0_missing_26 : decode cX0_missing 26 = .ok (.iconst 1, 1) := by decide +kernel
theorem dX0_missing_27 : decode cX0_missing 27 = .ok (.if_icmp .ne 38, 3) := by decide +kernel
theorem dX0_missing_30 : decode cX0_missing 30 = .ok (.aload_n 0, 1) := by decide +kernel
theorem dX0_missing_31 : decode cX0_missing 31 = .ok (.iload_n 1, 1) := by decide +kernel
theorem dX0_missing_32 : decode cX0_missing 32 = .ok (.iload 5, 2) := by decide +kernel
theorem dX0_missing_34 : decode cX0_missing 34 = .ok (.invokevirtual 44, 3) := by decide +kernel
theorem dX0_missing_37 : decode cX0_missing 37 = .ok (.istore 6, 2) := by decide +kernel
theorem dX0_missing_39 : decode cX0_missing 39 = .ok (.aload_n 0, 1) := by decide +kernel
theorem dX0_missing_40 : decode cX0_missing 40 = .ok (.iload_n 3, 1) := by decide +kernel
theorem dX0_missing_41 : decode cX0_missing 41 = .ok (.iload 6, 2) := by decide +kernel
theorem dX0_missing_43 : decode cX0_missing 43 = .ok (.iconst (-1), 1) := by decide +kernel
theorem dX0_missing_44 : decode cX0_missing 44 = .ok (.ixor, 1) := by decide +kernel
theorem dX0_missing_45 : decode cX0_missing 45 = .ok (.iand, 1) := by decide +kernel
theorem dX0_missing_46 : decode cX0_missing 46 = .ok (.iconst 1, 1) := by decide +kernel
theorem dX0_missing_47 : decode cX0_missing 47 = .ok (.iload 5, 2) := by decide +kernel
theorem dX0_missing_49 : decode cX0_missing 49 = .ok (.ishl, 1) := by decide +kernel
theorem dX0_missing_50 : decode cX0_missing 50 = .ok (.iconst (-1), 1) := by decide +kernel
theorem dX0_missing_51 : decode cX0_missing 51 = .ok (.ixor, 1) := by decide +kernel
theorem dX0_missing_52 : decode cX0_missing 52 = .ok (.iand, 1) := by decide +kernel
theorem dX0_missing_53 : decode cX0_missing 53 = .ok (.invokevirtual 40, 3) := by decide +kernel
theorem dX0_missing_56 : decode cX0_missing 56 = .ok (.istore 7, 2) := by decide +kernel
theorem dX0_missing_58 : decode cX0_missing 58 = .ok (.iload 4, 2) := by decide +kernel
theorem dX0_missing_60 : decode cX0_missing 60 = .ok (.iload 7, 2) := by decide +kernel
theorem dX0_missing_62 : decode cX0_missing 62 = .ok (.iadd, 1) := by decide +kernel
theorem dX0_missing_63 : decode cX0_missing 63 = .ok (.istore 4, 2) := by decide +kernel
theorem dX0_missing_65 : decode cX0_missing 65 = .ok (.iinc 5 1, 3) := by decide +kernel
theorem dX0_missing_68 : decode cX0_missing 68 = .ok (.goto (-55), 3) := by decide +kernel
theorem dX0_missing_71 : decode cX0_missing 71 = .ok (.iload 4, 2) := by decide +kernel
theorem dX0_missing_73 : decode cX0_missing 73 = .ok (.iconst 2, 1) := by decide +kernel
theorem dX0_missing_74 : decode cX0_missing 74 = .ok (.idiv, 1) := by decide +kernel
theorem dX0_missing_75 : decode cX0_missing 75 = .ok (.ireturn, 1) := by decide +kernel
theorem dX0_joined_0 : decode cX0_joined 0 = .ok (.iload_n 1, 1) := by decide +kernel
theorem dX0_joined_1 : decode cX0_joined 1 = .ok (.iconst 3, 1) := by decide +kernel
theorem dX0_joined_2 : decode cX0_joined 2 = .ok (.if_icmp .lt 7, 3) := by decide +kernel
theorem dX0_joined_5 : decode cX0_joined 5 = .ok (.iload_n 2, 1) := by decide +kernel
theorem dX0_joined_6 : decode cX0_joined 6 = .ok (.iload_n 3, 1) := by decide +kernel
theorem dX0_joined_7 : decode cX0_joined 7 = .ok (.iadd, 1) := by decide +kernel
theorem dX0_joined_8 : decode cX0_joined 8 = .ok (.ireturn, 1) := by decide +kernel
theorem dX0_joined_9 : decode cX0_joined 9 = .ok (.iload_n 2, 1) := by decide +kernel
theorem dX0_joined_10 : decode cX0_joined 10 = .ok (.iload_n 3, 1) := by decide +kernel
theorem dX0_joined_11 : decode cX0_joined 11 = .ok (.if_icmp .le 7, 3) := by decide +kernel
theorem dX0_joined_14 : decode cX0_joined 14 = .ok (.iload_n 2, 1) := by decide +kernel
theorem dX0_joined_15 : decode cX0_joined 15 = .ok (.goto 4, 3) := by decide +kernel
theorem dX0_joined_18 : decode cX0_joined 18 = .ok (.iload_n 3, 1) := by decide +kernel
theorem dX0_joined_19 : decode cX0_joined 19 = .ok (.ireturn, 1) := by decide +kernel
theorem dX0_separation_0 : decode cX0_separation 0 = .ok (.aload_n 0, 1) := by decide +kernel
theorem dX0_separation_1 : decode cX0_separation 1 = .ok (.iconst 1, 1) := by decide +kernel
theorem dX0_separation_2 : decode cX0_separation 2 = .ok (.invokevirtual 71, 3) := by decide +kernel
theorem dX0_separation_5 : decode cX0_separation 5 = .ok (.ireturn, 1) := by decide +kernel
theorem dX0_stretch_0 : decode cX0_stretch 0 = .ok (.iconst 0, 1) := by decide +kernel
theorem dX0_stretch_1 : decode cX0_stretch 1 = .ok (.istore_n 1, 1) := by decide +kernel
theorem dX0_stretch_2 : decode cX0_stretch 2 = .ok (.iload_n 1, 1) := by decide +kernel
theorem dX0_stretch_3 : decode cX0_stretch 3 = .ok (.iconst 5, 1) := by decide +kernel
theorem dX0_stretch_4 : decode cX0_stretch 4 = .ok (.if_icmp .ge 21, 3) := by decide +kernel
theorem dX0_stretch_7 : decode cX0_stretch 7 = .ok (.aload_n 0, 1) := by decide +kernel
theorem dX0_stretch_8 : decode cX0_stretch 8 = .ok (.iload_n 1, 1) := by decide +kernel
theorem dX0_stretch_9 : decode cX0_stretch 9 = .ok (.invokevirtual 78, 3) := by decide +kernel
theorem dX0_stretch_12 : decode cX0_stretch 12 = .ok (.istore_n 2, 1) := by decide +kernel
theorem dX0_stretch_13 : decode cX0_stretch 13 = .ok (.iload_n 2, 1) := by decide +kernel
theorem dX0_stretch_14 : decode cX0_stretch 14 = .ok (.ifCond .eq 5, 3) := by decide +kernel
theorem dX0_stretch_17 : decode cX0_stretch 17 = .ok (.iload_n 1, 1) := by decide +kernel
theorem dX0_stretch_18 : decode cX0_stretch 18 = .ok (.ireturn, 1) := by decide +kernel
theorem dX0_stretch_19 : decode cX0_stretch 19 = .ok (.iinc 1 1, 3) := by decide +kernel
theorem dX0_stretch_22 : decode cX0_stretch 22 = .ok (.goto (-20), 3) := by decide +kernel
theorem dX0_stretch_25 : decode cX0_stretch 25 = .ok (.iconst 5, 1) := by decide +kernel
theorem dX0_stretch_26 : decode cX0_stretch 26 = .ok (.ireturn, 1) := by decide +kernel
theorem dX0_fits_0 : decode cX0_fits 0 = .ok (.iconst 0, 1) := by decide +kernel
theorem dX0_fits_1 : decode cX0_fits 1 = .ok (.istore_n 2, 1) := by decide +kernel
theorem dX0_fits_2 : decode cX0_fits 2 = .ok (.iconst 0, 1) := by decide +kernel
theorem dX0_fits_3 : decode cX0_fits 3 = .ok (.istore_n 3, 1) := by decide +kernel
theorem dX0_fits_4 : decode cX0_fits 4 = .ok (.aload_n 0, 1) := by decide +kernel
theorem dX0_fits_5 : decode cX0_fits 5 = .ok (.getfield 25, 3) := by decide +kernel
theorem dX0_fits_8 : decode cX0_fits 8 = .ok (.iconst 0, 1) := by decide +kernel
theorem dX0_fits_9 : decode cX0_fits 9 = .ok (.iconst 0, 1) := by decide +kernel
theorem dX0_fits_10 : decode cX0_fits 10 = .ok (.iastore, 1) := by decide +kernel
theorem dX0_fits_11 : decode cX0_fits 11 = .ok (.iconst 0, 1) := by decide +kernel
theorem dX0_fits_12 : decode cX0_fits 12 = .ok (.istore 4, 2) := by decide +kernel
theorem dX0_fits_14 : decode cX0_fits 14 = .ok (.iload 4, 2) := by decide +kernel
theorem dX0_fits_16 : decode cX0_fits 16 = .ok (.sipush 20000, 3) := by decide +kernel
theorem dX0_fits_19 : decode cX0_fits 19 = .ok (.if_icmp .ge 124, 3) := by decide +kernel
theorem dX0_fits_22 : decode cX0_fits 22 = .ok (.iload_n 2, 1) := by decide +kernel
theorem dX0_fits_23 : decode cX0_fits 23 = .ok (.ifCond .lt 120, 3) := by decide +kernel
theorem dX0_fits_26 : decode cX0_fits 26 = .ok (.iload_n 2, 1) := by decide +kernel
theorem dX0_fits_27 : decode cX0_fits 27 = .ok (.bipush 6, 2) := by decide +kernel
theorem dX0_fits_29 : decode cX0_fits 29 = .ok (.if_icmp .ne 5, 3) := by decide +kernel
theorem dX0_fits_32 : decode cX0_fits 32 = .ok (.iconst 1, 1) := by decide +kernel
theorem dX0_fits_33 : decode cX0_fits 33 = .ok (.ireturn, 1) := by decide +kernel
theorem dX0_fits_34 : decode cX0_fits 34 = .ok (.aload_n 0, 1) := by decide +kernel
theorem dX0_fits_35 : decode cX0_fits 35 = .ok (.getfield 25, 3) := by decide +kernel
theorem dX0_fits_38 : decode cX0_fits 38 = .ok (.iload_n 2, 1) := by decide +kernel
theorem dX0_fits_39 : decode cX0_fits 39 = .ok (.iaload, 1) := by decide +kernel
theorem dX0_fits_40 : decode cX0_fits 40 = .ok (.bipush 6, 2) := by decide +kernel
theorem dX0_fits_42 : decode cX0_fits 42 = .ok (.if_icmp .ne 26, 3) := by decide +kernel
theorem dX0_fits_45 : decode cX0_fits 45 = .ok (.iinc 2 (-1), 3) := by decide +kernel
theorem dX0_fits_48 : decode cX0_fits 48 = .ok (.iload_n 2, 1) := by decide +kernel
theorem dX0_fits_49 : decode cX0_fits 49 = .ok (.ifCond .lt 88, 3) := by decide +kernel
theorem dX0_fits_52 : decode cX0_fits 52 = .ok (.iload_n 3, 1) := by decide +kernel
theorem dX0_fits_53 : decode cX0_fits 53 = .ok (.iconst 1, 1) := by decide +kernel
theorem dX0_fits_54 : decode cX0_fits 54 = .ok (.aload_n 0, 1) := by decide +kernel
theorem dX0_fits_55 : decode cX0_fits 55 = .ok (.getfield 22, 3) := by decide +kernel
theorem dX0_fits_58 : decode cX0_fits 58 = .ok (.iload_n 2, 1) := by decide +kernel
theorem dX0_fits_59 : decode cX0_fits 59 = .ok (.iaload, 1) := by decide +kernel
theorem dX0_fits_60 : decode cX0_fits 60 = .ok (.ishl, 1) := by decide +kernel
theorem dX0_fits_61 : decode cX0_fits 61 = .ok (.iconst (-1), 1) := by decide +kernel
theorem dX0_fits_62 : decode cX0_fits 62 = .ok (.ixor, 1) := by decide +kernel
theorem dX0_fits_63 : decode cX0_fits 63 = .ok (.iand, 1) := by decide +kernel
theorem dX0_fits_64 : decode cX0_fits 64 = .ok (.istore_n 3, 1) := by decide +kernel
theorem dX0_fits_65 : decode cX0_fits 65 = .ok (.goto 72, 3) := by decide +kernel
theorem dX0_fits_68 : decode cX0_fits 68 = .ok (.aload_n 0, 1) := by decide +kernel
theorem dX0_fits_69 : decode cX0_fits 69 = .ok (.getfield 25, 3) := by decide +kernel
theorem dX0_fits_72 : decode cX0_fits 72 = .ok (.iload_n 2, 1) := by decide +kernel
theorem dX0_fits_73 : decode cX0_fits 73 = .ok (.iaload, 1) := by decide +kernel
theorem dX0_fits_74 : decode cX0_fits 74 = .ok (.istore 5, 2) := by decide +kernel
theorem dX0_fits_76 : decode cX0_fits 76 = .ok (.aload_n 0, 1) := by decide +kernel
theorem dX0_fits_77 : decode cX0_fits 77 = .ok (.getfield 25, 3) := by decide +kernel
theorem dX0_fits_80 : decode cX0_fits 80 = .ok (.iload_n 2, 1) := by decide +kernel
theorem dX0_fits_81 : decode cX0_fits 81 = .ok (.iload 5, 2) := by decide +kernel
theorem dX0_fits_83 : decode cX0_fits 83 = .ok (.iconst 1, 1) := by decide +kernel
theorem dX0_fits_84 : decode cX0_fits 84 = .ok (.iadd, 1) := by decide +kernel
theorem dX0_fits_85 : decode cX0_fits 85 = .ok (.iastore, 1) := by decide +kernel
theorem dX0_fits_86 : decode cX0_fits 86 = .ok (.iload_n 3, 1) := by decide +kernel
theorem dX0_fits_87 : decode cX0_fits 87 = .ok (.iload 5, 2) := by decide +kernel
theorem dX0_fits_89 : decode cX0_fits 89 = .ok (.ishr, 1) := by decide +kernel
theorem dX0_fits_90 : decode cX0_fits 90 = .ok (.iconst 1, 1) := by decide +kernel
theorem dX0_fits_91 : decode cX0_fits 91 = .ok (.iand, 1) := by decide +kernel
theorem dX0_fits_92 : decode cX0_fits 92 = .ok (.ifCond .ne 45, 3) := by decide +kernel
theorem dX0_fits_95 : decode cX0_fits 95 = .ok (.aload_n 0, 1) := by decide +kernel
theorem dX0_fits_96 : decode cX0_fits 96 = .ok (.iload 5, 2) := by decide +kernel
theorem dX0_fits_98 : decode cX0_fits 98 = .ok (.iload_n 2, 1) := by decide +kernel
theorem dX0_fits_99 : decode cX0_fits 99 = .ok (.iload_n 1, 1) := by decide +kernel
theorem dX0_fits_100 : decode cX0_fits 100 = .ok (.invokevirtual 74, 3) := by decide +kernel
theorem dX0_fits_103 : decode cX0_fits 103 = .ok (.ifCond .eq 34, 3) := by decide +kernel
theorem dX0_fits_106 : decode cX0_fits 106 = .ok (.aload_n 0, 1) := by decide +kernel
theorem dX0_fits_107 : decode cX0_fits 107 = .ok (.getfield 22, 3) := by decide +kernel
theorem dX0_fits_110 : decode cX0_fits 110 = .ok (.iload_n 2, 1) := by decide +kernel
theorem dX0_fits_111 : decode cX0_fits 111 = .ok (.iload 5, 2) := by decide +kernel
theorem dX0_fits_113 : decode cX0_fits 113 = .ok (.iastore, 1) := by decide +kernel
theorem dX0_fits_114 : decode cX0_fits 114 = .ok (.iload_n 3, 1) := by decide +kernel
theorem dX0_fits_115 : decode cX0_fits 115 = .ok (.iconst 1, 1) := by decide +kernel
theorem dX0_fits_116 : decode cX0_fits 116 = .ok (.iload 5, 2) := by decide +kernel
theorem dX0_fits_118 : decode cX0_fits 118 = .ok (.ishl, 1) := by decide +kernel
theorem dX0_fits_119 : decode cX0_fits 119 = .ok (.ior, 1) := by decide +kernel
theorem dX0_fits_120 : decode cX0_fits 120 = .ok (.istore_n 3, 1) := by decide +kernel
theorem dX0_fits_121 : decode cX0_fits 121 = .ok (.iinc 2 1, 3) := by decide +kernel
theorem dX0_fits_124 : decode cX0_fits 124 = .ok (.iload_n 2, 1) := by decide +kernel
theorem dX0_fits_125 : decode cX0_fits 125 = .ok (.bipush 6, 2) := by decide +kernel
theorem dX0_fits_127 : decode cX0_fits 127 = .ok (.if_icmp .ge 10, 3) := by decide +kernel
theorem dX0_fits_130 : decode cX0_fits 130 = .ok (.aload_n 0, 1) := by decide +kernel
theorem dX0_fits_131 : decode cX0_fits 131 = .ok (.getfield 25, 3) := by decide +kernel
theorem dX0_fits_134 : decode cX0_fits 134 = .ok (.iload_n 2, 1) := by decide +kernel
theorem dX0_fits_135 : decode cX0_fits 135 = .ok (.iconst 0, 1) := by decide +kernel
theorem dX0_fits_136 : decode cX0_fits 136 = .ok (.iastore, 1) := by decide +kernel
theorem dX0_fits_137 : decode cX0_fits 137 = .ok (.iinc 4 1, 3) := by decide +kernel
theorem dX0_fits_140 : decode cX0_fits 140 = .ok (.goto (-126), 3) := by decide +kernel
theorem dX0_fits_143 : decode cX0_fits 143 = .ok (.iconst 0, 1) := by decide +kernel
theorem dX0_fits_144 : decode cX0_fits 144 = .ok (.ireturn, 1) := by decide +kernel
theorem dX0_reaches_0 : decode cX0_reaches 0 = .ok (.iconst 0, 1) := by decide +kernel
theorem dX0_reaches_1 : decode cX0_reaches 1 = .ok (.istore 4, 2) := by decide +kernel
theorem dX0_reaches_3 : decode cX0_reaches 3 = .ok (.iload 4, 2) := by decide +kernel
theorem dX0_reaches_5 : decode cX0_reaches 5 = .ok (.iload_n 2, 1) := by decide +kernel
theorem dX0_reaches_6 : decode cX0_reaches 6 = .ok (.iload_n 3, 1) := by decide +kernel
theorem dX0_reaches_7 : decode cX0_reaches 7 = .ok (.isub, 1) := by decide +kernel
theorem dX0_reaches_8 : decode cX0_reaches 8 = .ok (.if_icmp .ge 31, 3) := by decide +kernel
theorem dX0_reaches_11 : decode cX0_reaches 11 = .ok (.aload_n 0, 1) := by decide +kernel
theorem dX0_reaches_12 : decode cX0_reaches 12 = .ok (.getfield 7, 3) := by decide +kernel
theorem dX0_reaches_15 : decode cX0_reaches 15 = .ok (.iload_n 1, 1) := by decide +kernel
theorem dX0_reaches_16 : decode cX0_reaches 16 = .ok (.iaload, 1) := by decide +kernel
theorem dX0_reaches_17 : decode cX0_reaches 17 = .ok (.aload_n 0, 1) := by decide +kernel
theorem dX0_reaches_18 : decode cX0_reaches 18 = .ok (.getfield 22, 3) := by decide +kernel
theorem dX0_reaches_21 : decode cX0_reaches 21 = .ok (.iload 4, 2) := by decide +kernel
theorem dX0_reaches_23 : decode cX0_reaches 23 = .ok (.iaload, 1) := by decide +kernel
theorem dX0_reaches_24 : decode cX0_reaches 24 = .ok (.ishr, 1) := by decide +kernel
theorem dX0_reaches_25 : decode cX0_reaches 25 = .ok (.iconst 1, 1) := by decide +kernel
theorem dX0_reaches_26 : decode cX0_reaches 26 = .ok (.iand, 1) := by decide +kernel
theorem dX0_reaches_27 : decode cX0_reaches 27 = .ok (.iconst 1, 1) := by decide +kernel
theorem dX0_reaches_28 : decode cX0_reaches 28 = .ok (.if_icmp .ne 5, 3) := by decide +kernel
theorem dX0_reaches_31 : decode cX0_reaches 31 = .ok (.iconst 0, 1) := by decide +kernel
theorem dX0_reaches_32 : decode cX0_reaches 32 = .ok (.ireturn, 1) := by decide +kernel
theorem dX0_reaches_33 : decode cX0_reaches 33 = .ok (.iinc 4 1, 3) := by decide +kernel
theorem dX0_reaches_36 : decode cX0_reaches 36 = .ok (.goto (-33), 3) := by decide +kernel
theorem dX0_reaches_39 : decode cX0_reaches 39 = .ok (.iconst 1, 1) := by decide +kernel
theorem dX0_reaches_40 : decode cX0_reaches 40 = .ok (.ireturn, 1) := by decide +kernel
theorem dX0_length_0 : decode cX0_length 0 = .ok (.aload_n 0, 1) := by decide +kernel
theorem dX0_length_1 : decode cX0_length 1 = .ok (.iconst 3, 1) := by decide +kernel
theorem dX0_length_2 : decode cX0_length 2 = .ok (.invokevirtual 71, 3) := by decide +kernel
theorem dX0_length_5 : decode cX0_length 5 = .ok (.ireturn, 1) := by decide +kernel
theorem dX0_width_0 : decode cX0_width 0 = .ok (.aload_n 0, 1) := by decide +kernel
theorem dX0_width_1 : decode cX0_width 1 = .ok (.iconst 2, 1) := by decide +kernel
theorem dX0_width_2 : decode cX0_width 2 = .ok (.invokevirtual 71, 3) := by decide +kernel
theorem dX0_width_5 : decode cX0_width 5 = .ok (.ireturn, 1) := by decide +kernel
theorem dX0_fill_0 : decode cX0_fill 0 = .ok (.aload_n 0, 1) := by decide +kernel
theorem dX0_fill_1 : decode cX0_fill 1 = .ok (.iconst 4, 1) := by decide +kernel
theorem dX0_fill_2 : decode cX0_fill 2 = .ok (.invokevirtual 71, 3) := by decide +kernel
theorem dX0_fill_5 : decode cX0_fill 5 = .ok (.ireturn, 1) := by decide +kernel
theorem dX0_cutOrders_0 : decode cX0_cutOrders 0 = .ok (.aload_n 0, 1) := by decide +kernel
theorem dX0_cutOrders_1 : decode cX0_cutOrders 1 = .ok (.iconst 0, 1) := by decide +kernel
theorem dX0_cutOrders_2 : decode cX0_cutOrders 2 = .ok (.invokevirtual 81, 3) := by decide +kernel
theorem dX0_cutOrders_5 : decode cX0_cutOrders 5 = .ok (.ireturn, 1) := by decide +kernel
theorem dX0_ordersOf_0 : decode cX0_ordersOf 0 = .ok (.aload_n 0, 1) := by decide +kernel
theorem dX0_ordersOf_1 : decode cX0_ordersOf 1 = .ok (.iload_n 1, 1) := by decide +kernel
theorem dX0_ordersOf_2 : decode cX0_ordersOf 2 = .ok (.invokevirtual 64, 3) := by decide +kernel
theorem dX0_ordersOf_5 : decode cX0_ordersOf 5 = .ok (.aload_n 0, 1) := by decide +kernel
theorem dX0_ordersOf_6 : decode cX0_ordersOf 6 = .ok (.getfield 13, 3) := by decide +kernel
theorem dX0_ordersOf_9 : decode cX0_ordersOf 9 = .ok (.bipush 63, 2) := by decide +kernel
theorem dX0_ordersOf_11 : decode cX0_ordersOf 11 = .ok (.iaload, 1) := by decide +kernel
theorem dX0_ordersOf_12 : decode cX0_ordersOf 12 = .ok (.istore_n 2, 1) := by decide +kernel
theorem dX0_ordersOf_13 : decode cX0_ordersOf 13 = .ok (.aload_n 0, 1) := by decide +kernel
theorem dX0_ordersOf_14 : decode cX0_ordersOf 14 = .ok (.getfield 16, 3) := by decide +kernel
theorem dX0_ordersOf_17 : decode cX0_ordersOf 17 = .ok (.iconst 0, 1) := by decide +kernel
theorem dX0_ordersOf_18 : decode cX0_ordersOf 18 = .ok (.iconst 1, 1) := by decide +kernel
theorem dX0_ordersOf_19 : decode cX0_ordersOf 19 = .ok (.iastore, 1) := by decide +kernel
theorem dX0_ordersOf_20 : decode cX0_ordersOf 20 = .ok (.iconst 1, 1) := by decide +kernel
theorem dX0_ordersOf_21 : decode cX0_ordersOf 21 = .ok (.istore_n 3, 1) := by decide +kernel
theorem dX0_ordersOf_22 : decode cX0_ordersOf 22 = .ok (.iload_n 3, 1) := by decide +kernel
theorem dX0_ordersOf_23 : decode cX0_ordersOf 23 = .ok (.bipush 64, 2) := by decide +kernel
theorem dX0_ordersOf_25 : decode cX0_ordersOf 25 = .ok (.if_icmp .ge 138, 3) := by decide +kernel
theorem dX0_ordersOf_28 : decode cX0_ordersOf 28 = .ok (.aload_n 0, 1) := by decide +kernel
theorem dX0_ordersOf_29 : decode cX0_ordersOf 29 = .ok (.getfield 16, 3) := by decide +kernel
theorem dX0_ordersOf_32 : decode cX0_ordersOf 32 = .ok (.iload_n 3, 1) := by decide +kernel
theorem dX0_ordersOf_33 : decode cX0_ordersOf 33 = .ok (.iconst 0, 1) := by decide +kernel
theorem dX0_ordersOf_34 : decode cX0_ordersOf 34 = .ok (.iastore, 1) := by decide +kernel
theorem dX0_ordersOf_35 : decode cX0_ordersOf 35 = .ok (.iconst 0, 1) := by decide +kernel
theorem dX0_ordersOf_36 : decode cX0_ordersOf 36 = .ok (.istore 4, 2) := by decide +kernel
theorem dX0_ordersOf_38 : decode cX0_ordersOf 38 = .ok (.iload 4, 2) := by decide +kernel
theorem dX0_ordersOf_40 : decode cX0_ordersOf 40 = .ok (.bipush 6, 2) := by decide +kernel
theorem dX0_ordersOf_42 : decode cX0_ordersOf 42 = .ok (.if_icmp .ge 115, 3) := by decide +kernel
theorem dX0_ordersOf_45 : decode cX0_ordersOf 45 = .ok (.iload_n 3, 1) := by decide +kernel
theorem dX0_ordersOf_46 : decode cX0_ordersOf 46 = .ok (.iconst 1, 1) := by decide +kernel
theorem dX0_ordersOf_47 : decode cX0_ordersOf 47 = .ok (.iload 4, 2) := by decide +kernel
theorem dX0_ordersOf_49 : decode cX0_ordersOf 49 = .ok (.ishl, 1) := by decide +kernel
theorem dX0_ordersOf_50 : decode cX0_ordersOf 50 = .ok (.iconst (-1), 1) := by decide +kernel
theorem dX0_ordersOf_51 : decode cX0_ordersOf 51 = .ok (.ixor, 1) := by decide +kernel
theorem dX0_ordersOf_52 : decode cX0_ordersOf 52 = .ok (.iand, 1) := by decide +kernel
theorem dX0_ordersOf_53 : decode cX0_ordersOf 53 = .ok (.istore 5, 2) := by decide +kernel
theorem dX0_ordersOf_55 : decode cX0_ordersOf 55 = .ok (.iload 5, 2) := by decide +kernel
theorem dX0_ordersOf_57 : decode cX0_ordersOf 57 = .ok (.iload_n 3, 1) := by decide +kernel
theorem dX0_ordersOf_58 : decode cX0_ordersOf 58 = .ok (.if_icmp .eq 93, 3) := by decide +kernel
theorem dX0_ordersOf_61 : decode cX0_ordersOf 61 = .ok (.aload_n 0, 1) := by decide +kernel
theorem dX0_ordersOf_62 : decode cX0_ordersOf 62 = .ok (.iload_n 1, 1) := by decide +kernel
theorem dX0_ordersOf_63 : decode cX0_ordersOf 63 = .ok (.iload 5, 2) := by decide +kernel
theorem dX0_ordersOf_65 : decode cX0_ordersOf 65 = .ok (.iload 4, 2) := by decide +kernel
theorem dX0_ordersOf_67 : decode cX0_ordersOf 67 = .ok (.invokevirtual 57, 3) := by decide +kernel
theorem dX0_ordersOf_70 : decode cX0_ordersOf 70 = .ok (.istore 6, 2) := by decide +kernel
theorem dX0_ordersOf_72 : decode cX0_ordersOf 72 = .ok (.iload_n 1, 1) := by decide +kernel
theorem dX0_ordersOf_73 : decode cX0_ordersOf 73 = .ok (.iconst 3, 1) := by decide +kernel
theorem dX0_ordersOf_74 : decode cX0_ordersOf 74 = .ok (.if_icmp .lt 30, 3) := by decide +kernel
theorem dX0_ordersOf_77 : decode cX0_ordersOf 77 = .ok (.aload_n 0, 1) := by decide +kernel
theorem dX0_ordersOf_78 : decode cX0_ordersOf 78 = .ok (.getfield 13, 3) := by decide +kernel
theorem dX0_ordersOf_81 : decode cX0_ordersOf 81 = .ok (.iload 5, 2) := by decide +kernel
theorem dX0_ordersOf_83 : decode cX0_ordersOf 83 = .ok (.iaload, 1) := by decide +kernel
theorem dX0_ordersOf_84 : decode cX0_ordersOf 84 = .ok (.iload 6, 2) := by decide +kernel
theorem dX0_ordersOf_86 : decode cX0_ordersOf 86 = .ok (.iadd, 1) := by decide +kernel
theorem dX0_ordersOf_87 : decode cX0_ordersOf 87 = .ok (.aload_n 0, 1) := by decide +kernel
theorem dX0_ordersOf_88 : decode cX0_ordersOf 88 = .ok (.getfield 13, 3) := by decide +kernel
theorem dX0_ordersOf_91 : decode cX0_ordersOf 91 = .ok (.iload_n 3, 1) := by decide +kernel
theorem dX0_ordersOf_92 : decode cX0_ordersOf 92 = .ok (.iaload, 1) := by decide +kernel
theorem dX0_ordersOf_93 : decode cX0_ordersOf 93 = .ok (.if_icmp .ne 7, 3) := by decide +kernel
theorem dX0_ordersOf_96 : decode cX0_ordersOf 96 = .ok (.iconst 1, 1) := by decide +kernel
theorem dX0_ordersOf_97 : decode cX0_ordersOf 97 = .ok (.goto 18, 3) := by decide +kernel
theorem dX0_ordersOf_100 : decode cX0_ordersOf 100 = .ok (.iconst 0, 1) := by decide +kernel
theorem dX0_ordersOf_101 : decode cX0_ordersOf 101 = .ok (.goto 14, 3) := by decide +kernel
theorem dX0_ordersOf_104 : decode cX0_ordersOf 104 = .ok (.iload 6, 2) := by decide +kernel
theorem dX0_ordersOf_106 : decode cX0_ordersOf 106 = .ok (.iload_n 2, 1) := by decide +kernel
theorem dX0_ordersOf_107 : decode cX0_ordersOf 107 = .ok (.if_icmp .gt 7, 3) := by decide +kernel
theorem dX0_ordersOf_110 : decode cX0_ordersOf 110 = .ok (.iconst 1, 1) := by decide +kernel
theorem dX0_ordersOf_111 : decode cX0_ordersOf 111 = .ok (.goto 4, 3) := by decide +kernel
theorem dX0_ordersOf_114 : decode cX0_ordersOf 114 = .ok (.iconst 0, 1) := by decide +kernel
theorem dX0_ordersOf_115 : decode cX0_ordersOf 115 = .ok (.istore 7, 2) := by decide +kernel
theorem dX0_ordersOf_117 : decode cX0_ordersOf 117 = .ok (.aload_n 0, 1) := by decide +kernel
theorem dX0_ordersOf_118 : decode cX0_ordersOf 118 = .ok (.getfield 16, 3) := by decide +kernel
theorem dX0_ordersOf_121 : decode cX0_ordersOf 121 = .ok (.iload_n 3, 1) := by decide +kernel
theorem dX0_ordersOf_122 : decode cX0_ordersOf 122 = .ok (.iload 7, 2) := by decide +kernel
theorem dX0_ordersOf_124 : decode cX0_ordersOf 124 = .ok (.ifCond .eq 20, 3) := by decide +kernel
theorem dX0_ordersOf_127 : decode cX0_ordersOf 127 = .ok (.aload_n 0, 1) := by decide +kernel
theorem dX0_ordersOf_128 : decode cX0_ordersOf 128 = .ok (.getfield 16, 3) := by decide +kernel
theorem dX0_ordersOf_131 : decode cX0_ordersOf 131 = .ok (.iload_n 3, 1) := by decide +kernel
theorem dX0_ordersOf_132 : decode cX0_ordersOf 132 = .ok (.iaload, 1) := by decide +kernel
theorem dX0_ordersOf_133 : decode cX0_ordersOf 133 = .ok (.aload_n 0, 1) := by decide +kernel
theorem dX0_ordersOf_134 : decode cX0_ordersOf 134 = .ok (.getfield 16, 3) := by decide +kernel
theorem dX0_ordersOf_137 : decode cX0_ordersOf 137 = .ok (.iload 5, 2) := by decide +kernel
theorem dX0_ordersOf_139 : decode cX0_ordersOf 139 = .ok (.iaload, 1) := by decide +kernel
theorem dX0_ordersOf_140 : decode cX0_ordersOf 140 = .ok (.iadd, 1) := by decide +kernel
theorem dX0_ordersOf_141 : decode cX0_ordersOf 141 = .ok (.goto 9, 3) := by decide +kernel
theorem dX0_ordersOf_144 : decode cX0_ordersOf 144 = .ok (.aload_n 0, 1) := by decide +kernel
theorem dX0_ordersOf_145 : decode cX0_ordersOf 145 = .ok (.getfield 16, 3) := by decide +kernel
theorem dX0_ordersOf_148 : decode cX0_ordersOf 148 = .ok (.iload_n 3, 1) := by decide +kernel
theorem dX0_ordersOf_149 : decode cX0_ordersOf 149 = .ok (.iaload, 1) := by decide +kernel
theorem dX0_ordersOf_150 : decode cX0_ordersOf 150 = .ok (.iastore, 1) := by decide +kernel
theorem dX0_ordersOf_151 : decode cX0_ordersOf 151 = .ok (.iinc 4 1, 3) := by decide +kernel
theorem dX0_ordersOf_154 : decode cX0_ordersOf 154 = .ok (.goto (-116), 3) := by decide +kernel
theorem dX0_ordersOf_157 : decode cX0_ordersOf 157 = .ok (.iinc 3 1, 3) := by decide +kernel
theorem dX0_ordersOf_160 : decode cX0_ordersOf 160 = .ok (.goto (-138), 3) := by decide +kernel
theorem dX0_ordersOf_163 : decode cX0_ordersOf 163 = .ok (.aload_n 0, 1) := by decide +kernel
theorem dX0_ordersOf_164 : decode cX0_ordersOf 164 = .ok (.getfield 16, 3) := by decide +kernel
theorem dX0_ordersOf_167 : decode cX0_ordersOf 167 = .ok (.bipush 63, 2) := by decide +kernel
theorem dX0_ordersOf_169 : decode cX0_ordersOf 169 = .ok (.iaload, 1) := by decide +kernel
theorem dX0_ordersOf_170 : decode cX0_ordersOf 170 = .ok (.ireturn, 1) := by decide +kernel
end
section
set_option maxRecDepth 100000
theorem dX0_lengthOrders_0 : decode cX0_lengthOrders 0 = .ok (.aload_n 0, 1) := by decide +kernel
theorem dX0_lengthOrders_1 : decode cX0_lengthOrders 1 = .ok (.iconst 3, 1) := by decide +kernel
theorem dX0_lengthOrders_2 : decode cX0_lengthOrders 2 = .ok (.invokevirtual 81, 3) := by decide +kernel
theorem dX0_lengthOrders_5 : decode cX0_lengthOrders 5 = .ok (.ireturn, 1) := by decide +kernel
theorem dX0_fillOrders_0 : decode cX0_fillOrders 0 = .ok (.aload_n 0, 1) := by decide +kernel
theorem dX0_fillOrders_1 : decode cX0_fillOrders 1 = .ok (.iconst 4, 1) := by decide +kernel
theorem dX0_fillOrders_2 : decode cX0_fillOrders 2 = .ok (.invokevirtual 81, 3) := by decide +kernel
theorem dX0_fillOrders_5 : decode cX0_fillOrders 5 = .ok (.ireturn, 1) := by decide +kernel
theorem dX0_lengthOrder_0 : decode cX0_lengthOrder 0 = .ok (.aload_n 0, 1) := by decide +kernel
theorem dX0_lengthOrder_1 : decode cX0_lengthOrder 1 = .ok (.iload_n 1, 1) := by decide +kernel
theorem dX0_lengthOrder_2 : decode cX0_lengthOrder 2 = .ok (.invokevirtual 28, 3) := by decide +kernel
theorem dX0_lengthOrder_5 : decode cX0_lengthOrder 5 = .ok (.ifCond .eq 8, 3) := by decide +kernel
theorem dX0_lengthOrder_8 : decode cX0_lengthOrder 8 = .ok (.bipush (-4), 2) := by decide +kernel
theorem dX0_lengthOrder_10 : decode cX0_lengthOrder 10 = .ok (.goto 9, 3) := by decide +kernel
theorem dX0_lengthOrder_13 : decode cX0_lengthOrder 13 = .ok (.aload_n 0, 1) := by decide +kernel
theorem dX0_lengthOrder_14 : decode cX0_lengthOrder 14 = .ok (.iconst 3, 1) := by decide +kernel
theorem dX0_lengthOrder_15 : decode cX0_lengthOrder 15 = .ok (.iload_n 1, 1) := by decide +kernel
theorem dX0_lengthOrder_16 : decode cX0_lengthOrder 16 = .ok (.invokevirtual 84, 3) := by decide +kernel
theorem dX0_lengthOrder_19 : decode cX0_lengthOrder 19 = .ok (.ireturn, 1) := by decide +kernel
theorem dX0_orderAt_0 : decode cX0_orderAt 0 = .ok (.aload_n 0, 1) := by decide +kernel
theorem dX0_orderAt_1 : decode cX0_orderAt 1 = .ok (.iload_n 1, 1) := by decide +kernel
theorem dX0_orderAt_2 : decode cX0_orderAt 2 = .ok (.invokevirtual 68, 3) := by decide +kernel
theorem dX0_orderAt_5 : decode cX0_orderAt 5 = .ok (.iconst 0, 1) := by decide +kernel
theorem dX0_orderAt_6 : decode cX0_orderAt 6 = .ok (.istore_n 3, 1) := by decide +kernel
theorem dX0_orderAt_7 : decode cX0_orderAt 7 = .ok (.iconst 0, 1) := by decide +kernel
theorem dX0_orderAt_8 : decode cX0_orderAt 8 = .ok (.istore 4, 2) := by decide +kernel
theorem dX0_orderAt_10 : decode cX0_orderAt 10 = .ok (.bipush (-4), 2) := by decide +kernel
theorem dX0_orderAt_12 : decode cX0_orderAt 12 = .ok (.istore 5, 2) := by decide +kernel
theorem dX0_orderAt_14 : decode cX0_orderAt 14 = .ok (.iconst 0, 1) := by decide +kernel
theorem dX0_orderAt_15 : decode cX0_orderAt 15 = .ok (.istore 6, 2) := by decide +kernel
theorem dX0_orderAt_17 : decode cX0_orderAt 17 = .ok (.iload 6, 2) := by decide +kernel
theorem dX0_orderAt_19 : decode cX0_orderAt 19 = .ok (.iload_n 2, 1) := by decide +kernel
theorem dX0_orderAt_20 : decode cX0_orderAt 20 = .ok (.if_icmp .gt 106, 3) := by decide +kernel
theorem dX0_orderAt_23 : decode cX0_orderAt 23 = .ok (.iconst 0, 1) := by decide +kernel
theorem dX0_orderAt_24 : decode cX0_orderAt 24 = .ok (.istore 7, 2) := by decide +kernel
theorem dX0_orderAt_26 : decode cX0_orderAt 26 = .ok (.iconst 5, 1) := by decide +kernel
theorem dX0_orderAt_27 : decode cX0_orderAt 27 = .ok (.istore 8, 2) := by decide +kernel
theorem dX0_orderAt_29 : decode cX0_orderAt 29 = .ok (.iload 8, 2) := by decide +kernel
theorem dX0_orderAt_31 : decode cX0_orderAt 31 = .ok (.ifCond .lt 78, 3) := by decide +kernel
theorem dX0_orderAt_34 : decode cX0_orderAt 34 = .ok (.iload_n 3, 1) := by decide +kernel
theorem dX0_orderAt_35 : decode cX0_orderAt 35 = .ok (.iload 8, 2) := by decide +kernel
theorem dX0_orderAt_37 : decode cX0_orderAt 37 = .ok (.ishr, 1) := by decide +kernel
theorem dX0_orderAt_38 : decode cX0_orderAt 38 = .ok (.iconst 1, 1) := by decide +kernel
theorem dX0_orderAt_39 : decode cX0_orderAt 39 = .ok (.iand, 1) := by decide +kernel
theorem dX0_orderAt_40 : decode cX0_orderAt 40 = .ok (.ifCond .ne 63, 3) := by decide +kernel
theorem dX0_orderAt_43 : decode cX0_orderAt 43 = .ok (.aload_n 0, 1) := by decide +kernel
theorem dX0_orderAt_44 : decode cX0_orderAt 44 = .ok (.iload_n 1, 1) := by decide +kernel
theorem dX0_orderAt_45 : decode cX0_orderAt 45 = .ok (.iload_n 3, 1) := by decide +kernel
theorem dX0_orderAt_46 : decode cX0_orderAt 46 = .ok (.iload 8, 2) := by decide +kernel
theorem dX0_orderAt_48 : decode cX0_orderAt 48 = .ok (.invokevirtual 57, 3) := by decide +kernel
theorem dX0_orderAt_51 : decode cX0_orderAt 51 = .ok (.istore 9, 2) := by decide +kernel
theorem dX0_orderAt_53 : decode cX0_orderAt 53 = .ok (.aload_n 0, 1) := by decide +kernel
theorem dX0_orderAt_54 : decode cX0_orderAt 54 = .ok (.iload_n 1, 1) := by decide +kernel
theorem dX0_orderAt_55 : decode cX0_orderAt 55 = .ok (.iload 4, 2) := by decide +kernel
theorem dX0_orderAt_57 : decode cX0_orderAt 57 = .ok (.iload 9, 2) := by decide +kernel
theorem dX0_orderAt_59 : decode cX0_orderAt 59 = .ok (.invokevirtual 61, 3) := by decide +kernel
theorem dX0_orderAt_62 : decode cX0_orderAt 62 = .ok (.istore 10, 2) := by decide +kernel
theorem dX0_orderAt_64 : decode cX0_orderAt 64 = .ok (.aload_n 0, 1) := by decide +kernel
theorem dX0_orderAt_65 : decode cX0_orderAt 65 = .ok (.iload_n 1, 1) := by decide +kernel
theorem dX0_orderAt_66 : decode cX0_orderAt 66 = .ok (.iload 10, 2) := by decide +kernel
theorem dX0_orderAt_68 : decode cX0_orderAt 68 = .ok (.aload_n 0, 1) := by decide +kernel
theorem dX0_orderAt_69 : decode cX0_orderAt 69 = .ok (.getfield 19, 3) := by decide +kernel
theorem dX0_orderAt_72 : decode cX0_orderAt 72 = .ok (.iload_n 3, 1) := by decide +kernel
theorem dX0_orderAt_73 : decode cX0_orderAt 73 = .ok (.iconst 1, 1) := by decide +kernel
theorem dX0_orderAt_74 : decode cX0_orderAt 74 = .ok (.iload 8, 2) := by decide +kernel
theorem dX0_orderAt_76 : decode cX0_orderAt 76 = .ok (.ishl, 1) := by decide +kernel
theorem dX0_orderAt_77 : decode cX0_orderAt 77 = .ok (.ior, 1) := by decide +kernel
theorem dX0_orderAt_78 : decode cX0_orderAt 78 = .ok (.iaload, 1) := by decide +kernel
theorem dX0_orderAt_79 : decode cX0_orderAt 79 = .ok (.invokevirtual 61, 3) := by decide +kernel
theorem dX0_orderAt_82 : decode cX0_orderAt 82 = .ok (.istore 11, 2) := by decide +kernel
theorem dX0_orderAt_84 : decode cX0_orderAt 84 = .ok (.iload 11, 2) := by decide +kernel
theorem dX0_orderAt_86 : decode cX0_orderAt 86 = .ok (.aload_n 0, 1) := by decide +kernel
theorem dX0_orderAt_87 : decode cX0_orderAt 87 = .ok (.getfield 19, 3) := by decide +kernel
theorem dX0_orderAt_90 : decode cX0_orderAt 90 = .ok (.iconst 0, 1) := by decide +kernel
theorem dX0_orderAt_91 : decode cX0_orderAt 91 = .ok (.iaload, 1) := by decide +kernel
theorem dX0_orderAt_92 : decode cX0_orderAt 92 = .ok (.if_icmp .ne 11, 3) := by decide +kernel
theorem dX0_orderAt_95 : decode cX0_orderAt 95 = .ok (.iload 8, 2) := by decide +kernel
theorem dX0_orderAt_97 : decode cX0_orderAt 97 = .ok (.istore 5, 2) := by decide +kernel
theorem dX0_orderAt_99 : decode cX0_orderAt 99 = .ok (.iload 10, 2) := by decide +kernel
theorem dX0_orderAt_101 : decode cX0_orderAt 101 = .ok (.istore 7, 2) := by decide +kernel
theorem dX0_orderAt_103 : decode cX0_orderAt 103 = .ok (.iinc 8 (-1), 3) := by decide +kernel
theorem dX0_orderAt_106 : decode cX0_orderAt 106 = .ok (.goto (-77), 3) := by decide +kernel
theorem dX0_orderAt_109 : decode cX0_orderAt 109 = .ok (.iload 7, 2) := by decide +kernel
theorem dX0_orderAt_111 : decode cX0_orderAt 111 = .ok (.istore 4, 2) := by decide +kernel
theorem dX0_orderAt_113 : decode cX0_orderAt 113 = .ok (.iload_n 3, 1) := by decide +kernel
theorem dX0_orderAt_114 : decode cX0_orderAt 114 = .ok (.iconst 1, 1) := by decide +kernel
theorem dX0_orderAt_115 : decode cX0_orderAt 115 = .ok (.iload 5, 2) := by decide +kernel
theorem dX0_orderAt_117 : decode cX0_orderAt 117 = .ok (.ishl, 1) := by decide +kernel
theorem dX0_orderAt_118 : decode cX0_orderAt 118 = .ok (.ior, 1) := by decide +kernel
theorem dX0_orderAt_119 : decode cX0_orderAt 119 = .ok (.istore_n 3, 1) := by decide +kernel
theorem dX0_orderAt_120 : decode cX0_orderAt 120 = .ok (.iinc 6 1, 3) := by decide +kernel
theorem dX0_orderAt_123 : decode cX0_orderAt 123 = .ok (.goto (-106), 3) := by decide +kernel
theorem dX0_orderAt_126 : decode cX0_orderAt 126 = .ok (.iload 5, 2) := by decide +kernel
theorem dX0_orderAt_128 : decode cX0_orderAt 128 = .ok (.ireturn, 1) := by decide +kernel
theorem dX0_fillAhead_0 : decode cX0_fillAhead 0 = .ok (.aload_n 0, 1) := by decide +kernel
theorem dX0_fillAhead_1 : decode cX0_fillAhead 1 = .ok (.getfield 19, 3) := by decide +kernel
theorem dX0_fillAhead_4 : decode cX0_fillAhead 4 = .ok (.bipush 63, 2) := by decide +kernel
theorem dX0_fillAhead_6 : decode cX0_fillAhead 6 = .ok (.iconst 0, 1) := by decide +kernel
theorem dX0_fillAhead_7 : decode cX0_fillAhead 7 = .ok (.iastore, 1) := by decide +kernel
theorem dX0_fillAhead_8 : decode cX0_fillAhead 8 = .ok (.bipush 62, 2) := by decide +kernel
theorem dX0_fillAhead_10 : decode cX0_fillAhead 10 = .ok (.istore_n 2, 1) := by decide +kernel
theorem dX0_fillAhead_11 : decode cX0_fillAhead 11 = .ok (.iload_n 2, 1) := by decide +kernel
theorem dX0_fillAhead_12 : decode cX0_fillAhead 12 = .ok (.ifCond .lt 96, 3) := by decide +kernel
theorem dX0_fillAhead_15 : decode cX0_fillAhead 15 = .ok (.aload_n 0, 1) := by decide +kernel
theorem dX0_fillAhead_16 : decode cX0_fillAhead 16 = .ok (.getfield 19, 3) := by decide +kernel
theorem dX0_fillAhead_19 : decode cX0_fillAhead 19 = .ok (.iload_n 2, 1) := by decide +kernel
theorem dX0_fillAhead_20 : decode cX0_fillAhead 20 = .ok (.sipush 1000, 3) := by decide +kernel
theorem dX0_fillAhead_23 : decode cX0_fillAhead 23 = .ok (.iastore, 1) := by decide +kernel
theorem dX0_fillAhead_24 : decode cX0_fillAhead 24 = .ok (.iconst 0, 1) := by decide +kernel
theorem dX0_fillAhead_25 : decode cX0_fillAhead 25 = .ok (.istore_n 3, 1) := by decide +kernel
theorem dX0_fillAhead_26 : decode cX0_fillAhead 26 = .ok (.iload_n 3, 1) := by decide +kernel
theorem dX0_fillAhead_27 : decode cX0_fillAhead 27 = .ok (.bipush 6, 2) := by decide +kernel
theorem dX0_fillAhead_29 : decode cX0_fillAhead 29 = .ok (.if_icmp .ge 73, 3) := by decide +kernel
theorem dX0_fillAhead_32 : decode cX0_fillAhead 32 = .ok (.iload_n 2, 1) := by decide +kernel
theorem dX0_fillAhead_33 : decode cX0_fillAhead 33 = .ok (.iload_n 3, 1) := by decide +kernel
theorem dX0_fillAhead_34 : decode cX0_fillAhead 34 = .ok (.ishr, 1) := by decide +kernel
theorem dX0_fillAhead_35 : decode cX0_fillAhead 35 = .ok (.iconst 1, 1) := by decide +kernel
theorem dX0_fillAhead_36 : decode cX0_fillAhead 36 = .ok (.iand, 1) := by decide +kernel
theorem dX0_fillAhead_37 : decode cX0_fillAhead 37 = .ok (.ifCond .ne 59, 3) := by decide +kernel
theorem dX0_fillAhead_40 : decode cX0_fillAhead 40 = .ok (.aload_n 0, 1) := by decide +kernel
theorem dX0_fillAhead_41 : decode cX0_fillAhead 41 = .ok (.iload_n 1, 1) := by decide +kernel
theorem dX0_fillAhead_42 : decode cX0_fillAhead 42 = .ok (.iload_n 2, 1) := by decide +kernel
theorem dX0_fillAhead_43 : decode cX0_fillAhead 43 = .ok (.iload_n 3, 1) := by decide +kernel
theorem dX0_fillAhead_44 : decode cX0_fillAhead 44 = .ok (.invokevirtual 57, 3) := by decide +kernel
theorem dX0_fillAhead_47 : decode cX0_fillAhead 47 = .ok (.istore 4, 2) := by decide +kernel
theorem dX0_fillAhead_49 : decode cX0_fillAhead 49 = .ok (.aload_n 0, 1) := by decide +kernel
theorem dX0_fillAhead_50 : decode cX0_fillAhead 50 = .ok (.iload_n 1, 1) := by decide +kernel
theorem dX0_fillAhead_51 : decode cX0_fillAhead 51 = .ok (.iload 4, 2) := by decide +kernel
theorem dX0_fillAhead_53 : decode cX0_fillAhead 53 = .ok (.aload_n 0, 1) := by decide +kernel
theorem dX0_fillAhead_54 : decode cX0_fillAhead 54 = .ok (.getfield 19, 3) := by decide +kernel
theorem dX0_fillAhead_57 : decode cX0_fillAhead 57 = .ok (.iload_n 2, 1) := by decide +kernel
theorem dX0_fillAhead_58 : decode cX0_fillAhead 58 = .ok (.iconst 1, 1) := by decide +kernel
theorem dX0_fillAhead_59 : decode cX0_fillAhead 59 = .ok (.iload_n 3, 1) := by decide +kernel
theorem dX0_fillAhead_60 : decode cX0_fillAhead 60 = .ok (.ishl, 1) := by decide +kernel
theorem dX0_fillAhead_61 : decode cX0_fillAhead 61 = .ok (.ior, 1) := by decide +kernel
theorem dX0_fillAhead_62 : decode cX0_fillAhead 62 = .ok (.iaload, 1) := by decide +kernel
theorem dX0_fillAhead_63 : decode cX0_fillAhead 63 = .ok (.invokevirtual 61, 3) := by decide +kernel
theorem dX0_fillAhead_66 : decode cX0_fillAhead 66 = .ok (.istore 5, 2) := by decide +kernel
theorem dX0_fillAhead_68 : decode cX0_fillAhead 68 = .ok (.aload_n 0, 1) := by decide +kernel
theorem dX0_fillAhead_69 : decode cX0_fillAhead 69 = .ok (.getfield 19, 3) := by decide +kernel
theorem dX0_fillAhead_72 : decode cX0_fillAhead 72 = .ok (.iload_n 2, 1) := by decide +kernel
theorem dX0_fillAhead_73 : decode cX0_fillAhead 73 = .ok (.iload 5, 2) := by decide +kernel
theorem dX0_fillAhead_75 : decode cX0_fillAhead 75 = .ok (.aload_n 0, 1) := by decide +kernel
theorem dX0_fillAhead_76 : decode cX0_fillAhead 76 = .ok (.getfield 19, 3) := by decide +kernel
theorem dX0_fillAhead_79 : decode cX0_fillAhead 79 = .ok (.iload_n 2, 1) := by decide +kernel
theorem dX0_fillAhead_80 : decode cX0_fillAhead 80 = .ok (.iaload, 1) := by decide +kernel
theorem dX0_fillAhead_81 : decode cX0_fillAhead 81 = .ok (.if_icmp .ge 8, 3) := by decide +kernel
theorem dX0_fillAhead_84 : decode cX0_fillAhead 84 = .ok (.iload 5, 2) := by decide +kernel
theorem dX0_fillAhead_86 : decode cX0_fillAhead 86 = .ok (.goto 9, 3) := by decide +kernel
theorem dX0_fillAhead_89 : decode cX0_fillAhead 89 = .ok (.aload_n 0, 1) := by decide +kernel
theorem dX0_fillAhead_90 : decode cX0_fillAhead 90 = .ok (.getfield 19, 3) := by decide +kernel
theorem dX0_fillAhead_93 : decode cX0_fillAhead 93 = .ok (.iload_n 2, 1) := by decide +kernel
theorem dX0_fillAhead_94 : decode cX0_fillAhead 94 = .ok (.iaload, 1) := by decide +kernel
theorem dX0_fillAhead_95 : decode cX0_fillAhead 95 = .ok (.iastore, 1) := by decide +kernel
theorem dX0_fillAhead_96 : decode cX0_fillAhead 96 = .ok (.iinc 3 1, 3) := by decide +kernel
theorem dX0_fillAhead_99 : decode cX0_fillAhead 99 = .ok (.goto (-73), 3) := by decide +kernel
theorem dX0_fillAhead_102 : decode cX0_fillAhead 102 = .ok (.iinc 2 (-1), 3) := by decide +kernel
theorem dX0_fillAhead_105 : decode cX0_fillAhead 105 = .ok (.goto (-94), 3) := by decide +kernel
theorem dX0_fillAhead_108 : decode cX0_fillAhead 108 = .ok (.return_, 1) := by decide +kernel
theorem dX0_widthOrder_0 : decode cX0_widthOrder 0 = .ok (.aload_n 0, 1) := by decide +kernel
theorem dX0_widthOrder_1 : decode cX0_widthOrder 1 = .ok (.iload_n 1, 1) := by decide +kernel
theorem dX0_widthOrder_2 : decode cX0_widthOrder 2 = .ok (.invokevirtual 28, 3) := by decide +kernel
theorem dX0_widthOrder_5 : decode cX0_widthOrder 5 = .ok (.ifCond .eq 8, 3) := by decide +kernel
theorem dX0_widthOrder_8 : decode cX0_widthOrder 8 = .ok (.bipush (-4), 2) := by decide +kernel
theorem dX0_widthOrder_10 : decode cX0_widthOrder 10 = .ok (.goto 9, 3) := by decide +kernel
theorem dX0_widthOrder_13 : decode cX0_widthOrder 13 = .ok (.aload_n 0, 1) := by decide +kernel
theorem dX0_widthOrder_14 : decode cX0_widthOrder 14 = .ok (.iconst 2, 1) := by decide +kernel
theorem dX0_widthOrder_15 : decode cX0_widthOrder 15 = .ok (.iload_n 1, 1) := by decide +kernel
theorem dX0_widthOrder_16 : decode cX0_widthOrder 16 = .ok (.invokevirtual 84, 3) := by decide +kernel
theorem dX0_widthOrder_19 : decode cX0_widthOrder 19 = .ok (.ireturn, 1) := by decide +kernel
theorem dX0_whole_0 : decode cX0_whole 0 = .ok (.aload_n 0, 1) := by decide +kernel
theorem dX0_whole_1 : decode cX0_whole 1 = .ok (.iconst 4, 1) := by decide +kernel
theorem dX0_whole_2 : decode cX0_whole 2 = .ok (.invokevirtual 71, 3) := by decide +kernel
theorem dX0_whole_5 : decode cX0_whole 5 = .ok (.ifCond .ne 7, 3) := by decide +kernel
theorem dX0_whole_8 : decode cX0_whole 8 = .ok (.iconst 1, 1) := by decide +kernel
theorem dX0_whole_9 : decode cX0_whole 9 = .ok (.goto 4, 3) := by decide +kernel
theorem dX0_whole_12 : decode cX0_whole 12 = .ok (.iconst 0, 1) := by decide +kernel
theorem dX0_whole_13 : decode cX0_whole 13 = .ok (.ireturn, 1) := by decide +kernel
theorem dX0_growth_0 : decode cX0_growth 0 = .ok (.aload_n 0, 1) := by decide +kernel
theorem dX0_growth_1 : decode cX0_growth 1 = .ok (.iload_n 1, 1) := by decide +kernel
theorem dX0_growth_2 : decode cX0_growth 2 = .ok (.invokevirtual 28, 3) := by decide +kernel
theorem dX0_growth_5 : decode cX0_growth 5 = .ok (.ifCond .ne 16, 3) := by decide +kernel
theorem dX0_growth_8 : decode cX0_growth 8 = .ok (.aload_n 0, 1) := by decide +kernel
theorem dX0_growth_9 : decode cX0_growth 9 = .ok (.iload_n 2, 1) := by decide +kernel
theorem dX0_growth_10 : decode cX0_growth 10 = .ok (.invokevirtual 28, 3) := by decide +kernel
theorem dX0_growth_13 : decode cX0_growth 13 = .ok (.ifCond .ne 8, 3) := by decide +kernel
theorem dX0_growth_16 : decode cX0_growth 16 = .ok (.iload_n 1, 1) := by decide +kernel
theorem dX0_growth_17 : decode cX0_growth 17 = .ok (.iload_n 2, 1) := by decide +kernel
theorem dX0_growth_18 : decode cX0_growth 18 = .ok (.if_icmp .ne 5, 3) := by decide +kernel
theorem dX0_growth_21 : decode cX0_growth 21 = .ok (.iconst (-1), 1) := by decide +kernel
theorem dX0_growth_22 : decode cX0_growth 22 = .ok (.ireturn, 1) := by decide +kernel
theorem dX0_growth_23 : decode cX0_growth 23 = .ok (.aload_n 0, 1) := by decide +kernel
theorem dX0_growth_24 : decode cX0_growth 24 = .ok (.getfield 7, 3) := by decide +kernel
theorem dX0_growth_27 : decode cX0_growth 27 = .ok (.iload_n 1, 1) := by decide +kernel
theorem dX0_growth_28 : decode cX0_growth 28 = .ok (.iaload, 1) := by decide +kernel
theorem dX0_growth_29 : decode cX0_growth 29 = .ok (.iload_n 2, 1) := by decide +kernel
theorem dX0_growth_30 : decode cX0_growth 30 = .ok (.ishr, 1) := by decide +kernel
theorem dX0_growth_31 : decode cX0_growth 31 = .ok (.iconst 1, 1) := by decide +kernel
theorem dX0_growth_32 : decode cX0_growth 32 = .ok (.iand, 1) := by decide +kernel
theorem dX0_growth_33 : decode cX0_growth 33 = .ok (.iconst 1, 1) := by decide +kernel
theorem dX0_growth_34 : decode cX0_growth 34 = .ok (.if_icmp .ne 5, 3) := by decide +kernel
theorem dX0_growth_37 : decode cX0_growth 37 = .ok (.iconst 0, 1) := by decide +kernel
theorem dX0_growth_38 : decode cX0_growth 38 = .ok (.ireturn, 1) := by decide +kernel
theorem dX0_growth_39 : decode cX0_growth 39 = .ok (.aload_n 0, 1) := by decide +kernel
theorem dX0_growth_40 : decode cX0_growth 40 = .ok (.iconst 2, 1) := by decide +kernel
theorem dX0_growth_41 : decode cX0_growth 41 = .ok (.invokevirtual 71, 3) := by decide +kernel
theorem dX0_growth_44 : decode cX0_growth 44 = .ok (.istore_n 3, 1) := by decide +kernel
theorem dX0_growth_45 : decode cX0_growth 45 = .ok (.aload_n 0, 1) := by decide +kernel
theorem dX0_growth_46 : decode cX0_growth 46 = .ok (.iload_n 1, 1) := by decide +kernel
theorem dX0_growth_47 : decode cX0_growth 47 = .ok (.iload_n 2, 1) := by decide +kernel
theorem dX0_growth_48 : decode cX0_growth 48 = .ok (.invokevirtual 32, 3) := by decide +kernel
theorem dX0_growth_51 : decode cX0_growth 51 = .ok (.aload_n 0, 1) := by decide +kernel
theorem dX0_growth_52 : decode cX0_growth 52 = .ok (.iconst 2, 1) := by decide +kernel
theorem dX0_growth_53 : decode cX0_growth 53 = .ok (.invokevirtual 71, 3) := by decide +kernel
theorem dX0_growth_56 : decode cX0_growth 56 = .ok (.istore 4, 2) := by decide +kernel
theorem dX0_growth_58 : decode cX0_growth 58 = .ok (.aload_n 0, 1) := by decide +kernel
theorem dX0_growth_59 : decode cX0_growth 59 = .ok (.iload_n 1, 1) := by decide +kernel
theorem dX0_growth_60 : decode cX0_growth 60 = .ok (.iload_n 2, 1) := by decide +kernel
theorem dX0_growth_61 : decode cX0_growth 61 = .ok (.invokevirtual 32, 3) := by decide +kernel
theorem dX0_growth_64 : decode cX0_growth 64 = .ok (.iload 4, 2) := by decide +kernel
theorem dX0_growth_66 : decode cX0_growth 66 = .ok (.iload_n 3, 1) := by decide +kernel
theorem dX0_growth_67 : decode cX0_growth 67 = .ok (.isub, 1) := by decide +kernel
theorem dX0_growth_68 : decode cX0_growth 68 = .ok (.ireturn, 1) := by decide +kernel
theorem dX0_clique_0 : decode cX0_clique 0 = .ok (.iconst 0, 1) := by decide +kernel
theorem dX0_clique_1 : decode cX0_clique 1 = .ok (.istore_n 1, 1) := by decide +kernel
theorem dX0_clique_2 : decode cX0_clique 2 = .ok (.aload_n 0, 1) := by decide +kernel
theorem dX0_clique_3 : decode cX0_clique 3 = .ok (.getfield 16, 3) := by decide +kernel
theorem dX0_clique_6 : decode cX0_clique 6 = .ok (.iconst 0, 1) := by decide +kernel
theorem dX0_clique_7 : decode cX0_clique 7 = .ok (.iconst 1, 1) := by decide +kernel
theorem dX0_clique_8 : decode cX0_clique 8 = .ok (.iastore, 1) := by decide +kernel
theorem dX0_clique_9 : decode cX0_clique 9 = .ok (.iconst 1, 1) := by decide +kernel
theorem dX0_clique_10 : decode cX0_clique 10 = .ok (.istore_n 2, 1) := by decide +kernel
theorem dX0_clique_11 : decode cX0_clique 11 = .ok (.iload_n 2, 1) := by decide +kernel
theorem dX0_clique_12 : decode cX0_clique 12 = .ok (.bipush 64, 2) := by decide +kernel
theorem dX0_clique_14 : decode cX0_clique 14 = .ok (.if_icmp .ge 119, 3) := by decide +kernel
theorem dX0_clique_17 : decode cX0_clique 17 = .ok (.iload_n 2, 1) := by decide +kernel
theorem dX0_clique_18 : decode cX0_clique 18 = .ok (.iload_n 2, 1) := by decide +kernel
theorem dX0_clique_19 : decode cX0_clique 19 = .ok (.iconst 1, 1) := by decide +kernel
theorem dX0_clique_20 : decode cX0_clique 20 = .ok (.isub, 1) := by decide +kernel
theorem dX0_clique_21 : decode cX0_clique 21 = .ok (.iand, 1) := by decide +kernel
theorem dX0_clique_22 : decode cX0_clique 22 = .ok (.istore_n 3, 1) := by decide +kernel
theorem dX0_clique_23 : decode cX0_clique 23 = .ok (.iconst 0, 1) := by decide +kernel
theorem dX0_clique_24 : decode cX0_clique 24 = .ok (.istore 4, 2) := by decide +kernel
theorem dX0_clique_26 : decode cX0_clique 26 = .ok (.iconst 0, 1) := by decide +kernel
theorem dX0_clique_27 : decode cX0_clique 27 = .ok (.istore 5, 2) := by decide +kernel
theorem dX0_clique_29 : decode cX0_clique 29 = .ok (.iload 5, 2) := by decide +kernel
theorem dX0_clique_31 : decode cX0_clique 31 = .ok (.bipush 6, 2) := by decide +kernel
theorem dX0_clique_33 : decode cX0_clique 33 = .ok (.if_icmp .ge 29, 3) := by decide +kernel
theorem dX0_clique_36 : decode cX0_clique 36 = .ok (.iload_n 2, 1) := by decide +kernel
theorem dX0_clique_37 : decode cX0_clique 37 = .ok (.iload_n 2, 1) := by decide +kernel
theorem dX0_clique_38 : decode cX0_clique 38 = .ok (.ineg, 1) := by decide +kernel
theorem dX0_clique_39 : decode cX0_clique 39 = .ok (.iand, 1) := by decide +kernel
theorem dX0_clique_40 : decode cX0_clique 40 = .ok (.iconst 1, 1) := by decide +kernel
theorem dX0_clique_41 : decode cX0_clique 41 = .ok (.iload 5, 2) := by decide +kernel
theorem dX0_clique_43 : decode cX0_clique 43 = .ok (.ishl, 1) := by decide +kernel
theorem dX0_clique_44 : decode cX0_clique 44 = .ok (.if_icmp .ne 8, 3) := by decide +kernel
theorem dX0_clique_47 : decode cX0_clique 47 = .ok (.iload 5, 2) := by decide +kernel
theorem dX0_clique_49 : decode cX0_clique 49 = .ok (.goto 5, 3) := by decide +kernel
theorem dX0_clique_52 : decode cX0_clique 52 = .ok (.iload 4, 2) := by decide +kernel
theorem dX0_clique_54 : decode cX0_clique 54 = .ok (.istore 4, 2) := by decide +kernel
theorem dX0_clique_56 : decode cX0_clique 56 = .ok (.iinc 5 1, 3) := by decide +kernel
theorem dX0_clique_59 : decode cX0_clique 59 = .ok (.goto (-30), 3) := by decide +kernel
theorem dX0_clique_62 : decode cX0_clique 62 = .ok (.aload_n 0, 1) := by decide +kernel
theorem dX0_clique_63 : decode cX0_clique 63 = .ok (.getfield 16, 3) := by decide +kernel
theorem dX0_clique_66 : decode cX0_clique 66 = .ok (.iload_n 2, 1) := by decide +kernel
theorem dX0_clique_67 : decode cX0_clique 67 = .ok (.aload_n 0, 1) := by decide +kernel
theorem dX0_clique_68 : decode cX0_clique 68 = .ok (.getfield 16, 3) := by decide +kernel
theorem dX0_clique_71 : decode cX0_clique 71 = .ok (.iload_n 3, 1) := by decide +kernel
theorem dX0_clique_72 : decode cX0_clique 72 = .ok (.iaload, 1) := by decide +kernel
theorem dX0_clique_73 : decode cX0_clique 73 = .ok (.iconst 1, 1) := by decide +kernel
theorem dX0_clique_74 : decode cX0_clique 74 = .ok (.if_icmp .ne 21, 3) := by decide +kernel
theorem dX0_clique_77 : decode cX0_clique 77 = .ok (.iload_n 3, 1) := by decide +kernel
theorem dX0_clique_78 : decode cX0_clique 78 = .ok (.aload_n 0, 1) := by decide +kernel
theorem dX0_clique_79 : decode cX0_clique 79 = .ok (.getfield 7, 3) := by decide +kernel
theorem dX0_clique_82 : decode cX0_clique 82 = .ok (.iload 4, 2) := by decide +kernel
theorem dX0_clique_84 : decode cX0_clique 84 = .ok (.iaload, 1) := by decide +kernel
theorem dX0_clique_85 : decode cX0_clique 85 = .ok (.iconst (-1), 1) := by decide +kernel
theorem dX0_clique_86 : decode cX0_clique 86 = .ok (.ixor, 1) := by decide +kernel
theorem dX0_clique_87 : decode cX0_clique 87 = .ok (.iand, 1) := by decide +kernel
theorem dX0_clique_88 : decode cX0_clique 88 = .ok (.ifCond .ne 7, 3) := by decide +kernel
theorem dX0_clique_91 : decode cX0_clique 91 = .ok (.iconst 1, 1) := by decide +kernel
theorem dX0_clique_92 : decode cX0_clique 92 = .ok (.goto 4, 3) := by decide +kernel
theorem dX0_clique_95 : decode cX0_clique 95 = .ok (.iconst 0, 1) := by decide +kernel
theorem dX0_clique_96 : decode cX0_clique 96 = .ok (.iastore, 1) := by decide +kernel
theorem dX0_clique_97 : decode cX0_clique 97 = .ok (.aload_n 0, 1) := by decide +kernel
theorem dX0_clique_98 : decode cX0_clique 98 = .ok (.iload_n 2, 1) := by decide +kernel
theorem dX0_clique_99 : decode cX0_clique 99 = .ok (.invokevirtual 40, 3) := by decide +kernel
theorem dX0_clique_102 : decode cX0_clique 102 = .ok (.istore 5, 2) := by decide +kernel
theorem dX0_clique_104 : decode cX0_clique 104 = .ok (.aload_n 0, 1) := by decide +kernel
theorem dX0_clique_105 : decode cX0_clique 105 = .ok (.getfield 16, 3) := by decide +kernel
theorem dX0_clique_108 : decode cX0_clique 108 = .ok (.iload_n 2, 1) := by decide +kernel
theorem dX0_clique_109 : decode cX0_clique 109 = .ok (.iaload, 1) := by decide +kernel
theorem dX0_clique_110 : decode cX0_clique 110 = .ok (.iconst 1, 1) := by decide +kernel
theorem dX0_clique_111 : decode cX0_clique 111 = .ok (.if_icmp .ne 14, 3) := by decide +kernel
theorem dX0_clique_114 : decode cX0_clique 114 = .ok (.iload 5, 2) := by decide +kernel
theorem dX0_clique_116 : decode cX0_clique 116 = .ok (.iload_n 1, 1) := by decide +kernel
theorem dX0_clique_117 : decode cX0_clique 117 = .ok (.if_icmp .le 8, 3) := by decide +kernel
theorem dX0_clique_120 : decode cX0_clique 120 = .ok (.iload 5, 2) := by decide +kernel
theorem dX0_clique_122 : decode cX0_clique 122 = .ok (.goto 4, 3) := by decide +kernel
theorem dX0_clique_125 : decode cX0_clique 125 = .ok (.iload_n 1, 1) := by decide +kernel
theorem dX0_clique_126 : decode cX0_clique 126 = .ok (.istore_n 1, 1) := by decide +kernel
theorem dX0_clique_127 : decode cX0_clique 127 = .ok (.iinc 2 1, 3) := by decide +kernel
theorem dX0_clique_130 : decode cX0_clique 130 = .ok (.goto (-119), 3) := by decide +kernel
theorem dX0_clique_133 : decode cX0_clique 133 = .ok (.iload_n 1, 1) := by decide +kernel
theorem dX0_clique_134 : decode cX0_clique 134 = .ok (.ireturn, 1) := by decide +kernel
end
section
set_option maxRecDepth 100000
theorem dX1_init_0 : decode cX1_init 0 = .ok (.aload_n 0, 1) := by decide +kernel
theorem dX1_init_1 : decode cX1_init 1 = .ok (.invokespecial 1, 3) := by decide +kernel
theorem dX1_init_4 : decode cX1_init 4 = .ok (.aload_n 0, 1) := by decide +kernel
theorem dX1_init_5 : decode cX1_init 5 = .ok (.bipush 6, 2) := by decide +kernel
theorem dX1_init_7 : decode cX1_init 7 = .ok (.newarray .int, 2) := by decide +kernel
theorem dX1_init_9 : decode cX1_init 9 = .ok (.putfield 7, 3) := by decide +kernel
theorem dX1_init_12 : decode cX1_init 12 = .ok (.aload_n 0, 1) := by decide +kernel
theorem dX1_init_13 : decode cX1_init 13 = .ok (.bipush 6, 2) := by decide +kernel
theorem dX1_init_15 : decode cX1_init 15 = .ok (.newarray .int, 2) := by decide +kernel
theorem dX1_init_17 : decode cX1_init 17 = .ok (.putfield 13, 3) := by decide +kernel
theorem dX1_init_20 : decode cX1_init 20 = .ok (.aload_n 0, 1) := by decide +kernel
theorem dX1_init_21 : decode cX1_init 21 = .ok (.bipush 6, 2) := by decide +kernel
theorem dX1_init_23 : decode cX1_init 23 = .ok (.newarray .int, 2) := by decide +kernel
theorem dX1_init_25 : decode cX1_init 25 = .ok (.putfield 16, 3) := by decide +kernel
theorem dX1_init_28 : decode cX1_init 28 = .ok (.aload_n 0, 1) := by decide +kernel
theorem dX1_init_29 : decode cX1_init 29 = .ok (.bipush 6, 2) := by decide +kernel
theorem dX1_init_31 : decode cX1_init 31 = .ok (.newarray .int, 2) := by decide +kernel
theorem dX1_init_33 : decode cX1_init 33 = .ok (.putfield 19, 3) := by decide +kernel
theorem dX1_init_36 : decode cX1_init 36 = .ok (.aload_n 0, 1) := by decide +kernel
theorem dX1_init_37 : decode cX1_init 37 = .ok (.bipush 6, 2) := by decide +kernel
theorem dX1_init_39 : decode cX1_init 39 = .ok (.newarray .int, 2) := by decide +kernel
theorem dX1_init_41 : decode cX1_init 41 = .ok (.putfield 22, 3) := by decide +kernel
theorem dX1_init_44 : decode cX1_init 44 = .ok (.aload_n 0, 1) := by decide +kernel
theorem dX1_init_45 : decode cX1_init 45 = .ok (.bipush 6, 2) := by decide +kernel
theorem dX1_init_47 : decode cX1_init 47 = .ok (.newarray .int, 2) := by decide +kernel
theorem dX1_init_49 : decode cX1_init 49 = .ok (.putfield 25, 3) := by decide +kernel
theorem dX1_init_52 : decode cX1_init 52 = .ok (.aload_n 0, 1) := by decide +kernel
theorem dX1_init_53 : decode cX1_init 53 = .ok (.bipush 6, 2) := by decide +kernel
theorem dX1_init_55 : decode cX1_init 55 = .ok (.newarray .int, 2) := by decide +kernel
theorem dX1_init_57 : decode cX1_init 57 = .ok (.putfield 28, 3) := by decide +kernel
theorem dX1_init_60 : decode cX1_init 60 = .ok (.return_, 1) := by decide +kernel
theorem dX1_line_0 : decode cX1_line 0 = .ok (.aload_n 0, 1) := by decide +kernel
theorem dX1_line_1 : decode cX1_line 1 = .ok (.iload_n 1, 1) := by decide +kernel
theorem dX1_line_2 : decode cX1_line 2 = .ok (.iload_n 2, 1) := by decide +kernel
theorem dX1_line_3 : decode cX1_line 3 = .ok (.invokevirtual 31, 3) := by decide +kernel
theorem dX1_line_6 : decode cX1_line 6 = .ok (.ifCond .ne 5, 3) := by decide +kernel
theorem dX1_line_9 : decode cX1_line 9 = .ok (.iconst (-1), 1) := by decide +kernel
theorem dX1_line_10 : decode cX1_line 10 = .ok (.ireturn, 1) := by decide +kernel
theorem dX1_line_11 : decode cX1_line 11 = .ok (.aload_n 0, 1) := by decide +kernel
theorem dX1_line_12 : decode cX1_line 12 = .ok (.iload_n 1, 1) := by decide +kernel
theorem dX1_line_13 : decode cX1_line 13 = .ok (.iload_n 2, 1) := by decide +kernel
theorem dX1_line_14 : decode cX1_line 14 = .ok (.invokevirtual 35, 3) := by decide +kernel
theorem dX1_line_17 : decode cX1_line 17 = .ok (.aload_n 0, 1) := by decide +kernel
theorem dX1_line_18 : decode cX1_line 18 = .ok (.iconst 0, 1) := by decide +kernel
theorem dX1_line_19 : decode cX1_line 19 = .ok (.putfield 39, 3) := by decide +kernel
theorem dX1_line_22 : decode cX1_line 22 = .ok (.aload_n 0, 1) := by decide +kernel
theorem dX1_line_23 : decode cX1_line 23 = .ok (.getfield 7, 3) := by decide +kernel
theorem dX1_line_26 : decode cX1_line 26 = .ok (.iload_n 1, 1) := by decide +kernel
theorem dX1_line_27 : decode cX1_line 27 = .ok (.iaload, 1) := by decide +kernel
theorem dX1_line_28 : decode cX1_line 28 = .ok (.iload_n 2, 1) := by decide +kernel
theorem dX1_line_29 : decode cX1_line 29 = .ok (.ishr, 1) := by decide +kernel
theorem dX1_line_30 : decode cX1_line 30 = .ok (.iconst 1, 1) := by decide +kernel
theorem dX1_line_31 : decode cX1_line 31 = .ok (.iand, 1) := by decide +kernel
theorem dX1_line_32 : decode cX1_line 32 = .ok (.ireturn, 1) := by decide +kernel
theorem dX1_isPair_0 : decode cX1_isPair 0 = .ok (.iload_n 1, 1) := by decide +kernel
theorem dX1_isPair_1 : decode cX1_isPair 1 = .ok (.ifCond .lt 26, 3) := by decide +kernel
theorem dX1_isPair_4 : decode cX1_isPair 4 = .ok (.iload_n 1, 1) := by decide +kernel
theorem dX1_isPair_5 : decode cX1_isPair 5 = .ok (.iconst 5, 1) := by decide +kernel
theorem dX1_isPair_6 : decode cX1_isPair 6 = .ok (.if_icmp .gt 21, 3) := by decide +kernel
theorem dX1_isPair_9 : decode cX1_isPair 9 = .ok (.iload_n 2, 1) := by decide +kernel
theorem dX1_isPair_10 : decode cX1_isPair 10 = .ok (.ifCond .lt 17, 3) := by decide +kernel
theorem dX1_isPair_13 : decode cX1_isPair 13 = .ok (.iload_n 2, 1) := by decide +kernel
theorem dX1_isPair_14 : decode cX1_isPair 14 = .ok (.iconst 5, 1) := by decide +kernel
theorem dX1_isPair_15 : decode cX1_isPair 15 = .ok (.if_icmp .gt 12, 3) := by decide +kernel
theorem dX1_isPair_18 : decode cX1_isPair 18 = .ok (.iload_n 1, 1) := by decide +kernel
theorem dX1_isPair_19 : decode cX1_isPair 19 = .ok (.iload_n 2, 1) := by decide +kernel
theorem dX1_isPair_20 : decode cX1_isPair 20 = .ok (.if_icmp .eq 7, 3) := by decide +kernel
theorem dX1_isPair_23 : decode cX1_isPair 23 = .ok (.iconst 1, 1) := by decide +kernel
theorem dX1_isPair_24 : decode cX1_isPair 24 = .ok (.goto 4, 3) := by decide +kernel
theorem dX1_isPair_27 : decode cX1_isPair 27 = .ok (.iconst 0, 1) := by decide +kernel
theorem dX1_isPair_28 : decode cX1_isPair 28 = .ok (.ireturn, 1) := by decide +kernel
theorem dX1_exchange_0 : decode cX1_exchange 0 = .ok (.aload_n 0, 1) := by decide +kernel
theorem dX1_exchange_1 : decode cX1_exchange 1 = .ok (.getfield 7, 3) := by decide +kernel
theorem dX1_exchange_4 : decode cX1_exchange 4 = .ok (.iload_n 1, 1) := by decide +kernel
theorem dX1_exchange_5 : decode cX1_exchange 5 = .ok (.aload_n 0, 1) := by decide +kernel
theorem dX1_exchange_6 : decode cX1_exchange 6 = .ok (.getfield 7, 3) := by decide +kernel
theorem dX1_exchange_9 : decode cX1_exchange 9 = .ok (.iload_n 1, 1) := by decide +kernel
theorem dX1_exchange_10 : decode cX1_exchange 10 = .ok (.iaload, 1) := by decide +kernel
theorem dX1_exchange_11 : decode cX1_exchange 11 = .ok (.iconst 1, 1) := by decide +kernel
theorem dX1_exchange_12 : decode cX1_exchange 12 = .ok (.iload_n 2, 1) := by decide +kernel
theorem dX1_exchange_13 : decode cX1_exchange 13 = .ok (.ishl, 1) := by decide +kernel
theorem dX1_exchange_14 : decode cX1_exchange 14 = .ok (.ixor, 1) := by decide +kernel
theorem dX1_exchange_15 : decode cX1_exchange 15 = .ok (.iastore, 1) := by decide +kernel
theorem dX1_exchange_16 : decode cX1_exchange 16 = .ok (.aload_n 0, 1) := by decide +kernel
theorem dX1_exchange_17 : decode cX1_exchange 17 = .ok (.getfield 7, 3) := by decide +kernel
theorem dX1_exchange_20 : decode cX1_exchange 20 = .ok (.iload_n 2, 1) := by decide +kernel
theorem dX1_exchange_21 : decode cX1_exchange 21 = .ok (.aload_n 0, 1) := by decide +kernel
theorem dX1_exchange_22 : decode cX1_exchange 22 = .ok (.getfield 7, 3) := by decide +kernel
theorem dX1_exchange_25 : decode cX1_exchange 25 = .ok (.iload_n 2, 1) := by decide +kernel
theorem dX1_exchange_26 : decode cX1_exchange 26 = .ok (.iaload, 1) := by decide +kernel
theorem dX1_exchange_27 : decode cX1_exchange 27 = .ok (.iconst 1, 1) := by decide +kernel
theorem dX1_exchange_28 : decode cX1_exchange 28 = .ok (.iload_n 1, 1) := by decide +kernel
theorem dX1_exchange_29 : decode cX1_exchange 29 = .ok (.ishl, 1) := by decide +kernel
theorem dX1_exchange_30 : decode cX1_exchange 30 = .ok (.ixor, 1) := by decide +kernel
theorem dX1_exchange_31 : decode cX1_exchange 31 = .ok (.iastore, 1) := by decide +kernel
theorem dX1_exchange_32 : decode cX1_exchange 32 = .ok (.return_, 1) := by decide +kernel
theorem dX1_clear_0 : decode cX1_clear 0 = .ok (.aload_n 0, 1) := by decide +kernel
theorem dX1_clear_1 : decode cX1_clear 1 = .ok (.invokevirtual 43, 3) := by decide +kernel
theorem dX1_clear_4 : decode cX1_clear 4 = .ok (.istore_n 1, 1) := by decide +kernel
theorem dX1_clear_5 : decode cX1_clear 5 = .ok (.iconst 0, 1) := by decide +kernel
theorem dX1_clear_6 : decode cX1_clear 6 = .ok (.istore_n 2, 1) := by decide +kernel
theorem dX1_clear_7 : decode cX1_clear 7 = .ok (.iload_n 2, 1) := by decide +kernel
theorem dX1_clear_8 : decode cX1_clear 8 = .ok (.bipush 6, 2) := by decide +kernel
theorem dX1_clear_10 : decode cX1_clear 10 = .ok (.if_icmp .ge 16, 3) := by decide +kernel
theorem dX1_clear_13 : decode cX1_clear 13 = .ok (.aload_n 0, 1) := by decide +kernel
theorem dX1_clear_14 : decode cX1_clear 14 = .ok (.getfield 7, 3) := by decide +kernel
theorem dX1_clear_17 : decode cX1_clear 17 = .ok (.iload_n 2, 1) := by decide +kernel
theorem dX1_clear_18 : decode cX1_clear 18 = .ok (.iconst 0, 1) := by decide +kernel
theorem dX1_clear_19 : decode cX1_clear 19 = .ok (.iastore, 1) := by decide +kernel
theorem dX1_clear_20 : decode cX1_clear 20 = .ok (.iinc 2 1, 3) := by decide +kernel
theorem dX1_clear_23 : decode cX1_clear 23 = .ok (.goto (-16), 3) := by decide +kernel
theorem dX1_clear_26 : decode cX1_clear 26 = .ok (.aload_n 0, 1) := by decide +kernel
theorem dX1_clear_27 : decode cX1_clear 27 = .ok (.iconst 0, 1) := by decide +kernel
theorem dX1_clear_28 : decode cX1_clear 28 = .ok (.putfield 39, 3) := by decide +kernel
theorem dX1_clear_31 : decode cX1_clear 31 = .ok (.iload_n 1, 1) := by decide +kernel
theorem dX1_clear_32 : decode cX1_clear 32 = .ok (.ireturn, 1) := by decide +kernel
theorem dX1_lines_0 : decode cX1_lines 0 = .ok (.iconst 0, 1) := by decide +kernel
theorem dX1_lines_1 : decode cX1_lines 1 = .ok (.istore_n 1, 1) := by decide +kernel
theorem dX1_lines_2 : decode cX1_lines 2 = .ok (.iconst 0, 1) := by decide +kernel
theorem dX1_lines_3 : decode cX1_lines 3 = .ok (.istore_n 2, 1) := by decide +kernel
theorem dX1_lines_4 : decode cX1_lines 4 = .ok (.iload_n 2, 1) := by decide +kernel
theorem dX1_lines_5 : decode cX1_lines 5 = .ok (.bipush 6, 2) := by decide +kernel
theorem dX1_lines_7 : decode cX1_lines 7 = .ok (.if_icmp .ge 22, 3) := by decide +kernel
theorem dX1_lines_10 : decode cX1_lines 10 = .ok (.iload_n 1, 1) := by decide +kernel
theorem dX1_lines_11 : decode cX1_lines 11 = .ok (.aload_n 0, 1) := by decide +kernel
theorem dX1_lines_12 : decode cX1_lines 12 = .ok (.aload_n 0, 1) := by decide +kernel
theorem dX1_lines_13 : decode cX1_lines 13 = .ok (.getfield 7, 3) := by decide +kernel
theorem dX1_lines_16 : decode cX1_lines 16 = .ok (.iload_n 2, 1) := by decide +kernel
theorem dX1_lines_17 : decode cX1_lines 17 = .ok (.iaload, 1) := by decide +kernel
theorem dX1_lines_18 : decode cX1_lines 18 = .ok (.invokevirtual 47, 3) := by decide +kernel
theorem dX1_lines_21 : decode cX1_lines 21 = .ok (.iadd, 1) := by decide +kernel
theorem dX1_lines_22 : decode cX1_lines 22 = .ok (.istore_n 1, 1) := by decide +kernel
theorem dX1_lines_23 : decode cX1_lines 23 = .ok (.iinc 2 1, 3) := by decide +kernel
theorem dX1_lines_26 : decode cX1_lines 26 = .ok (.goto (-22), 3) := by decide +kernel
theorem dX1_lines_29 : decode cX1_lines 29 = .ok (.iload_n 1, 1) := by decide +kernel
theorem dX1_lines_30 : decode cX1_lines 30 = .ok (.iconst 2, 1) := by decide +kernel
theorem dX1_lines_31 : decode cX1_lines 31 = .ok (.idiv, 1) := by decide +kernel
theorem dX1_lines_32 : decode cX1_lines 32 = .ok (.ireturn, 1) := by decide +kernel
theorem dX1_bits_0 : decode cX1_bits 0 = .ok (.iconst 0, 1) := by decide +kernel
theorem dX1_bits_1 : decode cX1_bits 1 = .ok (.istore_n 2, 1) := by decide +kernel
theorem dX1_bits_2 : decode cX1_bits 2 = .ok (.iconst 0, 1) := by decide +kernel
theorem dX1_bits_3 : decode cX1_bits 3 = .ok (.istore_n 3, 1) := by decide +kernel
theorem dX1_bits_4 : decode cX1_bits 4 = .ok (.iload_n 3, 1) := by decide +kernel
theorem dX1_bits_5 : decode cX1_bits 5 = .ok (.bipush 6, 2) := by decide +kernel
theorem dX1_bits_7 : decode cX1_bits 7 = .ok (.if_icmp .ge 17, 3) := by decide +kernel
theorem dX1_bits_10 : decode cX1_bits 10 = .ok (.iload_n 2, 1) := by decide +kernel
theorem dX1_bits_11 : decode cX1_bits 11 = .ok (.iload_n 1, 1) := by decide +kernel
theorem dX1_bits_12 : decode cX1_bits 12 = .ok (.iload_n 3, 1) := by decide +kernel
theorem dX1_bits_13 : decode cX1_bits 13 = .ok (.ishr, 1) := by decide +kernel
theorem dX1_bits_14 : decode cX1_bits 14 = .ok (.iconst 1, 1) := by decide +kernel
theorem dX1_bits_15 : decode cX1_bits 15 = .ok (.iand, 1) := by decide +kernel
theorem dX1_bits_16 : decode cX1_bits 16 = .ok (.iadd, 1) := by decide +kernel
theorem dX1_bits_17 : decode cX1_bits 17 = .ok (.istore_n 2, 1) := by decide +kernel
theorem dX1_bits_18 : decode cX1_bits 18 = .ok (.iinc 3 1, 3) := by decide +kernel
theorem dX1_bits_21 : decode cX1_bits 21 = .ok (.goto (-17), 3) := by decide +kernel
theorem dX1_bits_24 : decode cX1_bits 24 = .ok (.iload_n 2, 1) := by decide +kernel
theorem dX1_bits_25 : decode cX1_bits 25 = .ok (.ireturn, 1) := by decide +kernel
theorem dX1_cutWidth_0 : decode cX1_cutWidth 0 = .ok (.aload_n 0, 1) := by decide +kernel
theorem dX1_cutWidth_1 : decode cX1_cutWidth 1 = .ok (.iconst 0, 1) := by decide +kernel
theorem dX1_cutWidth_2 : decode cX1_cutWidth 2 = .ok (.invokevirtual 71, 3) := by decide +kernel
theorem dX1_cutWidth_5 : decode cX1_cutWidth 5 = .ok (.ireturn, 1) := by decide +kernel
theorem dX1_least_0 : decode cX1_least 0 = .ok (.aload_n 0, 1) := by decide +kernel
theorem dX1_least_1 : decode cX1_least 1 = .ok (.invokevirtual 68, 3) := by decide +kernel
theorem dX1_least_4 : decode cX1_least 4 = .ok (.aload_n 0, 1) := by decide +kernel
theorem dX1_least_5 : decode cX1_least 5 = .ok (.getfield 22, 3) := by decide +kernel
theorem dX1_least_8 : decode cX1_least 8 = .ok (.iload_n 1, 1) := by decide +kernel
theorem dX1_least_9 : decode cX1_least 9 = .ok (.iaload, 1) := by decide +kernel
theorem dX1_least_10 : decode cX1_least 10 = .ok (.ireturn, 1) := by decide +kernel
theorem dX1_goOver_0 : decode cX1_goOver 0 = .ok (.aload_n 0, 1) := by decide +kernel
theorem dX1_goOver_1 : decode cX1_goOver 1 = .ok (.getfield 39, 3) := by decide +kernel
theorem dX1_goOver_4 : decode cX1_goOver 4 = .ok (.ifCond .eq 4, 3) := by decide +kernel
theorem dX1_goOver_7 : decode cX1_goOver 7 = .ok (.return_, 1) := by decide +kernel
theorem dX1_goOver_8 : decode cX1_goOver 8 = .ok (.aload_n 0, 1) := by decide +kernel
theorem dX1_goOver_9 : decode cX1_goOver 9 = .ok (.iconst 1, 1) := by decide +kernel
theorem dX1_goOver_10 : decode cX1_goOver 10 = .ok (.putfield 39, 3) := by decide +kernel
theorem dX1_goOver_13 : decode cX1_goOver 13 = .ok (.iconst 0, 1) := by decide +kernel
theorem dX1_goOver_14 : decode cX1_goOver 14 = .ok (.istore_n 1, 1) := by decide +kernel
theorem dX1_goOver_15 : decode cX1_goOver 15 = .ok (.iload_n 1, 1) := by decide +kernel
theorem dX1_goOver_16 : decode cX1_goOver 16 = .ok (.bipush 6, 2) := by decide +kernel
theorem dX1_goOver_18 : decode cX1_goOver 18 = .ok (.if_icmp .ge 18, 3) := by decide +kernel
theorem dX1_goOver_21 : decode cX1_goOver 21 = .ok (.aload_n 0, 1) := by decide +kernel
theorem dX1_goOver_22 : decode cX1_goOver 22 = .ok (.getfield 22, 3) := by decide +kernel
theorem dX1_goOver_25 : decode cX1_goOver 25 = .ok (.iload_n 1, 1) := by decide +kernel
theorem dX1_goOver_26 : decode cX1_goOver 26 = .ok (.sipush 1000, 3) := by decide +kernel
theorem dX1_goOver_29 : decode cX1_goOver 29 = .ok (.iastore, 1) := by decide +kernel
theorem dX1_goOver_30 : decode cX1_goOver 30 = .ok (.iinc 1 1, 3) := by decide +kernel
theorem dX1_goOver_33 : decode cX1_goOver 33 = .ok (.goto (-18), 3) := by decide +kernel
theorem dX1_goOver_36 : decode cX1_goOver 36 = .ok (.iconst 0, 1) := by decide +kernel
theorem dX1_goOver_37 : decode cX1_goOver 37 = .ok (.istore_n 1, 1) := by decide +kernel
theorem dX1_goOver_38 : decode cX1_goOver 38 = .ok (.iload_n 1, 1) := by decide +kernel
theorem dX1_goOver_39 : decode cX1_goOver 39 = .ok (.sipush 720, 3) := by decide +kernel
theorem dX1_goOver_42 : decode cX1_goOver 42 = .ok (.if_icmp .ge 160, 3) := by decide +kernel
theorem dX1_goOver_45 : decode cX1_goOver 45 = .ok (.aload_n 0, 1) := by decide +kernel
theorem dX1_goOver_46 : decode cX1_goOver 46 = .ok (.iload_n 1, 1) := by decide +kernel
theorem dX1_goOver_47 : decode cX1_goOver 47 = .ok (.invokevirtual 58, 3) := by decide +kernel
theorem dX1_goOver_50 : decode cX1_goOver 50 = .ok (.aload_n 0, 1) := by decide +kernel
theorem dX1_goOver_51 : decode cX1_goOver 51 = .ok (.invokevirtual 62, 3) := by decide +kernel
theorem dX1_goOver_54 : decode cX1_goOver 54 = .ok (.aload_n 0, 1) := by decide +kernel
theorem dX1_goOver_55 : decode cX1_goOver 55 = .ok (.invokevirtual 65, 3) := by decide +kernel
theorem dX1_goOver_58 : decode cX1_goOver 58 = .ok (.iconst 0, 1) := by decide +kernel
theorem dX1_goOver_59 : decode cX1_goOver 59 = .ok (.istore_n 2, 1) := by decide +kernel
theorem dX1_goOver_60 : decode cX1_goOver 60 = .ok (.iload_n 2, 1) := by decide +kernel
theorem dX1_goOver_61 : decode cX1_goOver 61 = .ok (.bipush 6, 2) := by decide +kernel
theorem dX1_goOver_63 : decode cX1_goOver 63 = .ok (.if_icmp .ge 133, 3) := by decide +kernel
theorem dX1_goOver_66 : decode cX1_goOver 66 = .ok (.aload_n 0, 1) := by decide +kernel
theorem dX1_goOver_67 : decode cX1_goOver 67 = .ok (.getfield 25, 3) := by decide +kernel
theorem dX1_goOver_70 : decode cX1_goOver 70 = .ok (.iload_n 2, 1) := by decide +kernel
theorem dX1_goOver_71 : decode cX1_goOver 71 = .ok (.aload_n 0, 1) := by decide +kernel
theorem dX1_goOver_72 : decode cX1_goOver 72 = .ok (.getfield 19, 3) := by decide +kernel
theorem dX1_goOver_75 : decode cX1_goOver 75 = .ok (.iload_n 2, 1) := by decide +kernel
theorem dX1_goOver_76 : decode cX1_goOver 76 = .ok (.iaload, 1) := by decide +kernel
theorem dX1_goOver_77 : decode cX1_goOver 77 = .ok (.aload_n 0, 1) := by decide +kernel
theorem dX1_goOver_78 : decode cX1_goOver 78 = .ok (.getfield 22, 3) := by decide +kernel
theorem dX1_goOver_81 : decode cX1_goOver 81 = .ok (.iload_n 2, 1) := by decide +kernel
theorem dX1_goOver_82 : decode cX1_goOver 82 = .ok (.iaload, 1) := by decide +kernel
theorem dX1_goOver_83 : decode cX1_goOver 83 = .ok (.if_icmp .ge 7, 3) := by decide +kernel
theorem dX1_goOver_86 : decode cX1_goOver 86 = .ok (.iconst 1, 1) := by decide +kernel
theorem dX1_goOver_87 : decode cX1_goOver 87 = .ok (.goto 35, 3) := by decide +kernel
theorem dX1_goOver_90 : decode cX1_goOver 90 = .ok (.aload_n 0, 1) := by decide +kernel
theorem dX1_goOver_91 : decode cX1_goOver 91 = .ok (.getfield 19, 3) := by decide +kernel
theorem dX1_goOver_94 : decode cX1_goOver 94 = .ok (.iload_n 2, 1) := by decide +kernel
theorem dX1_goOver_95 : decode cX1_goOver 95 = .ok (.iaload, 1) := by decide +kernel
theorem dX1_goOver_96 : decode cX1_goOver 96 = .ok (.aload_n 0, 1) := by decide +kernel
theorem dX1_goOver_97 : decode cX1_goOver 97 = .ok (.getfield 22, 3) := by decide +kernel
theorem dX1_goOver_100 : decode cX1_goOver 100 = .ok (.iload_n 2, 1) := by decide +kernel
theorem dX1_goOver_101 : decode cX1_goOver 101 = .ok (.iaload, 1) := by decide +kernel
theorem dX1_goOver_102 : decode cX1_goOver 102 = .ok (.if_icmp .ne 14, 3) := by decide +kernel
theorem dX1_goOver_105 : decode cX1_goOver 105 = .ok (.aload_n 0, 1) := by decide +kernel
theorem dX1_goOver_106 : decode cX1_goOver 106 = .ok (.getfield 25, 3) := by decide +kernel
theorem dX1_goOver_109 : decode cX1_goOver 109 = .ok (.iload_n 2, 1) := by decide +kernel
theorem dX1_goOver_110 : decode cX1_goOver 110 = .ok (.iaload, 1) := by decide +kernel
theorem dX1_goOver_111 : decode cX1_goOver 111 = .ok (.iconst 1, 1) := by decide +kernel
theorem dX1_goOver_112 : decode cX1_goOver 112 = .ok (.iadd, 1) := by decide +kernel
theorem dX1_goOver_113 : decode cX1_goOver 113 = .ok (.goto 9, 3) := by decide +kernel
theorem dX1_goOver_116 : decode cX1_goOver 116 = .ok (.aload_n 0, 1) := by decide +kernel
theorem dX1_goOver_117 : decode cX1_goOver 117 = .ok (.getfield 25, 3) := by decide +kernel
theorem dX1_goOver_120 : decode cX1_goOver 120 = .ok (.iload_n 2, 1) := by decide +kernel
theorem dX1_goOver_121 : decode cX1_goOver 121 = .ok (.iaload, 1) := by decide +kernel
theorem dX1_goOver_122 : decode cX1_goOver 122 = .ok (.iastore, 1) := by decide +kernel
theorem dX1_goOver_123 : decode cX1_goOver 123 = .ok (.aload_n 0, 1) := by decide +kernel
theorem dX1_goOver_124 : decode cX1_goOver 124 = .ok (.getfield 28, 3) := by decide +kernel
theorem dX1_goOver_127 : decode cX1_goOver 127 = .ok (.iload_n 2, 1) := by decide +kernel
theorem dX1_goOver_128 : decode cX1_goOver 128 = .ok (.aload_n 0, 1) := by decide +kernel
theorem dX1_goOver_129 : decode cX1_goOver 129 = .ok (.getfield 19, 3) := by decide +kernel
theorem dX1_goOver_132 : decode cX1_goOver 132 = .ok (.iload_n 2, 1) := by decide +kernel
theorem dX1_goOver_133 : decode cX1_goOver 133 = .ok (.iaload, 1) := by decide +kernel
theorem dX1_goOver_134 : decode cX1_goOver 134 = .ok (.aload_n 0, 1) := by decide +kernel
theorem dX1_goOver_135 : decode cX1_goOver 135 = .ok (.getfield 22, 3) := by decide +kernel
theorem dX1_goOver_138 : decode cX1_goOver 138 = .ok (.iload_n 2, 1) := by decide +kernel
theorem dX1_goOver_139 : decode cX1_goOver 139 = .ok (.iaload, 1) := by decide +kernel
theorem dX1_goOver_140 : decode cX1_goOver 140 = .ok (.if_icmp .ge 7, 3) := by decide +kernel
theorem dX1_goOver_143 : decode cX1_goOver 143 = .ok (.iload_n 1, 1) := by decide +kernel
theorem dX1_goOver_144 : decode cX1_goOver 144 = .ok (.goto 9, 3) := by decide +kernel
theorem dX1_goOver_147 : decode cX1_goOver 147 = .ok (.aload_n 0, 1) := by decide +kernel
theorem dX1_goOver_148 : decode cX1_goOver 148 = .ok (.getfield 28, 3) := by decide +kernel
theorem dX1_goOver_151 : decode cX1_goOver 151 = .ok (.iload_n 2, 1) := by decide +kernel
theorem dX1_goOver_152 : decode cX1_goOver 152 = .ok (.iaload, 1) := by decide +kernel
theorem dX1_goOver_153 : decode cX1_goOver 153 = .ok (.iastore, 1) := by decide +kernel
theorem dX1_goOver_154 : decode cX1_goOver 154 = .ok (.aload_n 0, 1) := by decide +kernel
theorem dX1_goOver_155 : decode cX1_goOver 155 = .ok (.getfield 22, 3) := by decide +kernel
theorem dX1_goOver_158 : decode cX1_goOver 158 = .ok (.iload_n 2, 1) := by decide +kernel
theorem dX1_goOver_159 : decode cX1_goOver 159 = .ok (.aload_n 0, 1) := by decide +kernel
theorem dX1_goOver_160 : decode cX1_goOver 160 = .ok (.getfield 19, 3) := by decide +kernel
theorem dX1_goOver_163 : decode cX1_goOver 163 = .ok (.iload_n 2, 1) := by decide +kernel
theorem dX1_goOver_164 : decode cX1_goOver 164 = .ok (.iaload, 1) := by decide +kernel
theorem dX1_goOver_165 : decode cX1_goOver 165 = .ok (.aload_n 0, 1) := by decide +kernel
theorem dX1_goOver_166 : decode cX1_goOver 166 = .ok (.getfield 22, 3) := by decide +kernel
theorem dX1_goOver_169 : decode cX1_goOver 169 = .ok (.iload_n 2, 1) := by decide +kernel
theorem dX1_goOver_170 : decode cX1_goOver 170 = .ok (.iaload, 1) := by decide +kernel
theorem dX1_goOver_171 : decode cX1_goOver 171 = .ok (.if_icmp .ge 12, 3) := by decide +kernel
theorem dX1_goOver_174 : decode cX1_goOver 174 = .ok (.aload_n 0, 1) := by decide +kernel
theorem dX1_goOver_175 : decode cX1_goOver 175 = .ok (.getfield 19, 3) := by decide +kernel
theorem dX1_goOver_178 : decode cX1_goOver 178 = .ok (.iload_n 2, 1) := by decide +kernel
theorem dX1_goOver_179 : decode cX1_goOver 179 = .ok (.iaload, 1) := by decide +kernel
theorem dX1_goOver_180 : decode cX1_goOver 180 = .ok (.goto 9, 3) := by decide +kernel
theorem dX1_goOver_183 : decode cX1_goOver 183 = .ok (.aload_n 0, 1) := by decide +kernel
theorem dX1_goOver_184 : decode cX1_goOver 184 = .ok (.getfield 22, 3) := by decide +kernel
theorem dX1_goOver_187 : decode cX1_goOver 187 = .ok (.iload_n 2, 1) := by decide +kernel
theorem dX1_goOver_188 : decode cX1_goOver 188 = .ok (.iaload, 1) := by decide +kernel
theorem dX1_goOver_189 : decode cX1_goOver 189 = .ok (.iastore, 1) := by decide +kernel
theorem dX1_goOver_190 : decode cX1_goOver 190 = .ok (.iinc 2 1, 3) := by decide +kernel
theorem dX1_goOver_193 : decode cX1_goOver 193 = .ok (.goto (-133), 3) := by decide +kernel
theorem dX1_goOver_196 : decode cX1_goOver 196 = .ok (.iinc 1 1, 3) := by decide +kernel
theorem dX1_goOver_199 : decode cX1_goOver 199 = .ok (.goto (-161), 3) := by decide +kernel
theorem dX1_goOver_202 : decode cX1_goOver 202 = .ok (.return_, 1) := by decide +kernel
theorem dX1_setOrder_0 : decode cX1_setOrder 0 = .ok (.iload_n 1, 1) := by decide +kernel
theorem dX1_setOrder_1 : decode cX1_setOrder 1 = .ok (.istore_n 2, 1) := by decide +kernel
theorem dX1_setOrder_2 : decode cX1_setOrder 2 = .ok (.sipush 720, 3) := by decide +kernel
theorem dX1_setOrder_5 : decode cX1_setOrder 5 = .ok (.istore_n 3, 1) := by decide +kernel
theorem dX1_setOrder_6 : decode cX1_setOrder 6 = .ok (.bipush 63, 2) := by decide +kernel
theorem dX1_setOrder_8 : decode cX1_setOrder 8 = .ok (.istore 4, 2) := by decide +kernel
theorem dX1_setOrder_10 : decode cX1_setOrder 10 = .ok (.iconst 0, 1) := by decide +kernel
theorem dX1_setOrder_11 : decode cX1_setOrder 11 = .ok (.istore 5, 2) := by decide +kernel
theorem dX1_setOrder_13 : decode cX1_setOrder 13 = .ok (.iload 5, 2) := by decide +kernel
theorem dX1_setOrder_15 : decode cX1_setOrder 15 = .ok (.bipush 6, 2) := by decide +kernel
theorem dX1_setOrder_17 : decode cX1_setOrder 17 = .ok (.if_icmp .ge 53, 3) := by decide +kernel
theorem dX1_setOrder_20 : decode cX1_setOrder 20 = .ok (.iload_n 3, 1) := by decide +kernel
theorem dX1_setOrder_21 : decode cX1_setOrder 21 = .ok (.bipush 6, 2) := by decide +kernel
theorem dX1_setOrder_23 : decode cX1_setOrder 23 = .ok (.iload 5, 2) := by decide +kernel
theorem dX1_setOrder_25 : decode cX1_setOrder 25 = .ok (.isub, 1) := by decide +kernel
theorem dX1_setOrder_26 : decode cX1_setOrder 26 = .ok (.idiv, 1) := by decide +kernel
theorem dX1_setOrder_27 : decode cX1_setOrder 27 = .ok (.istore_n 3, 1) := by decide +kernel
theorem dX1_setOrder_28 : decode cX1_setOrder 28 = .ok (.aload_n 0, 1) := by decide +kernel
theorem dX1_setOrder_29 : decode cX1_setOrder 29 = .ok (.getfield 16, 3) := by decide +kernel
theorem dX1_setOrder_32 : decode cX1_setOrder 32 = .ok (.iload 5, 2) := by decide +kernel
theorem dX1_setOrder_34 : decode cX1_setOrder 34 = .ok (.aload_n 0, 1) := by decide +kernel
theorem dX1_setOrder_35 : decode cX1_setOrder 35 = .ok (.iload 4, 2) := by decide +kernel
theorem dX1_setOrder_37 : decode cX1_setOrder 37 = .ok (.iload_n 2, 1) := by decide +kernel
theorem dX1_setOrder_38 : decode cX1_setOrder 38 = .ok (.iload_n 3, 1) := by decide +kernel
theorem dX1_setOrder_39 : decode cX1_setOrder 39 = .ok (.idiv, 1) := by decide +kernel
theorem dX1_setOrder_40 : decode cX1_setOrder 40 = .ok (.invokevirtual 51, 3) := by decide +kernel
theorem dX1_setOrder_43 : decode cX1_setOrder 43 = .ok (.iastore, 1) := by decide +kernel
theorem dX1_setOrder_44 : decode cX1_setOrder 44 = .ok (.iload_n 2, 1) := by decide +kernel
theorem dX1_setOrder_45 : decode cX1_setOrder 45 = .ok (.iload_n 3, 1) := by decide +kernel
theorem dX1_setOrder_46 : decode cX1_setOrder 46 = .ok (.irem, 1) := by decide +kernel
theorem dX1_setOrder_47 : decode cX1_setOrder 47 = .ok (.istore_n 2, 1) := by decide +kernel
theorem dX1_setOrder_48 : decode cX1_setOrder 48 = .ok (.iload 4, 2) := by decide +kernel
theorem dX1_setOrder_50 : decode cX1_setOrder 50 = .ok (.iconst 1, 1) := by decide +kernel
theorem dX1_setOrder_51 : decode cX1_setOrder 51 = .ok (.aload_n 0, 1) := by decide +kernel
theorem dX1_setOrder_52 : decode cX1_setOrder 52 = .ok (.getfield 16, 3) := by decide +kernel
theorem dX1_setOrder_55 : decode cX1_setOrder 55 = .ok (.iload 5, 2) := by decide +kernel
theorem dX1_setOrder_57 : decode cX1_setOrder 57 = .ok (.iaload, 1) := by decide +kernel
theorem dX1_setOrder_58 : decode cX1_setOrder 58 = .ok (.ishl, 1) := by decide +kernel
theorem dX1_setOrder_59 : decode cX1_setOrder 59 = .ok (.iconst (-1), 1) := by decide +kernel
theorem dX1_setOrder_60 : decode cX1_setOrder 60 = .ok (.ixor, 1) := by decide +kernel
theorem dX1_setOrder_61 : decode cX1_setOrder 61 = .ok (.iand, 1) := by decide +kernel
theorem dX1_setOrder_62 : decode cX1_setOrder 62 = .ok (.istore 4, 2) := by decide +kernel
theorem dX1_setOrder_64 : decode cX1_setOrder 64 = .ok (.iinc 5 1, 3) := by decide +kernel
theorem dX1_setOrder_67 : decode cX1_setOrder 67 = .ok (.goto (-54), 3) := by decide +kernel
theorem dX1_setOrder_70 : decode cX1_setOrder 70 = .ok (.return_, 1) := by decide +kernel
theorem dX1_nth_0 : decode cX1_nth 0 = .ok (.iload_n 2, 1) := by decide +kernel
theorem dX1_nth_1 : decode cX1_nth 1 = .ok (.istore_n 3, 1) := by decide +kernel
theorem dX1_nth_2 : decode cX1_nth 2 = .ok (.iconst 0, 1) := by decide +kernel
theorem dX1_nth_3 : decode cX1_nth 3 = .ok (.istore 4, 2) := by decide +kernel
theorem dX1_nth_5 : decode cX1_nth 5 = .ok (.iload 4, 2) := by decide +kernel
theorem dX1_nth_7 : decode cX1_nth 7 = .ok (.bipush 6, 2) := by decide +kernel
theorem dX1_nth_9 : decode cX1_nth 9 = .ok (.if_icmp .ge 29, 3) := by decide +kernel
theorem dX1_nth_12 : decode cX1_nth 12 = .ok (.iload_n 1, 1) := by decide +kernel
theorem dX1_nth_13 : decode cX1_nth 13 = .ok (.iload 4, 2) := by decide +kernel
theorem dX1_nth_15 : decode cX1_nth 15 = .ok (.ishr, 1) := by decide +kernel
theorem dX1_nth_16 : decode cX1_nth 16 = .ok (.iconst 1, 1) := by decide +kernel
theorem dX1_nth_17 : decode cX1_nth 17 = .ok (.iand, 1) := by decide +kernel
theorem dX1_nth_18 : decode cX1_nth 18 = .ok (.iconst 1, 1) := by decide +kernel
theorem dX1_nth_19 : decode cX1_nth 19 = .ok (.if_icmp .ne 13, 3) := by decide +kernel
theorem dX1_nth_22 : decode cX1_nth 22 = .ok (.iload_n 3, 1) := by decide +kernel
theorem dX1_nth_23 : decode cX1_nth 23 = .ok (.ifCond .ne 6, 3) := by decide +kernel
theorem dX1_nth_26 : decode cX1_nth 26 = .ok (.iload 4, 2) := by decide +kernel
theorem dX1_nth_28 : decode cX1_nth 28 = .ok (.ireturn, 1) := by decide +kernel
theorem dX1_nth_29 : decode cX1_nth 29 = .ok (.iinc 3 (-1), 3) := by decide +kernel
theorem dX1_nth_32 : decode cX1_nth 32 = .ok (.iinc 4 1, 3) := by decide +kernel
end
section
set_option maxRecDepth 100000
theorem dX1_nth_35 : decode cX1_nth 35 = .ok (.goto (-30), 3) := by decide +kernel
theorem dX1_nth_38 : decode cX1_nth 38 = .ok (.iconst 0, 1) := by decide +kernel
theorem dX1_nth_39 : decode cX1_nth 39 = .ok (.ireturn, 1) := by decide +kernel
theorem dX1_lay_0 : decode cX1_lay 0 = .ok (.iconst 0, 1) := by decide +kernel
theorem dX1_lay_1 : decode cX1_lay 1 = .ok (.istore_n 1, 1) := by decide +kernel
theorem dX1_lay_2 : decode cX1_lay 2 = .ok (.iload_n 1, 1) := by decide +kernel
theorem dX1_lay_3 : decode cX1_lay 3 = .ok (.iconst 4, 1) := by decide +kernel
theorem dX1_lay_4 : decode cX1_lay 4 = .ok (.if_icmp .ge 16, 3) := by decide +kernel
theorem dX1_lay_7 : decode cX1_lay 7 = .ok (.aload_n 0, 1) := by decide +kernel
theorem dX1_lay_8 : decode cX1_lay 8 = .ok (.getfield 19, 3) := by decide +kernel
theorem dX1_lay_11 : decode cX1_lay 11 = .ok (.iload_n 1, 1) := by decide +kernel
theorem dX1_lay_12 : decode cX1_lay 12 = .ok (.iconst 0, 1) := by decide +kernel
theorem dX1_lay_13 : decode cX1_lay 13 = .ok (.iastore, 1) := by decide +kernel
theorem dX1_lay_14 : decode cX1_lay 14 = .ok (.iinc 1 1, 3) := by decide +kernel
theorem dX1_lay_17 : decode cX1_lay 17 = .ok (.goto (-15), 3) := by decide +kernel
theorem dX1_lay_20 : decode cX1_lay 20 = .ok (.iconst 0, 1) := by decide +kernel
theorem dX1_lay_21 : decode cX1_lay 21 = .ok (.istore_n 1, 1) := by decide +kernel
theorem dX1_lay_22 : decode cX1_lay 22 = .ok (.iconst 0, 1) := by decide +kernel
theorem dX1_lay_23 : decode cX1_lay 23 = .ok (.istore_n 2, 1) := by decide +kernel
theorem dX1_lay_24 : decode cX1_lay 24 = .ok (.iload_n 2, 1) := by decide +kernel
theorem dX1_lay_25 : decode cX1_lay 25 = .ok (.bipush 6, 2) := by decide +kernel
theorem dX1_lay_27 : decode cX1_lay 27 = .ok (.if_icmp .ge 237, 3) := by decide +kernel
theorem dX1_lay_30 : decode cX1_lay 30 = .ok (.iload_n 1, 1) := by decide +kernel
theorem dX1_lay_31 : decode cX1_lay 31 = .ok (.iconst 1, 1) := by decide +kernel
theorem dX1_lay_32 : decode cX1_lay 32 = .ok (.aload_n 0, 1) := by decide +kernel
theorem dX1_lay_33 : decode cX1_lay 33 = .ok (.getfield 16, 3) := by decide +kernel
theorem dX1_lay_36 : decode cX1_lay 36 = .ok (.iload_n 2, 1) := by decide +kernel
theorem dX1_lay_37 : decode cX1_lay 37 = .ok (.iaload, 1) := by decide +kernel
theorem dX1_lay_38 : decode cX1_lay 38 = .ok (.ishl, 1) := by decide +kernel
theorem dX1_lay_39 : decode cX1_lay 39 = .ok (.ior, 1) := by decide +kernel
theorem dX1_lay_40 : decode cX1_lay 40 = .ok (.istore_n 1, 1) := by decide +kernel
theorem dX1_lay_41 : decode cX1_lay 41 = .ok (.iconst 0, 1) := by decide +kernel
theorem dX1_lay_42 : decode cX1_lay 42 = .ok (.istore_n 3, 1) := by decide +kernel
theorem dX1_lay_43 : decode cX1_lay 43 = .ok (.iconst 0, 1) := by decide +kernel
theorem dX1_lay_44 : decode cX1_lay 44 = .ok (.istore 4, 2) := by decide +kernel
theorem dX1_lay_46 : decode cX1_lay 46 = .ok (.iconst 0, 1) := by decide +kernel
theorem dX1_lay_47 : decode cX1_lay 47 = .ok (.istore 5, 2) := by decide +kernel
theorem dX1_lay_49 : decode cX1_lay 49 = .ok (.iload 5, 2) := by decide +kernel
theorem dX1_lay_51 : decode cX1_lay 51 = .ok (.iload_n 2, 1) := by decide +kernel
theorem dX1_lay_52 : decode cX1_lay 52 = .ok (.if_icmp .gt 152, 3) := by decide +kernel
theorem dX1_lay_55 : decode cX1_lay 55 = .ok (.aload_n 0, 1) := by decide +kernel
theorem dX1_lay_56 : decode cX1_lay 56 = .ok (.aload_n 0, 1) := by decide +kernel
theorem dX1_lay_57 : decode cX1_lay 57 = .ok (.getfield 7, 3) := by decide +kernel
theorem dX1_lay_60 : decode cX1_lay 60 = .ok (.aload_n 0, 1) := by decide +kernel
theorem dX1_lay_61 : decode cX1_lay 61 = .ok (.getfield 16, 3) := by decide +kernel
theorem dX1_lay_64 : decode cX1_lay 64 = .ok (.iload 5, 2) := by decide +kernel
theorem dX1_lay_66 : decode cX1_lay 66 = .ok (.iaload, 1) := by decide +kernel
theorem dX1_lay_67 : decode cX1_lay 67 = .ok (.iaload, 1) := by decide +kernel
theorem dX1_lay_68 : decode cX1_lay 68 = .ok (.iload_n 1, 1) := by decide +kernel
theorem dX1_lay_69 : decode cX1_lay 69 = .ok (.iconst (-1), 1) := by decide +kernel
theorem dX1_lay_70 : decode cX1_lay 70 = .ok (.ixor, 1) := by decide +kernel
theorem dX1_lay_71 : decode cX1_lay 71 = .ok (.iand, 1) := by decide +kernel
theorem dX1_lay_72 : decode cX1_lay 72 = .ok (.invokevirtual 47, 3) := by decide +kernel
theorem dX1_lay_75 : decode cX1_lay 75 = .ok (.istore 6, 2) := by decide +kernel
theorem dX1_lay_77 : decode cX1_lay 77 = .ok (.iload_n 3, 1) := by decide +kernel
theorem dX1_lay_78 : decode cX1_lay 78 = .ok (.iload 6, 2) := by decide +kernel
theorem dX1_lay_80 : decode cX1_lay 80 = .ok (.iadd, 1) := by decide +kernel
theorem dX1_lay_81 : decode cX1_lay 81 = .ok (.istore_n 3, 1) := by decide +kernel
theorem dX1_lay_82 : decode cX1_lay 82 = .ok (.iload 6, 2) := by decide +kernel
theorem dX1_lay_84 : decode cX1_lay 84 = .ok (.ifCond .le 10, 3) := by decide +kernel
theorem dX1_lay_87 : decode cX1_lay 87 = .ok (.iload 4, 2) := by decide +kernel
theorem dX1_lay_89 : decode cX1_lay 89 = .ok (.iconst 1, 1) := by decide +kernel
theorem dX1_lay_90 : decode cX1_lay 90 = .ok (.iadd, 1) := by decide +kernel
theorem dX1_lay_91 : decode cX1_lay 91 = .ok (.goto 5, 3) := by decide +kernel
theorem dX1_lay_94 : decode cX1_lay 94 = .ok (.iload 4, 2) := by decide +kernel
theorem dX1_lay_96 : decode cX1_lay 96 = .ok (.istore 4, 2) := by decide +kernel
theorem dX1_lay_98 : decode cX1_lay 98 = .ok (.aload_n 0, 1) := by decide +kernel
theorem dX1_lay_99 : decode cX1_lay 99 = .ok (.getfield 7, 3) := by decide +kernel
theorem dX1_lay_102 : decode cX1_lay 102 = .ok (.aload_n 0, 1) := by decide +kernel
theorem dX1_lay_103 : decode cX1_lay 103 = .ok (.getfield 16, 3) := by decide +kernel
theorem dX1_lay_106 : decode cX1_lay 106 = .ok (.iload 5, 2) := by decide +kernel
theorem dX1_lay_108 : decode cX1_lay 108 = .ok (.iaload, 1) := by decide +kernel
theorem dX1_lay_109 : decode cX1_lay 109 = .ok (.iaload, 1) := by decide +kernel
theorem dX1_lay_110 : decode cX1_lay 110 = .ok (.aload_n 0, 1) := by decide +kernel
theorem dX1_lay_111 : decode cX1_lay 111 = .ok (.getfield 16, 3) := by decide +kernel
theorem dX1_lay_114 : decode cX1_lay 114 = .ok (.iload_n 2, 1) := by decide +kernel
theorem dX1_lay_115 : decode cX1_lay 115 = .ok (.iaload, 1) := by decide +kernel
theorem dX1_lay_116 : decode cX1_lay 116 = .ok (.ishr, 1) := by decide +kernel
theorem dX1_lay_117 : decode cX1_lay 117 = .ok (.iconst 1, 1) := by decide +kernel
theorem dX1_lay_118 : decode cX1_lay 118 = .ok (.iand, 1) := by decide +kernel
theorem dX1_lay_119 : decode cX1_lay 119 = .ok (.iconst 1, 1) := by decide +kernel
theorem dX1_lay_120 : decode cX1_lay 120 = .ok (.if_icmp .ne 7, 3) := by decide +kernel
theorem dX1_lay_123 : decode cX1_lay 123 = .ok (.iconst 1, 1) := by decide +kernel
theorem dX1_lay_124 : decode cX1_lay 124 = .ok (.goto 4, 3) := by decide +kernel
theorem dX1_lay_127 : decode cX1_lay 127 = .ok (.iconst 0, 1) := by decide +kernel
theorem dX1_lay_128 : decode cX1_lay 128 = .ok (.istore 7, 2) := by decide +kernel
theorem dX1_lay_130 : decode cX1_lay 130 = .ok (.aload_n 0, 1) := by decide +kernel
theorem dX1_lay_131 : decode cX1_lay 131 = .ok (.getfield 19, 3) := by decide +kernel
theorem dX1_lay_134 : decode cX1_lay 134 = .ok (.iconst 2, 1) := by decide +kernel
theorem dX1_lay_135 : decode cX1_lay 135 = .ok (.iload 7, 2) := by decide +kernel
theorem dX1_lay_137 : decode cX1_lay 137 = .ok (.ifCond .eq 23, 3) := by decide +kernel
theorem dX1_lay_140 : decode cX1_lay 140 = .ok (.iload_n 2, 1) := by decide +kernel
theorem dX1_lay_141 : decode cX1_lay 141 = .ok (.iload 5, 2) := by decide +kernel
theorem dX1_lay_143 : decode cX1_lay 143 = .ok (.isub, 1) := by decide +kernel
theorem dX1_lay_144 : decode cX1_lay 144 = .ok (.aload_n 0, 1) := by decide +kernel
theorem dX1_lay_145 : decode cX1_lay 145 = .ok (.getfield 19, 3) := by decide +kernel
theorem dX1_lay_148 : decode cX1_lay 148 = .ok (.iconst 2, 1) := by decide +kernel
theorem dX1_lay_149 : decode cX1_lay 149 = .ok (.iaload, 1) := by decide +kernel
theorem dX1_lay_150 : decode cX1_lay 150 = .ok (.if_icmp .le 10, 3) := by decide +kernel
theorem dX1_lay_153 : decode cX1_lay 153 = .ok (.iload_n 2, 1) := by decide +kernel
theorem dX1_lay_154 : decode cX1_lay 154 = .ok (.iload 5, 2) := by decide +kernel
theorem dX1_lay_156 : decode cX1_lay 156 = .ok (.isub, 1) := by decide +kernel
theorem dX1_lay_157 : decode cX1_lay 157 = .ok (.goto 9, 3) := by decide +kernel
theorem dX1_lay_160 : decode cX1_lay 160 = .ok (.aload_n 0, 1) := by decide +kernel
theorem dX1_lay_161 : decode cX1_lay 161 = .ok (.getfield 19, 3) := by decide +kernel
theorem dX1_lay_164 : decode cX1_lay 164 = .ok (.iconst 2, 1) := by decide +kernel
theorem dX1_lay_165 : decode cX1_lay 165 = .ok (.iaload, 1) := by decide +kernel
theorem dX1_lay_166 : decode cX1_lay 166 = .ok (.iastore, 1) := by decide +kernel
theorem dX1_lay_167 : decode cX1_lay 167 = .ok (.aload_n 0, 1) := by decide +kernel
theorem dX1_lay_168 : decode cX1_lay 168 = .ok (.getfield 19, 3) := by decide +kernel
theorem dX1_lay_171 : decode cX1_lay 171 = .ok (.iconst 3, 1) := by decide +kernel
theorem dX1_lay_172 : decode cX1_lay 172 = .ok (.iload 7, 2) := by decide +kernel
theorem dX1_lay_174 : decode cX1_lay 174 = .ok (.ifCond .eq 17, 3) := by decide +kernel
theorem dX1_lay_177 : decode cX1_lay 177 = .ok (.aload_n 0, 1) := by decide +kernel
theorem dX1_lay_178 : decode cX1_lay 178 = .ok (.getfield 19, 3) := by decide +kernel
theorem dX1_lay_181 : decode cX1_lay 181 = .ok (.iconst 3, 1) := by decide +kernel
theorem dX1_lay_182 : decode cX1_lay 182 = .ok (.iaload, 1) := by decide +kernel
theorem dX1_lay_183 : decode cX1_lay 183 = .ok (.iload_n 2, 1) := by decide +kernel
theorem dX1_lay_184 : decode cX1_lay 184 = .ok (.iadd, 1) := by decide +kernel
theorem dX1_lay_185 : decode cX1_lay 185 = .ok (.iload 5, 2) := by decide +kernel
theorem dX1_lay_187 : decode cX1_lay 187 = .ok (.isub, 1) := by decide +kernel
theorem dX1_lay_188 : decode cX1_lay 188 = .ok (.goto 9, 3) := by decide +kernel
theorem dX1_lay_191 : decode cX1_lay 191 = .ok (.aload_n 0, 1) := by decide +kernel
theorem dX1_lay_192 : decode cX1_lay 192 = .ok (.getfield 19, 3) := by decide +kernel
theorem dX1_lay_195 : decode cX1_lay 195 = .ok (.iconst 3, 1) := by decide +kernel
theorem dX1_lay_196 : decode cX1_lay 196 = .ok (.iaload, 1) := by decide +kernel
theorem dX1_lay_197 : decode cX1_lay 197 = .ok (.iastore, 1) := by decide +kernel
theorem dX1_lay_198 : decode cX1_lay 198 = .ok (.iinc 5 1, 3) := by decide +kernel
theorem dX1_lay_201 : decode cX1_lay 201 = .ok (.goto (-152), 3) := by decide +kernel
theorem dX1_lay_204 : decode cX1_lay 204 = .ok (.aload_n 0, 1) := by decide +kernel
theorem dX1_lay_205 : decode cX1_lay 205 = .ok (.getfield 19, 3) := by decide +kernel
theorem dX1_lay_208 : decode cX1_lay 208 = .ok (.iconst 0, 1) := by decide +kernel
theorem dX1_lay_209 : decode cX1_lay 209 = .ok (.iload_n 3, 1) := by decide +kernel
theorem dX1_lay_210 : decode cX1_lay 210 = .ok (.aload_n 0, 1) := by decide +kernel
theorem dX1_lay_211 : decode cX1_lay 211 = .ok (.getfield 19, 3) := by decide +kernel
theorem dX1_lay_214 : decode cX1_lay 214 = .ok (.iconst 0, 1) := by decide +kernel
theorem dX1_lay_215 : decode cX1_lay 215 = .ok (.iaload, 1) := by decide +kernel
theorem dX1_lay_216 : decode cX1_lay 216 = .ok (.if_icmp .le 7, 3) := by decide +kernel
theorem dX1_lay_219 : decode cX1_lay 219 = .ok (.iload_n 3, 1) := by decide +kernel
theorem dX1_lay_220 : decode cX1_lay 220 = .ok (.goto 9, 3) := by decide +kernel
theorem dX1_lay_223 : decode cX1_lay 223 = .ok (.aload_n 0, 1) := by decide +kernel
theorem dX1_lay_224 : decode cX1_lay 224 = .ok (.getfield 19, 3) := by decide +kernel
theorem dX1_lay_227 : decode cX1_lay 227 = .ok (.iconst 0, 1) := by decide +kernel
theorem dX1_lay_228 : decode cX1_lay 228 = .ok (.iaload, 1) := by decide +kernel
theorem dX1_lay_229 : decode cX1_lay 229 = .ok (.iastore, 1) := by decide +kernel
theorem dX1_lay_230 : decode cX1_lay 230 = .ok (.aload_n 0, 1) := by decide +kernel
theorem dX1_lay_231 : decode cX1_lay 231 = .ok (.getfield 19, 3) := by decide +kernel
theorem dX1_lay_234 : decode cX1_lay 234 = .ok (.iconst 1, 1) := by decide +kernel
theorem dX1_lay_235 : decode cX1_lay 235 = .ok (.iload 4, 2) := by decide +kernel
theorem dX1_lay_237 : decode cX1_lay 237 = .ok (.aload_n 0, 1) := by decide +kernel
theorem dX1_lay_238 : decode cX1_lay 238 = .ok (.getfield 19, 3) := by decide +kernel
theorem dX1_lay_241 : decode cX1_lay 241 = .ok (.iconst 1, 1) := by decide +kernel
theorem dX1_lay_242 : decode cX1_lay 242 = .ok (.iaload, 1) := by decide +kernel
theorem dX1_lay_243 : decode cX1_lay 243 = .ok (.if_icmp .le 8, 3) := by decide +kernel
theorem dX1_lay_246 : decode cX1_lay 246 = .ok (.iload 4, 2) := by decide +kernel
theorem dX1_lay_248 : decode cX1_lay 248 = .ok (.goto 9, 3) := by decide +kernel
theorem dX1_lay_251 : decode cX1_lay 251 = .ok (.aload_n 0, 1) := by decide +kernel
theorem dX1_lay_252 : decode cX1_lay 252 = .ok (.getfield 19, 3) := by decide +kernel
theorem dX1_lay_255 : decode cX1_lay 255 = .ok (.iconst 1, 1) := by decide +kernel
theorem dX1_lay_256 : decode cX1_lay 256 = .ok (.iaload, 1) := by decide +kernel
theorem dX1_lay_257 : decode cX1_lay 257 = .ok (.iastore, 1) := by decide +kernel
theorem dX1_lay_258 : decode cX1_lay 258 = .ok (.iinc 2 1, 3) := by decide +kernel
theorem dX1_lay_261 : decode cX1_lay 261 = .ok (.goto (-237), 3) := by decide +kernel
theorem dX1_lay_264 : decode cX1_lay 264 = .ok (.return_, 1) := by decide +kernel
theorem dX1_takeApart_0 : decode cX1_takeApart 0 = .ok (.iconst 0, 1) := by decide +kernel
theorem dX1_takeApart_1 : decode cX1_takeApart 1 = .ok (.istore_n 1, 1) := by decide +kernel
theorem dX1_takeApart_2 : decode cX1_takeApart 2 = .ok (.iload_n 1, 1) := by decide +kernel
theorem dX1_takeApart_3 : decode cX1_takeApart 3 = .ok (.bipush 6, 2) := by decide +kernel
theorem dX1_takeApart_5 : decode cX1_takeApart 5 = .ok (.if_icmp .ge 21, 3) := by decide +kernel
theorem dX1_takeApart_8 : decode cX1_takeApart 8 = .ok (.aload_n 0, 1) := by decide +kernel
theorem dX1_takeApart_9 : decode cX1_takeApart 9 = .ok (.getfield 13, 3) := by decide +kernel
theorem dX1_takeApart_12 : decode cX1_takeApart 12 = .ok (.iload_n 1, 1) := by decide +kernel
theorem dX1_takeApart_13 : decode cX1_takeApart 13 = .ok (.aload_n 0, 1) := by decide +kernel
theorem dX1_takeApart_14 : decode cX1_takeApart 14 = .ok (.getfield 7, 3) := by decide +kernel
theorem dX1_takeApart_17 : decode cX1_takeApart 17 = .ok (.iload_n 1, 1) := by decide +kernel
theorem dX1_takeApart_18 : decode cX1_takeApart 18 = .ok (.iaload, 1) := by decide +kernel
theorem dX1_takeApart_19 : decode cX1_takeApart 19 = .ok (.iastore, 1) := by decide +kernel
theorem dX1_takeApart_20 : decode cX1_takeApart 20 = .ok (.iinc 1 1, 3) := by decide +kernel
theorem dX1_takeApart_23 : decode cX1_takeApart 23 = .ok (.goto (-21), 3) := by decide +kernel
theorem dX1_takeApart_26 : decode cX1_takeApart 26 = .ok (.aload_n 0, 1) := by decide +kernel
theorem dX1_takeApart_27 : decode cX1_takeApart 27 = .ok (.getfield 19, 3) := by decide +kernel
theorem dX1_takeApart_30 : decode cX1_takeApart 30 = .ok (.iconst 4, 1) := by decide +kernel
theorem dX1_takeApart_31 : decode cX1_takeApart 31 = .ok (.iconst 0, 1) := by decide +kernel
theorem dX1_takeApart_32 : decode cX1_takeApart 32 = .ok (.iastore, 1) := by decide +kernel
theorem dX1_takeApart_33 : decode cX1_takeApart 33 = .ok (.aload_n 0, 1) := by decide +kernel
theorem dX1_takeApart_34 : decode cX1_takeApart 34 = .ok (.getfield 19, 3) := by decide +kernel
theorem dX1_takeApart_37 : decode cX1_takeApart 37 = .ok (.iconst 5, 1) := by decide +kernel
theorem dX1_takeApart_38 : decode cX1_takeApart 38 = .ok (.iconst 0, 1) := by decide +kernel
theorem dX1_takeApart_39 : decode cX1_takeApart 39 = .ok (.iastore, 1) := by decide +kernel
theorem dX1_takeApart_40 : decode cX1_takeApart 40 = .ok (.iconst 0, 1) := by decide +kernel
theorem dX1_takeApart_41 : decode cX1_takeApart 41 = .ok (.istore_n 1, 1) := by decide +kernel
theorem dX1_takeApart_42 : decode cX1_takeApart 42 = .ok (.iload_n 1, 1) := by decide +kernel
theorem dX1_takeApart_43 : decode cX1_takeApart 43 = .ok (.bipush 6, 2) := by decide +kernel
theorem dX1_takeApart_45 : decode cX1_takeApart 45 = .ok (.if_icmp .ge 112, 3) := by decide +kernel
theorem dX1_takeApart_48 : decode cX1_takeApart 48 = .ok (.aload_n 0, 1) := by decide +kernel
theorem dX1_takeApart_49 : decode cX1_takeApart 49 = .ok (.getfield 13, 3) := by decide +kernel
theorem dX1_takeApart_52 : decode cX1_takeApart 52 = .ok (.aload_n 0, 1) := by decide +kernel
theorem dX1_takeApart_53 : decode cX1_takeApart 53 = .ok (.getfield 16, 3) := by decide +kernel
theorem dX1_takeApart_56 : decode cX1_takeApart 56 = .ok (.iload_n 1, 1) := by decide +kernel
theorem dX1_takeApart_57 : decode cX1_takeApart 57 = .ok (.iaload, 1) := by decide +kernel
theorem dX1_takeApart_58 : decode cX1_takeApart 58 = .ok (.iaload, 1) := by decide +kernel
theorem dX1_takeApart_59 : decode cX1_takeApart 59 = .ok (.istore_n 2, 1) := by decide +kernel
theorem dX1_takeApart_60 : decode cX1_takeApart 60 = .ok (.aload_n 0, 1) := by decide +kernel
theorem dX1_takeApart_61 : decode cX1_takeApart 61 = .ok (.iload_n 2, 1) := by decide +kernel
theorem dX1_takeApart_62 : decode cX1_takeApart 62 = .ok (.invokevirtual 47, 3) := by decide +kernel
theorem dX1_takeApart_65 : decode cX1_takeApart 65 = .ok (.istore_n 3, 1) := by decide +kernel
theorem dX1_takeApart_66 : decode cX1_takeApart 66 = .ok (.aload_n 0, 1) := by decide +kernel
theorem dX1_takeApart_67 : decode cX1_takeApart 67 = .ok (.getfield 19, 3) := by decide +kernel
theorem dX1_takeApart_70 : decode cX1_takeApart 70 = .ok (.iconst 4, 1) := by decide +kernel
theorem dX1_takeApart_71 : decode cX1_takeApart 71 = .ok (.iload_n 3, 1) := by decide +kernel
theorem dX1_takeApart_72 : decode cX1_takeApart 72 = .ok (.aload_n 0, 1) := by decide +kernel
theorem dX1_takeApart_73 : decode cX1_takeApart 73 = .ok (.getfield 19, 3) := by decide +kernel
theorem dX1_takeApart_76 : decode cX1_takeApart 76 = .ok (.iconst 4, 1) := by decide +kernel
theorem dX1_takeApart_77 : decode cX1_takeApart 77 = .ok (.iaload, 1) := by decide +kernel
theorem dX1_takeApart_78 : decode cX1_takeApart 78 = .ok (.if_icmp .le 7, 3) := by decide +kernel
theorem dX1_takeApart_81 : decode cX1_takeApart 81 = .ok (.iload_n 3, 1) := by decide +kernel
theorem dX1_takeApart_82 : decode cX1_takeApart 82 = .ok (.goto 9, 3) := by decide +kernel
theorem dX1_takeApart_85 : decode cX1_takeApart 85 = .ok (.aload_n 0, 1) := by decide +kernel
theorem dX1_takeApart_86 : decode cX1_takeApart 86 = .ok (.getfield 19, 3) := by decide +kernel
theorem dX1_takeApart_89 : decode cX1_takeApart 89 = .ok (.iconst 4, 1) := by decide +kernel
theorem dX1_takeApart_90 : decode cX1_takeApart 90 = .ok (.iaload, 1) := by decide +kernel
theorem dX1_takeApart_91 : decode cX1_takeApart 91 = .ok (.iastore, 1) := by decide +kernel
theorem dX1_takeApart_92 : decode cX1_takeApart 92 = .ok (.aload_n 0, 1) := by decide +kernel
theorem dX1_takeApart_93 : decode cX1_takeApart 93 = .ok (.getfield 19, 3) := by decide +kernel
theorem dX1_takeApart_96 : decode cX1_takeApart 96 = .ok (.iconst 5, 1) := by decide +kernel
theorem dX1_takeApart_97 : decode cX1_takeApart 97 = .ok (.aload_n 0, 1) := by decide +kernel
theorem dX1_takeApart_98 : decode cX1_takeApart 98 = .ok (.getfield 19, 3) := by decide +kernel
theorem dX1_takeApart_101 : decode cX1_takeApart 101 = .ok (.iconst 5, 1) := by decide +kernel
theorem dX1_takeApart_102 : decode cX1_takeApart 102 = .ok (.iaload, 1) := by decide +kernel
theorem dX1_takeApart_103 : decode cX1_takeApart 103 = .ok (.aload_n 0, 1) := by decide +kernel
theorem dX1_takeApart_104 : decode cX1_takeApart 104 = .ok (.iload_n 2, 1) := by decide +kernel
theorem dX1_takeApart_105 : decode cX1_takeApart 105 = .ok (.invokevirtual 55, 3) := by decide +kernel
theorem dX1_takeApart_108 : decode cX1_takeApart 108 = .ok (.iadd, 1) := by decide +kernel
theorem dX1_takeApart_109 : decode cX1_takeApart 109 = .ok (.iastore, 1) := by decide +kernel
theorem dX1_takeApart_110 : decode cX1_takeApart 110 = .ok (.iconst 0, 1) := by decide +kernel
theorem dX1_takeApart_111 : decode cX1_takeApart 111 = .ok (.istore 4, 2) := by decide +kernel
theorem dX1_takeApart_113 : decode cX1_takeApart 113 = .ok (.iload 4, 2) := by decide +kernel
theorem dX1_takeApart_115 : decode cX1_takeApart 115 = .ok (.bipush 6, 2) := by decide +kernel
theorem dX1_takeApart_117 : decode cX1_takeApart 117 = .ok (.if_icmp .ge 34, 3) := by decide +kernel
theorem dX1_takeApart_120 : decode cX1_takeApart 120 = .ok (.aload_n 0, 1) := by decide +kernel
theorem dX1_takeApart_121 : decode cX1_takeApart 121 = .ok (.getfield 13, 3) := by decide +kernel
theorem dX1_takeApart_124 : decode cX1_takeApart 124 = .ok (.iload 4, 2) := by decide +kernel
theorem dX1_takeApart_126 : decode cX1_takeApart 126 = .ok (.aload_n 0, 1) := by decide +kernel
theorem dX1_takeApart_127 : decode cX1_takeApart 127 = .ok (.getfield 13, 3) := by decide +kernel
theorem dX1_takeApart_130 : decode cX1_takeApart 130 = .ok (.iload 4, 2) := by decide +kernel
theorem dX1_takeApart_132 : decode cX1_takeApart 132 = .ok (.iaload, 1) := by decide +kernel
theorem dX1_takeApart_133 : decode cX1_takeApart 133 = .ok (.iconst 1, 1) := by decide +kernel
theorem dX1_takeApart_134 : decode cX1_takeApart 134 = .ok (.aload_n 0, 1) := by decide +kernel
theorem dX1_takeApart_135 : decode cX1_takeApart 135 = .ok (.getfield 16, 3) := by decide +kernel
theorem dX1_takeApart_138 : decode cX1_takeApart 138 = .ok (.iload_n 1, 1) := by decide +kernel
theorem dX1_takeApart_139 : decode cX1_takeApart 139 = .ok (.iaload, 1) := by decide +kernel
theorem dX1_takeApart_140 : decode cX1_takeApart 140 = .ok (.ishl, 1) := by decide +kernel
theorem dX1_takeApart_141 : decode cX1_takeApart 141 = .ok (.iconst (-1), 1) := by decide +kernel
theorem dX1_takeApart_142 : decode cX1_takeApart 142 = .ok (.ixor, 1) := by decide +kernel
theorem dX1_takeApart_143 : decode cX1_takeApart 143 = .ok (.iand, 1) := by decide +kernel
theorem dX1_takeApart_144 : decode cX1_takeApart 144 = .ok (.iastore, 1) := by decide +kernel
theorem dX1_takeApart_145 : decode cX1_takeApart 145 = .ok (.iinc 4 1, 3) := by decide +kernel
theorem dX1_takeApart_148 : decode cX1_takeApart 148 = .ok (.goto (-35), 3) := by decide +kernel
theorem dX1_takeApart_151 : decode cX1_takeApart 151 = .ok (.iinc 1 1, 3) := by decide +kernel
theorem dX1_takeApart_154 : decode cX1_takeApart 154 = .ok (.goto (-112), 3) := by decide +kernel
theorem dX1_takeApart_157 : decode cX1_takeApart 157 = .ok (.return_, 1) := by decide +kernel
theorem dX1_joinNeighbours_0 : decode cX1_joinNeighbours 0 = .ok (.iconst 0, 1) := by decide +kernel
theorem dX1_joinNeighbours_1 : decode cX1_joinNeighbours 1 = .ok (.istore_n 2, 1) := by decide +kernel
theorem dX1_joinNeighbours_2 : decode cX1_joinNeighbours 2 = .ok (.iconst 0, 1) := by decide +kernel
theorem dX1_joinNeighbours_3 : decode cX1_joinNeighbours 3 = .ok (.istore_n 3, 1) := by decide +kernel
theorem dX1_joinNeighbours_4 : decode cX1_joinNeighbours 4 = .ok (.iload_n 3, 1) := by decide +kernel
theorem dX1_joinNeighbours_5 : decode cX1_joinNeighbours 5 = .ok (.bipush 6, 2) := by decide +kernel
theorem dX1_joinNeighbours_7 : decode cX1_joinNeighbours 7 = .ok (.if_icmp .ge 60, 3) := by decide +kernel
theorem dX1_joinNeighbours_10 : decode cX1_joinNeighbours 10 = .ok (.iload_n 1, 1) := by decide +kernel
theorem dX1_joinNeighbours_11 : decode cX1_joinNeighbours 11 = .ok (.iload_n 3, 1) := by decide +kernel
theorem dX1_joinNeighbours_12 : decode cX1_joinNeighbours 12 = .ok (.ishr, 1) := by decide +kernel
theorem dX1_joinNeighbours_13 : decode cX1_joinNeighbours 13 = .ok (.iconst 1, 1) := by decide +kernel
theorem dX1_joinNeighbours_14 : decode cX1_joinNeighbours 14 = .ok (.iand, 1) := by decide +kernel
theorem dX1_joinNeighbours_15 : decode cX1_joinNeighbours 15 = .ok (.iconst 1, 1) := by decide +kernel
theorem dX1_joinNeighbours_16 : decode cX1_joinNeighbours 16 = .ok (.if_icmp .ne 45, 3) := by decide +kernel
theorem dX1_joinNeighbours_19 : decode cX1_joinNeighbours 19 = .ok (.iload_n 1, 1) := by decide +kernel
theorem dX1_joinNeighbours_20 : decode cX1_joinNeighbours 20 = .ok (.aload_n 0, 1) := by decide +kernel
theorem dX1_joinNeighbours_21 : decode cX1_joinNeighbours 21 = .ok (.getfield 13, 3) := by decide +kernel
theorem dX1_joinNeighbours_24 : decode cX1_joinNeighbours 24 = .ok (.iload_n 3, 1) := by decide +kernel
theorem dX1_joinNeighbours_25 : decode cX1_joinNeighbours 25 = .ok (.iaload, 1) := by decide +kernel
theorem dX1_joinNeighbours_26 : decode cX1_joinNeighbours 26 = .ok (.iconst (-1), 1) := by decide +kernel
theorem dX1_joinNeighbours_27 : decode cX1_joinNeighbours 27 = .ok (.ixor, 1) := by decide +kernel
theorem dX1_joinNeighbours_28 : decode cX1_joinNeighbours 28 = .ok (.iand, 1) := by decide +kernel
theorem dX1_joinNeighbours_29 : decode cX1_joinNeighbours 29 = .ok (.iconst 1, 1) := by decide +kernel
theorem dX1_joinNeighbours_30 : decode cX1_joinNeighbours 30 = .ok (.iload_n 3, 1) := by decide +kernel
theorem dX1_joinNeighbours_31 : decode cX1_joinNeighbours 31 = .ok (.ishl, 1) := by decide +kernel
theorem dX1_joinNeighbours_32 : decode cX1_joinNeighbours 32 = .ok (.iconst (-1), 1) := by decide +kernel
theorem dX1_joinNeighbours_33 : decode cX1_joinNeighbours 33 = .ok (.ixor, 1) := by decide +kernel
theorem dX1_joinNeighbours_34 : decode cX1_joinNeighbours 34 = .ok (.iand, 1) := by decide +kernel
theorem dX1_joinNeighbours_35 : decode cX1_joinNeighbours 35 = .ok (.istore 4, 2) := by decide +kernel
theorem dX1_joinNeighbours_37 : decode cX1_joinNeighbours 37 = .ok (.iload_n 2, 1) := by decide +kernel
theorem dX1_joinNeighbours_38 : decode cX1_joinNeighbours 38 = .ok (.aload_n 0, 1) := by decide +kernel
theorem dX1_joinNeighbours_39 : decode cX1_joinNeighbours 39 = .ok (.iload 4, 2) := by decide +kernel
theorem dX1_joinNeighbours_41 : decode cX1_joinNeighbours 41 = .ok (.invokevirtual 47, 3) := by decide +kernel
theorem dX1_joinNeighbours_44 : decode cX1_joinNeighbours 44 = .ok (.iadd, 1) := by decide +kernel
theorem dX1_joinNeighbours_45 : decode cX1_joinNeighbours 45 = .ok (.istore_n 2, 1) := by decide +kernel
theorem dX1_joinNeighbours_46 : decode cX1_joinNeighbours 46 = .ok (.aload_n 0, 1) := by decide +kernel
theorem dX1_joinNeighbours_47 : decode cX1_joinNeighbours 47 = .ok (.getfield 13, 3) := by decide +kernel
theorem dX1_joinNeighbours_50 : decode cX1_joinNeighbours 50 = .ok (.iload_n 3, 1) := by decide +kernel
theorem dX1_joinNeighbours_51 : decode cX1_joinNeighbours 51 = .ok (.aload_n 0, 1) := by decide +kernel
theorem dX1_joinNeighbours_52 : decode cX1_joinNeighbours 52 = .ok (.getfield 13, 3) := by decide +kernel
theorem dX1_joinNeighbours_55 : decode cX1_joinNeighbours 55 = .ok (.iload_n 3, 1) := by decide +kernel
theorem dX1_joinNeighbours_56 : decode cX1_joinNeighbours 56 = .ok (.iaload, 1) := by decide +kernel
theorem dX1_joinNeighbours_57 : decode cX1_joinNeighbours 57 = .ok (.iload 4, 2) := by decide +kernel
theorem dX1_joinNeighbours_59 : decode cX1_joinNeighbours 59 = .ok (.ior, 1) := by decide +kernel
theorem dX1_joinNeighbours_60 : decode cX1_joinNeighbours 60 = .ok (.iastore, 1) := by decide +kernel
theorem dX1_joinNeighbours_61 : decode cX1_joinNeighbours 61 = .ok (.iinc 3 1, 3) := by decide +kernel
theorem dX1_joinNeighbours_64 : decode cX1_joinNeighbours 64 = .ok (.goto (-60), 3) := by decide +kernel
theorem dX1_joinNeighbours_67 : decode cX1_joinNeighbours 67 = .ok (.iload_n 2, 1) := by decide +kernel
theorem dX1_joinNeighbours_68 : decode cX1_joinNeighbours 68 = .ok (.iconst 2, 1) := by decide +kernel
theorem dX1_joinNeighbours_69 : decode cX1_joinNeighbours 69 = .ok (.idiv, 1) := by decide +kernel
theorem dX1_joinNeighbours_70 : decode cX1_joinNeighbours 70 = .ok (.ireturn, 1) := by decide +kernel
theorem dX1_separation_0 : decode cX1_separation 0 = .ok (.aload_n 0, 1) := by decide +kernel
theorem dX1_separation_1 : decode cX1_separation 1 = .ok (.iconst 1, 1) := by decide +kernel
theorem dX1_separation_2 : decode cX1_separation 2 = .ok (.invokevirtual 71, 3) := by decide +kernel
theorem dX1_separation_5 : decode cX1_separation 5 = .ok (.ireturn, 1) := by decide +kernel
theorem dX1_stretch_0 : decode cX1_stretch 0 = .ok (.aload_n 0, 1) := by decide +kernel
theorem dX1_stretch_1 : decode cX1_stretch 1 = .ok (.iconst 2, 1) := by decide +kernel
theorem dX1_stretch_2 : decode cX1_stretch 2 = .ok (.invokevirtual 71, 3) := by decide +kernel
theorem dX1_stretch_5 : decode cX1_stretch 5 = .ok (.ireturn, 1) := by decide +kernel
theorem dX1_length_0 : decode cX1_length 0 = .ok (.aload_n 0, 1) := by decide +kernel
theorem dX1_length_1 : decode cX1_length 1 = .ok (.iconst 3, 1) := by decide +kernel
theorem dX1_length_2 : decode cX1_length 2 = .ok (.invokevirtual 71, 3) := by decide +kernel
theorem dX1_length_5 : decode cX1_length 5 = .ok (.ireturn, 1) := by decide +kernel
theorem dX1_width_0 : decode cX1_width 0 = .ok (.aload_n 0, 1) := by decide +kernel
theorem dX1_width_1 : decode cX1_width 1 = .ok (.iconst 4, 1) := by decide +kernel
theorem dX1_width_2 : decode cX1_width 2 = .ok (.invokevirtual 71, 3) := by decide +kernel
theorem dX1_width_5 : decode cX1_width 5 = .ok (.ireturn, 1) := by decide +kernel
theorem dX1_fill_0 : decode cX1_fill 0 = .ok (.aload_n 0, 1) := by decide +kernel
theorem dX1_fill_1 : decode cX1_fill 1 = .ok (.iconst 5, 1) := by decide +kernel
theorem dX1_fill_2 : decode cX1_fill 2 = .ok (.invokevirtual 71, 3) := by decide +kernel
theorem dX1_fill_5 : decode cX1_fill 5 = .ok (.ireturn, 1) := by decide +kernel
theorem dX1_cutOrders_0 : decode cX1_cutOrders 0 = .ok (.aload_n 0, 1) := by decide +kernel
theorem dX1_cutOrders_1 : decode cX1_cutOrders 1 = .ok (.iconst 0, 1) := by decide +kernel
theorem dX1_cutOrders_2 : decode cX1_cutOrders 2 = .ok (.invokevirtual 74, 3) := by decide +kernel
theorem dX1_cutOrders_5 : decode cX1_cutOrders 5 = .ok (.ireturn, 1) := by decide +kernel
theorem dX1_countLeast_0 : decode cX1_countLeast 0 = .ok (.aload_n 0, 1) := by decide +kernel
theorem dX1_countLeast_1 : decode cX1_countLeast 1 = .ok (.invokevirtual 68, 3) := by decide +kernel
theorem dX1_countLeast_4 : decode cX1_countLeast 4 = .ok (.aload_n 0, 1) := by decide +kernel
theorem dX1_countLeast_5 : decode cX1_countLeast 5 = .ok (.getfield 25, 3) := by decide +kernel
theorem dX1_countLeast_8 : decode cX1_countLeast 8 = .ok (.iload_n 1, 1) := by decide +kernel
theorem dX1_countLeast_9 : decode cX1_countLeast 9 = .ok (.iaload, 1) := by decide +kernel
theorem dX1_countLeast_10 : decode cX1_countLeast 10 = .ok (.ireturn, 1) := by decide +kernel
theorem dX1_lengthOrders_0 : decode cX1_lengthOrders 0 = .ok (.aload_n 0, 1) := by decide +kernel
theorem dX1_lengthOrders_1 : decode cX1_lengthOrders 1 = .ok (.iconst 3, 1) := by decide +kernel
theorem dX1_lengthOrders_2 : decode cX1_lengthOrders 2 = .ok (.invokevirtual 74, 3) := by decide +kernel
theorem dX1_lengthOrders_5 : decode cX1_lengthOrders 5 = .ok (.ireturn, 1) := by decide +kernel
theorem dX1_fillOrders_0 : decode cX1_fillOrders 0 = .ok (.aload_n 0, 1) := by decide +kernel
theorem dX1_fillOrders_1 : decode cX1_fillOrders 1 = .ok (.iconst 5, 1) := by decide +kernel
theorem dX1_fillOrders_2 : decode cX1_fillOrders 2 = .ok (.invokevirtual 74, 3) := by decide +kernel
end
section
set_option maxRecDepth 100000
theorem dX1_fillOrders_5 : decode cX1_fillOrders 5 = .ok (.ireturn, 1) := by decide +kernel
theorem dX1_lengthOrder_0 : decode cX1_lengthOrder 0 = .ok (.aload_n 0, 1) := by decide +kernel
theorem dX1_lengthOrder_1 : decode cX1_lengthOrder 1 = .ok (.iconst 3, 1) := by decide +kernel
theorem dX1_lengthOrder_2 : decode cX1_lengthOrder 2 = .ok (.iload_n 1, 1) := by decide +kernel
theorem dX1_lengthOrder_3 : decode cX1_lengthOrder 3 = .ok (.invokevirtual 77, 3) := by decide +kernel
theorem dX1_lengthOrder_6 : decode cX1_lengthOrder 6 = .ok (.ireturn, 1) := by decide +kernel
theorem dX1_firstLeast_0 : decode cX1_firstLeast 0 = .ok (.iload_n 2, 1) := by decide +kernel
theorem dX1_firstLeast_1 : decode cX1_firstLeast 1 = .ok (.ifCond .lt 8, 3) := by decide +kernel
theorem dX1_firstLeast_4 : decode cX1_firstLeast 4 = .ok (.iload_n 2, 1) := by decide +kernel
theorem dX1_firstLeast_5 : decode cX1_firstLeast 5 = .ok (.iconst 5, 1) := by decide +kernel
theorem dX1_firstLeast_6 : decode cX1_firstLeast 6 = .ok (.if_icmp .le 6, 3) := by decide +kernel
theorem dX1_firstLeast_9 : decode cX1_firstLeast 9 = .ok (.bipush (-4), 2) := by decide +kernel
theorem dX1_firstLeast_11 : decode cX1_firstLeast 11 = .ok (.ireturn, 1) := by decide +kernel
theorem dX1_firstLeast_12 : decode cX1_firstLeast 12 = .ok (.aload_n 0, 1) := by decide +kernel
theorem dX1_firstLeast_13 : decode cX1_firstLeast 13 = .ok (.invokevirtual 68, 3) := by decide +kernel
theorem dX1_firstLeast_16 : decode cX1_firstLeast 16 = .ok (.aload_n 0, 1) := by decide +kernel
theorem dX1_firstLeast_17 : decode cX1_firstLeast 17 = .ok (.aload_n 0, 1) := by decide +kernel
theorem dX1_firstLeast_18 : decode cX1_firstLeast 18 = .ok (.getfield 28, 3) := by decide +kernel
theorem dX1_firstLeast_21 : decode cX1_firstLeast 21 = .ok (.iload_n 1, 1) := by decide +kernel
theorem dX1_firstLeast_22 : decode cX1_firstLeast 22 = .ok (.iaload, 1) := by decide +kernel
theorem dX1_firstLeast_23 : decode cX1_firstLeast 23 = .ok (.invokevirtual 58, 3) := by decide +kernel
theorem dX1_firstLeast_26 : decode cX1_firstLeast 26 = .ok (.aload_n 0, 1) := by decide +kernel
theorem dX1_firstLeast_27 : decode cX1_firstLeast 27 = .ok (.getfield 16, 3) := by decide +kernel
theorem dX1_firstLeast_30 : decode cX1_firstLeast 30 = .ok (.iload_n 2, 1) := by decide +kernel
theorem dX1_firstLeast_31 : decode cX1_firstLeast 31 = .ok (.iaload, 1) := by decide +kernel
theorem dX1_firstLeast_32 : decode cX1_firstLeast 32 = .ok (.ireturn, 1) := by decide +kernel
theorem dX1_widthOrder_0 : decode cX1_widthOrder 0 = .ok (.aload_n 0, 1) := by decide +kernel
theorem dX1_widthOrder_1 : decode cX1_widthOrder 1 = .ok (.iconst 4, 1) := by decide +kernel
theorem dX1_widthOrder_2 : decode cX1_widthOrder 2 = .ok (.iload_n 1, 1) := by decide +kernel
theorem dX1_widthOrder_3 : decode cX1_widthOrder 3 = .ok (.invokevirtual 77, 3) := by decide +kernel
theorem dX1_widthOrder_6 : decode cX1_widthOrder 6 = .ok (.ireturn, 1) := by decide +kernel
theorem dX1_whole_0 : decode cX1_whole 0 = .ok (.aload_n 0, 1) := by decide +kernel
theorem dX1_whole_1 : decode cX1_whole 1 = .ok (.iconst 5, 1) := by decide +kernel
theorem dX1_whole_2 : decode cX1_whole 2 = .ok (.invokevirtual 71, 3) := by decide +kernel
theorem dX1_whole_5 : decode cX1_whole 5 = .ok (.ifCond .ne 7, 3) := by decide +kernel
theorem dX1_whole_8 : decode cX1_whole 8 = .ok (.iconst 1, 1) := by decide +kernel
theorem dX1_whole_9 : decode cX1_whole 9 = .ok (.goto 4, 3) := by decide +kernel
theorem dX1_whole_12 : decode cX1_whole 12 = .ok (.iconst 0, 1) := by decide +kernel
theorem dX1_whole_13 : decode cX1_whole 13 = .ok (.ireturn, 1) := by decide +kernel
theorem dX1_growth_0 : decode cX1_growth 0 = .ok (.aload_n 0, 1) := by decide +kernel
theorem dX1_growth_1 : decode cX1_growth 1 = .ok (.iload_n 1, 1) := by decide +kernel
theorem dX1_growth_2 : decode cX1_growth 2 = .ok (.iload_n 2, 1) := by decide +kernel
theorem dX1_growth_3 : decode cX1_growth 3 = .ok (.invokevirtual 31, 3) := by decide +kernel
theorem dX1_growth_6 : decode cX1_growth 6 = .ok (.ifCond .ne 5, 3) := by decide +kernel
theorem dX1_growth_9 : decode cX1_growth 9 = .ok (.iconst (-1), 1) := by decide +kernel
theorem dX1_growth_10 : decode cX1_growth 10 = .ok (.ireturn, 1) := by decide +kernel
theorem dX1_growth_11 : decode cX1_growth 11 = .ok (.aload_n 0, 1) := by decide +kernel
theorem dX1_growth_12 : decode cX1_growth 12 = .ok (.getfield 7, 3) := by decide +kernel
theorem dX1_growth_15 : decode cX1_growth 15 = .ok (.iload_n 1, 1) := by decide +kernel
theorem dX1_growth_16 : decode cX1_growth 16 = .ok (.iaload, 1) := by decide +kernel
theorem dX1_growth_17 : decode cX1_growth 17 = .ok (.iload_n 2, 1) := by decide +kernel
theorem dX1_growth_18 : decode cX1_growth 18 = .ok (.ishr, 1) := by decide +kernel
theorem dX1_growth_19 : decode cX1_growth 19 = .ok (.iconst 1, 1) := by decide +kernel
theorem dX1_growth_20 : decode cX1_growth 20 = .ok (.iand, 1) := by decide +kernel
theorem dX1_growth_21 : decode cX1_growth 21 = .ok (.iconst 1, 1) := by decide +kernel
theorem dX1_growth_22 : decode cX1_growth 22 = .ok (.if_icmp .ne 5, 3) := by decide +kernel
theorem dX1_growth_25 : decode cX1_growth 25 = .ok (.iconst 0, 1) := by decide +kernel
theorem dX1_growth_26 : decode cX1_growth 26 = .ok (.ireturn, 1) := by decide +kernel
theorem dX1_growth_27 : decode cX1_growth 27 = .ok (.aload_n 0, 1) := by decide +kernel
theorem dX1_growth_28 : decode cX1_growth 28 = .ok (.iconst 4, 1) := by decide +kernel
theorem dX1_growth_29 : decode cX1_growth 29 = .ok (.invokevirtual 71, 3) := by decide +kernel
theorem dX1_growth_32 : decode cX1_growth 32 = .ok (.istore_n 3, 1) := by decide +kernel
theorem dX1_growth_33 : decode cX1_growth 33 = .ok (.aload_n 0, 1) := by decide +kernel
theorem dX1_growth_34 : decode cX1_growth 34 = .ok (.iload_n 1, 1) := by decide +kernel
theorem dX1_growth_35 : decode cX1_growth 35 = .ok (.iload_n 2, 1) := by decide +kernel
theorem dX1_growth_36 : decode cX1_growth 36 = .ok (.invokevirtual 35, 3) := by decide +kernel
theorem dX1_growth_39 : decode cX1_growth 39 = .ok (.aload_n 0, 1) := by decide +kernel
theorem dX1_growth_40 : decode cX1_growth 40 = .ok (.invokevirtual 80, 3) := by decide +kernel
theorem dX1_growth_43 : decode cX1_growth 43 = .ok (.istore 4, 2) := by decide +kernel
theorem dX1_growth_45 : decode cX1_growth 45 = .ok (.aload_n 0, 1) := by decide +kernel
theorem dX1_growth_46 : decode cX1_growth 46 = .ok (.iload_n 1, 1) := by decide +kernel
theorem dX1_growth_47 : decode cX1_growth 47 = .ok (.iload_n 2, 1) := by decide +kernel
theorem dX1_growth_48 : decode cX1_growth 48 = .ok (.invokevirtual 35, 3) := by decide +kernel
theorem dX1_growth_51 : decode cX1_growth 51 = .ok (.iload 4, 2) := by decide +kernel
theorem dX1_growth_53 : decode cX1_growth 53 = .ok (.iload_n 3, 1) := by decide +kernel
theorem dX1_growth_54 : decode cX1_growth 54 = .ok (.isub, 1) := by decide +kernel
theorem dX1_growth_55 : decode cX1_growth 55 = .ok (.ireturn, 1) := by decide +kernel
theorem dX1_widthNow_0 : decode cX1_widthNow 0 = .ok (.sipush 1000, 3) := by decide +kernel
theorem dX1_widthNow_3 : decode cX1_widthNow 3 = .ok (.istore_n 1, 1) := by decide +kernel
theorem dX1_widthNow_4 : decode cX1_widthNow 4 = .ok (.iconst 0, 1) := by decide +kernel
theorem dX1_widthNow_5 : decode cX1_widthNow 5 = .ok (.istore_n 2, 1) := by decide +kernel
theorem dX1_widthNow_6 : decode cX1_widthNow 6 = .ok (.iload_n 2, 1) := by decide +kernel
theorem dX1_widthNow_7 : decode cX1_widthNow 7 = .ok (.sipush 720, 3) := by decide +kernel
theorem dX1_widthNow_10 : decode cX1_widthNow 10 = .ok (.if_icmp .ge 39, 3) := by decide +kernel
theorem dX1_widthNow_13 : decode cX1_widthNow 13 = .ok (.aload_n 0, 1) := by decide +kernel
theorem dX1_widthNow_14 : decode cX1_widthNow 14 = .ok (.iload_n 2, 1) := by decide +kernel
theorem dX1_widthNow_15 : decode cX1_widthNow 15 = .ok (.invokevirtual 58, 3) := by decide +kernel
theorem dX1_widthNow_18 : decode cX1_widthNow 18 = .ok (.aload_n 0, 1) := by decide +kernel
theorem dX1_widthNow_19 : decode cX1_widthNow 19 = .ok (.invokevirtual 65, 3) := by decide +kernel
theorem dX1_widthNow_22 : decode cX1_widthNow 22 = .ok (.aload_n 0, 1) := by decide +kernel
theorem dX1_widthNow_23 : decode cX1_widthNow 23 = .ok (.getfield 19, 3) := by decide +kernel
theorem dX1_widthNow_26 : decode cX1_widthNow 26 = .ok (.iconst 4, 1) := by decide +kernel
theorem dX1_widthNow_27 : decode cX1_widthNow 27 = .ok (.iaload, 1) := by decide +kernel
theorem dX1_widthNow_28 : decode cX1_widthNow 28 = .ok (.iload_n 1, 1) := by decide +kernel
theorem dX1_widthNow_29 : decode cX1_widthNow 29 = .ok (.if_icmp .ge 12, 3) := by decide +kernel
theorem dX1_widthNow_32 : decode cX1_widthNow 32 = .ok (.aload_n 0, 1) := by decide +kernel
theorem dX1_widthNow_33 : decode cX1_widthNow 33 = .ok (.getfield 19, 3) := by decide +kernel
theorem dX1_widthNow_36 : decode cX1_widthNow 36 = .ok (.iconst 4, 1) := by decide +kernel
theorem dX1_widthNow_37 : decode cX1_widthNow 37 = .ok (.iaload, 1) := by decide +kernel
theorem dX1_widthNow_38 : decode cX1_widthNow 38 = .ok (.goto 4, 3) := by decide +kernel
theorem dX1_widthNow_41 : decode cX1_widthNow 41 = .ok (.iload_n 1, 1) := by decide +kernel
theorem dX1_widthNow_42 : decode cX1_widthNow 42 = .ok (.istore_n 1, 1) := by decide +kernel
theorem dX1_widthNow_43 : decode cX1_widthNow 43 = .ok (.iinc 2 1, 3) := by decide +kernel
theorem dX1_widthNow_46 : decode cX1_widthNow 46 = .ok (.goto (-40), 3) := by decide +kernel
theorem dX1_widthNow_49 : decode cX1_widthNow 49 = .ok (.iload_n 1, 1) := by decide +kernel
theorem dX1_widthNow_50 : decode cX1_widthNow 50 = .ok (.ireturn, 1) := by decide +kernel
theorem dX1_clique_0 : decode cX1_clique 0 = .ok (.iconst 0, 1) := by decide +kernel
theorem dX1_clique_1 : decode cX1_clique 1 = .ok (.istore_n 1, 1) := by decide +kernel
theorem dX1_clique_2 : decode cX1_clique 2 = .ok (.iconst 0, 1) := by decide +kernel
theorem dX1_clique_3 : decode cX1_clique 3 = .ok (.istore_n 2, 1) := by decide +kernel
theorem dX1_clique_4 : decode cX1_clique 4 = .ok (.iload_n 2, 1) := by decide +kernel
theorem dX1_clique_5 : decode cX1_clique 5 = .ok (.bipush 64, 2) := by decide +kernel
theorem dX1_clique_7 : decode cX1_clique 7 = .ok (.if_icmp .ge 34, 3) := by decide +kernel
theorem dX1_clique_10 : decode cX1_clique 10 = .ok (.aload_n 0, 1) := by decide +kernel
theorem dX1_clique_11 : decode cX1_clique 11 = .ok (.iload_n 2, 1) := by decide +kernel
theorem dX1_clique_12 : decode cX1_clique 12 = .ok (.invokevirtual 47, 3) := by decide +kernel
theorem dX1_clique_15 : decode cX1_clique 15 = .ok (.istore_n 3, 1) := by decide +kernel
theorem dX1_clique_16 : decode cX1_clique 16 = .ok (.iload_n 3, 1) := by decide +kernel
theorem dX1_clique_17 : decode cX1_clique 17 = .ok (.iload_n 1, 1) := by decide +kernel
theorem dX1_clique_18 : decode cX1_clique 18 = .ok (.if_icmp .le 15, 3) := by decide +kernel
theorem dX1_clique_21 : decode cX1_clique 21 = .ok (.aload_n 0, 1) := by decide +kernel
theorem dX1_clique_22 : decode cX1_clique 22 = .ok (.iload_n 2, 1) := by decide +kernel
theorem dX1_clique_23 : decode cX1_clique 23 = .ok (.invokevirtual 83, 3) := by decide +kernel
theorem dX1_clique_26 : decode cX1_clique 26 = .ok (.ifCond .eq 7, 3) := by decide +kernel
theorem dX1_clique_29 : decode cX1_clique 29 = .ok (.iload_n 3, 1) := by decide +kernel
theorem dX1_clique_30 : decode cX1_clique 30 = .ok (.goto 4, 3) := by decide +kernel
theorem dX1_clique_33 : decode cX1_clique 33 = .ok (.iload_n 1, 1) := by decide +kernel
theorem dX1_clique_34 : decode cX1_clique 34 = .ok (.istore_n 1, 1) := by decide +kernel
theorem dX1_clique_35 : decode cX1_clique 35 = .ok (.iinc 2 1, 3) := by decide +kernel
theorem dX1_clique_38 : decode cX1_clique 38 = .ok (.goto (-34), 3) := by decide +kernel
theorem dX1_clique_41 : decode cX1_clique 41 = .ok (.iload_n 1, 1) := by decide +kernel
theorem dX1_clique_42 : decode cX1_clique 42 = .ok (.ireturn, 1) := by decide +kernel
theorem dX1_isClique_0 : decode cX1_isClique 0 = .ok (.iconst 0, 1) := by decide +kernel
theorem dX1_isClique_1 : decode cX1_isClique 1 = .ok (.istore_n 2, 1) := by decide +kernel
theorem dX1_isClique_2 : decode cX1_isClique 2 = .ok (.iload_n 2, 1) := by decide +kernel
theorem dX1_isClique_3 : decode cX1_isClique 3 = .ok (.bipush 6, 2) := by decide +kernel
theorem dX1_isClique_5 : decode cX1_isClique 5 = .ok (.if_icmp .ge 39, 3) := by decide +kernel
theorem dX1_isClique_8 : decode cX1_isClique 8 = .ok (.iload_n 1, 1) := by decide +kernel
theorem dX1_isClique_9 : decode cX1_isClique 9 = .ok (.iload_n 2, 1) := by decide +kernel
theorem dX1_isClique_10 : decode cX1_isClique 10 = .ok (.ishr, 1) := by decide +kernel
theorem dX1_isClique_11 : decode cX1_isClique 11 = .ok (.iconst 1, 1) := by decide +kernel
theorem dX1_isClique_12 : decode cX1_isClique 12 = .ok (.iand, 1) := by decide +kernel
theorem dX1_isClique_13 : decode cX1_isClique 13 = .ok (.iconst 1, 1) := by decide +kernel
theorem dX1_isClique_14 : decode cX1_isClique 14 = .ok (.if_icmp .ne 24, 3) := by decide +kernel
theorem dX1_isClique_17 : decode cX1_isClique 17 = .ok (.iload_n 1, 1) := by decide +kernel
theorem dX1_isClique_18 : decode cX1_isClique 18 = .ok (.aload_n 0, 1) := by decide +kernel
theorem dX1_isClique_19 : decode cX1_isClique 19 = .ok (.getfield 7, 3) := by decide +kernel
theorem dX1_isClique_22 : decode cX1_isClique 22 = .ok (.iload_n 2, 1) := by decide +kernel
theorem dX1_isClique_23 : decode cX1_isClique 23 = .ok (.iaload, 1) := by decide +kernel
theorem dX1_isClique_24 : decode cX1_isClique 24 = .ok (.iconst (-1), 1) := by decide +kernel
theorem dX1_isClique_25 : decode cX1_isClique 25 = .ok (.ixor, 1) := by decide +kernel
theorem dX1_isClique_26 : decode cX1_isClique 26 = .ok (.iand, 1) := by decide +kernel
theorem dX1_isClique_27 : decode cX1_isClique 27 = .ok (.iconst 1, 1) := by decide +kernel
theorem dX1_isClique_28 : decode cX1_isClique 28 = .ok (.iload_n 2, 1) := by decide +kernel
theorem dX1_isClique_29 : decode cX1_isClique 29 = .ok (.ishl, 1) := by decide +kernel
theorem dX1_isClique_30 : decode cX1_isClique 30 = .ok (.iconst (-1), 1) := by decide +kernel
theorem dX1_isClique_31 : decode cX1_isClique 31 = .ok (.ixor, 1) := by decide +kernel
theorem dX1_isClique_32 : decode cX1_isClique 32 = .ok (.iand, 1) := by decide +kernel
theorem dX1_isClique_33 : decode cX1_isClique 33 = .ok (.ifCond .eq 5, 3) := by decide +kernel
theorem dX1_isClique_36 : decode cX1_isClique 36 = .ok (.iconst 0, 1) := by decide +kernel
theorem dX1_isClique_37 : decode cX1_isClique 37 = .ok (.ireturn, 1) := by decide +kernel
theorem dX1_isClique_38 : decode cX1_isClique 38 = .ok (.iinc 2 1, 3) := by decide +kernel
theorem dX1_isClique_41 : decode cX1_isClique 41 = .ok (.goto (-39), 3) := by decide +kernel
theorem dX1_isClique_44 : decode cX1_isClique 44 = .ok (.iconst 1, 1) := by decide +kernel
theorem dX1_isClique_45 : decode cX1_isClique 45 = .ok (.ireturn, 1) := by decide +kernel
end
section
set_option maxRecDepth 100000
theorem dL_law_0 : decode cL_law 0 = .ok (.new 7, 3) := by decide +kernel
theorem dL_law_3 : decode cL_law 3 = .ok (.dup, 1) := by decide +kernel
theorem dL_law_4 : decode cL_law 4 = .ok (.invokespecial 9, 3) := by decide +kernel
theorem dL_law_7 : decode cL_law 7 = .ok (.astore_n 1, 1) := by decide +kernel
theorem dL_law_8 : decode cL_law 8 = .ok (.new 10, 3) := by decide +kernel
theorem dL_law_11 : decode cL_law 11 = .ok (.dup, 1) := by decide +kernel
theorem dL_law_12 : decode cL_law 12 = .ok (.invokespecial 12, 3) := by decide +kernel
theorem dL_law_15 : decode cL_law 15 = .ok (.astore_n 2, 1) := by decide +kernel
theorem dL_law_16 : decode cL_law 16 = .ok (.iconst 0, 1) := by decide +kernel
theorem dL_law_17 : decode cL_law 17 = .ok (.istore_n 3, 1) := by decide +kernel
theorem dL_law_18 : decode cL_law 18 = .ok (.iload_n 3, 1) := by decide +kernel
theorem dL_law_19 : decode cL_law 19 = .ok (.aload_n 0, 1) := by decide +kernel
theorem dL_law_20 : decode cL_law 20 = .ok (.arraylength, 1) := by decide +kernel
theorem dL_law_21 : decode cL_law 21 = .ok (.iconst 3, 1) := by decide +kernel
theorem dL_law_22 : decode cL_law 22 = .ok (.isub, 1) := by decide +kernel
theorem dL_law_23 : decode cL_law 23 = .ok (.if_icmp .gt 380, 3) := by decide +kernel
theorem dL_law_26 : decode cL_law 26 = .ok (.aload_n 0, 1) := by decide +kernel
theorem dL_law_27 : decode cL_law 27 = .ok (.iload_n 3, 1) := by decide +kernel
theorem dL_law_28 : decode cL_law 28 = .ok (.iaload, 1) := by decide +kernel
theorem dL_law_29 : decode cL_law 29 = .ok (.bipush 31, 2) := by decide +kernel
theorem dL_law_31 : decode cL_law 31 = .ok (.iand, 1) := by decide +kernel
theorem dL_law_32 : decode cL_law 32 = .ok (.tableswitch 365 0 16 #[84, 117, 130, 143, 156, 169, 182, 195, 208, 221, 234, 247, 260, 283, 306, 319, 352], 84) := by decide +kernel
theorem dL_law_116 : decode cL_law 116 = .ok (.aload_n 1, 1) := by decide +kernel
theorem dL_law_117 : decode cL_law 117 = .ok (.aload_n 0, 1) := by decide +kernel
theorem dL_law_118 : decode cL_law 118 = .ok (.iload_n 3, 1) := by decide +kernel
theorem dL_law_119 : decode cL_law 119 = .ok (.iconst 1, 1) := by decide +kernel
theorem dL_law_120 : decode cL_law 120 = .ok (.iadd, 1) := by decide +kernel
theorem dL_law_121 : decode cL_law 121 = .ok (.iaload, 1) := by decide +kernel
theorem dL_law_122 : decode cL_law 122 = .ok (.aload_n 0, 1) := by decide +kernel
theorem dL_law_123 : decode cL_law 123 = .ok (.iload_n 3, 1) := by decide +kernel
theorem dL_law_124 : decode cL_law 124 = .ok (.iconst 2, 1) := by decide +kernel
theorem dL_law_125 : decode cL_law 125 = .ok (.iadd, 1) := by decide +kernel
theorem dL_law_126 : decode cL_law 126 = .ok (.iaload, 1) := by decide +kernel
theorem dL_law_127 : decode cL_law 127 = .ok (.invokevirtual 13, 3) := by decide +kernel
theorem dL_law_130 : decode cL_law 130 = .ok (.aload_n 2, 1) := by decide +kernel
theorem dL_law_131 : decode cL_law 131 = .ok (.aload_n 0, 1) := by decide +kernel
theorem dL_law_132 : decode cL_law 132 = .ok (.iload_n 3, 1) := by decide +kernel
theorem dL_law_133 : decode cL_law 133 = .ok (.iconst 1, 1) := by decide +kernel
theorem dL_law_134 : decode cL_law 134 = .ok (.iadd, 1) := by decide +kernel
theorem dL_law_135 : decode cL_law 135 = .ok (.iaload, 1) := by decide +kernel
theorem dL_law_136 : decode cL_law 136 = .ok (.aload_n 0, 1) := by decide +kernel
theorem dL_law_137 : decode cL_law 137 = .ok (.iload_n 3, 1) := by decide +kernel
theorem dL_law_138 : decode cL_law 138 = .ok (.iconst 2, 1) := by decide +kernel
theorem dL_law_139 : decode cL_law 139 = .ok (.iadd, 1) := by decide +kernel
theorem dL_law_140 : decode cL_law 140 = .ok (.iaload, 1) := by decide +kernel
theorem dL_law_141 : decode cL_law 141 = .ok (.invokevirtual 17, 3) := by decide +kernel
theorem dL_law_144 : decode cL_law 144 = .ok (.if_icmp .eq 253, 3) := by decide +kernel
theorem dL_law_147 : decode cL_law 147 = .ok (.iconst 0, 1) := by decide +kernel
theorem dL_law_148 : decode cL_law 148 = .ok (.ireturn, 1) := by decide +kernel
theorem dL_law_149 : decode cL_law 149 = .ok (.aload_n 1, 1) := by decide +kernel
theorem dL_law_150 : decode cL_law 150 = .ok (.invokevirtual 18, 3) := by decide +kernel
theorem dL_law_153 : decode cL_law 153 = .ok (.aload_n 2, 1) := by decide +kernel
theorem dL_law_154 : decode cL_law 154 = .ok (.invokevirtual 22, 3) := by decide +kernel
theorem dL_law_157 : decode cL_law 157 = .ok (.if_icmp .eq 240, 3) := by decide +kernel
theorem dL_law_160 : decode cL_law 160 = .ok (.iconst 0, 1) := by decide +kernel
theorem dL_law_161 : decode cL_law 161 = .ok (.ireturn, 1) := by decide +kernel
theorem dL_law_162 : decode cL_law 162 = .ok (.aload_n 1, 1) := by decide +kernel
theorem dL_law_163 : decode cL_law 163 = .ok (.invokevirtual 23, 3) := by decide +kernel
theorem dL_law_166 : decode cL_law 166 = .ok (.aload_n 2, 1) := by decide +kernel
theorem dL_law_167 : decode cL_law 167 = .ok (.invokevirtual 26, 3) := by decide +kernel
theorem dL_law_170 : decode cL_law 170 = .ok (.if_icmp .eq 227, 3) := by decide +kernel
theorem dL_law_173 : decode cL_law 173 = .ok (.iconst 0, 1) := by decide +kernel
theorem dL_law_174 : decode cL_law 174 = .ok (.ireturn, 1) := by decide +kernel
theorem dL_law_175 : decode cL_law 175 = .ok (.aload_n 1, 1) := by decide +kernel
theorem dL_law_176 : decode cL_law 176 = .ok (.invokevirtual 27, 3) := by decide +kernel
theorem dL_law_179 : decode cL_law 179 = .ok (.aload_n 2, 1) := by decide +kernel
theorem dL_law_180 : decode cL_law 180 = .ok (.invokevirtual 30, 3) := by decide +kernel
theorem dL_law_183 : decode cL_law 183 = .ok (.if_icmp .eq 214, 3) := by decide +kernel
theorem dL_law_186 : decode cL_law 186 = .ok (.iconst 0, 1) := by decide +kernel
theorem dL_law_187 : decode cL_law 187 = .ok (.ireturn, 1) := by decide +kernel
theorem dL_law_188 : decode cL_law 188 = .ok (.aload_n 1, 1) := by decide +kernel
theorem dL_law_189 : decode cL_law 189 = .ok (.invokevirtual 31, 3) := by decide +kernel
theorem dL_law_192 : decode cL_law 192 = .ok (.aload_n 2, 1) := by decide +kernel
theorem dL_law_193 : decode cL_law 193 = .ok (.invokevirtual 34, 3) := by decide +kernel
theorem dL_law_196 : decode cL_law 196 = .ok (.if_icmp .eq 201, 3) := by decide +kernel
theorem dL_law_199 : decode cL_law 199 = .ok (.iconst 0, 1) := by decide +kernel
theorem dL_law_200 : decode cL_law 200 = .ok (.ireturn, 1) := by decide +kernel
theorem dL_law_201 : decode cL_law 201 = .ok (.aload_n 1, 1) := by decide +kernel
theorem dL_law_202 : decode cL_law 202 = .ok (.invokevirtual 35, 3) := by decide +kernel
theorem dL_law_205 : decode cL_law 205 = .ok (.aload_n 2, 1) := by decide +kernel
theorem dL_law_206 : decode cL_law 206 = .ok (.invokevirtual 38, 3) := by decide +kernel
theorem dL_law_209 : decode cL_law 209 = .ok (.if_icmp .eq 188, 3) := by decide +kernel
theorem dL_law_212 : decode cL_law 212 = .ok (.iconst 0, 1) := by decide +kernel
theorem dL_law_213 : decode cL_law 213 = .ok (.ireturn, 1) := by decide +kernel
theorem dL_law_214 : decode cL_law 214 = .ok (.aload_n 1, 1) := by decide +kernel
theorem dL_law_215 : decode cL_law 215 = .ok (.invokevirtual 39, 3) := by decide +kernel
theorem dL_law_218 : decode cL_law 218 = .ok (.aload_n 2, 1) := by decide +kernel
theorem dL_law_219 : decode cL_law 219 = .ok (.invokevirtual 42, 3) := by decide +kernel
theorem dL_law_222 : decode cL_law 222 = .ok (.if_icmp .eq 175, 3) := by decide +kernel
theorem dL_law_225 : decode cL_law 225 = .ok (.iconst 0, 1) := by decide +kernel
theorem dL_law_226 : decode cL_law 226 = .ok (.ireturn, 1) := by decide +kernel
theorem dL_law_227 : decode cL_law 227 = .ok (.aload_n 1, 1) := by decide +kernel
theorem dL_law_228 : decode cL_law 228 = .ok (.invokevirtual 43, 3) := by decide +kernel
theorem dL_law_231 : decode cL_law 231 = .ok (.aload_n 2, 1) := by decide +kernel
theorem dL_law_232 : decode cL_law 232 = .ok (.invokevirtual 46, 3) := by decide +kernel
theorem dL_law_235 : decode cL_law 235 = .ok (.if_icmp .eq 162, 3) := by decide +kernel
theorem dL_law_238 : decode cL_law 238 = .ok (.iconst 0, 1) := by decide +kernel
theorem dL_law_239 : decode cL_law 239 = .ok (.ireturn, 1) := by decide +kernel
theorem dL_law_240 : decode cL_law 240 = .ok (.aload_n 1, 1) := by decide +kernel
theorem dL_law_241 : decode cL_law 241 = .ok (.invokevirtual 47, 3) := by decide +kernel
theorem dL_law_244 : decode cL_law 244 = .ok (.aload_n 2, 1) := by decide +kernel
theorem dL_law_245 : decode cL_law 245 = .ok (.invokevirtual 50, 3) := by decide +kernel
theorem dL_law_248 : decode cL_law 248 = .ok (.if_icmp .eq 149, 3) := by decide +kernel
theorem dL_law_251 : decode cL_law 251 = .ok (.iconst 0, 1) := by decide +kernel
theorem dL_law_252 : decode cL_law 252 = .ok (.ireturn, 1) := by decide +kernel
theorem dL_law_253 : decode cL_law 253 = .ok (.aload_n 1, 1) := by decide +kernel
theorem dL_law_254 : decode cL_law 254 = .ok (.invokevirtual 51, 3) := by decide +kernel
theorem dL_law_257 : decode cL_law 257 = .ok (.aload_n 2, 1) := by decide +kernel
theorem dL_law_258 : decode cL_law 258 = .ok (.invokevirtual 54, 3) := by decide +kernel
theorem dL_law_261 : decode cL_law 261 = .ok (.if_icmp .eq 136, 3) := by decide +kernel
theorem dL_law_264 : decode cL_law 264 = .ok (.iconst 0, 1) := by decide +kernel
theorem dL_law_265 : decode cL_law 265 = .ok (.ireturn, 1) := by decide +kernel
theorem dL_law_266 : decode cL_law 266 = .ok (.aload_n 1, 1) := by decide +kernel
theorem dL_law_267 : decode cL_law 267 = .ok (.invokevirtual 55, 3) := by decide +kernel
theorem dL_law_270 : decode cL_law 270 = .ok (.aload_n 2, 1) := by decide +kernel
theorem dL_law_271 : decode cL_law 271 = .ok (.invokevirtual 58, 3) := by decide +kernel
theorem dL_law_274 : decode cL_law 274 = .ok (.if_icmp .eq 123, 3) := by decide +kernel
theorem dL_law_277 : decode cL_law 277 = .ok (.iconst 0, 1) := by decide +kernel
theorem dL_law_278 : decode cL_law 278 = .ok (.ireturn, 1) := by decide +kernel
theorem dL_law_279 : decode cL_law 279 = .ok (.aload_n 1, 1) := by decide +kernel
theorem dL_law_280 : decode cL_law 280 = .ok (.invokevirtual 59, 3) := by decide +kernel
theorem dL_law_283 : decode cL_law 283 = .ok (.aload_n 2, 1) := by decide +kernel
theorem dL_law_284 : decode cL_law 284 = .ok (.invokevirtual 62, 3) := by decide +kernel
theorem dL_law_287 : decode cL_law 287 = .ok (.if_icmp .eq 110, 3) := by decide +kernel
theorem dL_law_290 : decode cL_law 290 = .ok (.iconst 0, 1) := by decide +kernel
theorem dL_law_291 : decode cL_law 291 = .ok (.ireturn, 1) := by decide +kernel
theorem dL_law_292 : decode cL_law 292 = .ok (.aload_n 1, 1) := by decide +kernel
theorem dL_law_293 : decode cL_law 293 = .ok (.aload_n 0, 1) := by decide +kernel
theorem dL_law_294 : decode cL_law 294 = .ok (.iload_n 3, 1) := by decide +kernel
theorem dL_law_295 : decode cL_law 295 = .ok (.iconst 1, 1) := by decide +kernel
theorem dL_law_296 : decode cL_law 296 = .ok (.iadd, 1) := by decide +kernel
theorem dL_law_297 : decode cL_law 297 = .ok (.iaload, 1) := by decide +kernel
theorem dL_law_298 : decode cL_law 298 = .ok (.invokevirtual 63, 3) := by decide +kernel
theorem dL_law_301 : decode cL_law 301 = .ok (.aload_n 2, 1) := by decide +kernel
theorem dL_law_302 : decode cL_law 302 = .ok (.aload_n 0, 1) := by decide +kernel
theorem dL_law_303 : decode cL_law 303 = .ok (.iload_n 3, 1) := by decide +kernel
theorem dL_law_304 : decode cL_law 304 = .ok (.iconst 1, 1) := by decide +kernel
theorem dL_law_305 : decode cL_law 305 = .ok (.iadd, 1) := by decide +kernel
theorem dL_law_306 : decode cL_law 306 = .ok (.iaload, 1) := by decide +kernel
theorem dL_law_307 : decode cL_law 307 = .ok (.invokevirtual 67, 3) := by decide +kernel
theorem dL_law_310 : decode cL_law 310 = .ok (.if_icmp .eq 87, 3) := by decide +kernel
theorem dL_law_313 : decode cL_law 313 = .ok (.iconst 0, 1) := by decide +kernel
theorem dL_law_314 : decode cL_law 314 = .ok (.ireturn, 1) := by decide +kernel
theorem dL_law_315 : decode cL_law 315 = .ok (.aload_n 1, 1) := by decide +kernel
theorem dL_law_316 : decode cL_law 316 = .ok (.aload_n 0, 1) := by decide +kernel
theorem dL_law_317 : decode cL_law 317 = .ok (.iload_n 3, 1) := by decide +kernel
theorem dL_law_318 : decode cL_law 318 = .ok (.iconst 1, 1) := by decide +kernel
theorem dL_law_319 : decode cL_law 319 = .ok (.iadd, 1) := by decide +kernel
theorem dL_law_320 : decode cL_law 320 = .ok (.iaload, 1) := by decide +kernel
theorem dL_law_321 : decode cL_law 321 = .ok (.invokevirtual 68, 3) := by decide +kernel
theorem dL_law_324 : decode cL_law 324 = .ok (.aload_n 2, 1) := by decide +kernel
theorem dL_law_325 : decode cL_law 325 = .ok (.aload_n 0, 1) := by decide +kernel
theorem dL_law_326 : decode cL_law 326 = .ok (.iload_n 3, 1) := by decide +kernel
theorem dL_law_327 : decode cL_law 327 = .ok (.iconst 1, 1) := by decide +kernel
theorem dL_law_328 : decode cL_law 328 = .ok (.iadd, 1) := by decide +kernel
theorem dL_law_329 : decode cL_law 329 = .ok (.iaload, 1) := by decide +kernel
theorem dL_law_330 : decode cL_law 330 = .ok (.invokevirtual 71, 3) := by decide +kernel
theorem dL_law_333 : decode cL_law 333 = .ok (.if_icmp .eq 64, 3) := by decide +kernel
theorem dL_law_336 : decode cL_law 336 = .ok (.iconst 0, 1) := by decide +kernel
theorem dL_law_337 : decode cL_law 337 = .ok (.ireturn, 1) := by decide +kernel
theorem dL_law_338 : decode cL_law 338 = .ok (.aload_n 1, 1) := by decide +kernel
theorem dL_law_339 : decode cL_law 339 = .ok (.invokevirtual 72, 3) := by decide +kernel
theorem dL_law_342 : decode cL_law 342 = .ok (.aload_n 2, 1) := by decide +kernel
theorem dL_law_343 : decode cL_law 343 = .ok (.invokevirtual 76, 3) := by decide +kernel
theorem dL_law_346 : decode cL_law 346 = .ok (.if_icmp .eq 51, 3) := by decide +kernel
theorem dL_law_349 : decode cL_law 349 = .ok (.iconst 0, 1) := by decide +kernel
theorem dL_law_350 : decode cL_law 350 = .ok (.ireturn, 1) := by decide +kernel
theorem dL_law_351 : decode cL_law 351 = .ok (.aload_n 1, 1) := by decide +kernel
theorem dL_law_352 : decode cL_law 352 = .ok (.aload_n 0, 1) := by decide +kernel
theorem dL_law_353 : decode cL_law 353 = .ok (.iload_n 3, 1) := by decide +kernel
theorem dL_law_354 : decode cL_law 354 = .ok (.iconst 1, 1) := by decide +kernel
theorem dL_law_355 : decode cL_law 355 = .ok (.iadd, 1) := by decide +kernel
theorem dL_law_356 : decode cL_law 356 = .ok (.iaload, 1) := by decide +kernel
theorem dL_law_357 : decode cL_law 357 = .ok (.aload_n 0, 1) := by decide +kernel
theorem dL_law_358 : decode cL_law 358 = .ok (.iload_n 3, 1) := by decide +kernel
theorem dL_law_359 : decode cL_law 359 = .ok (.iconst 2, 1) := by decide +kernel
theorem dL_law_360 : decode cL_law 360 = .ok (.iadd, 1) := by decide +kernel
theorem dL_law_361 : decode cL_law 361 = .ok (.iaload, 1) := by decide +kernel
theorem dL_law_362 : decode cL_law 362 = .ok (.invokevirtual 77, 3) := by decide +kernel
theorem dL_law_365 : decode cL_law 365 = .ok (.aload_n 2, 1) := by decide +kernel
theorem dL_law_366 : decode cL_law 366 = .ok (.aload_n 0, 1) := by decide +kernel
theorem dL_law_367 : decode cL_law 367 = .ok (.iload_n 3, 1) := by decide +kernel
theorem dL_law_368 : decode cL_law 368 = .ok (.iconst 1, 1) := by decide +kernel
theorem dL_law_369 : decode cL_law 369 = .ok (.iadd, 1) := by decide +kernel
theorem dL_law_370 : decode cL_law 370 = .ok (.iaload, 1) := by decide +kernel
theorem dL_law_371 : decode cL_law 371 = .ok (.aload_n 0, 1) := by decide +kernel
theorem dL_law_372 : decode cL_law 372 = .ok (.iload_n 3, 1) := by decide +kernel
theorem dL_law_373 : decode cL_law 373 = .ok (.iconst 2, 1) := by decide +kernel
theorem dL_law_374 : decode cL_law 374 = .ok (.iadd, 1) := by decide +kernel
theorem dL_law_375 : decode cL_law 375 = .ok (.iaload, 1) := by decide +kernel
theorem dL_law_376 : decode cL_law 376 = .ok (.invokevirtual 80, 3) := by decide +kernel
theorem dL_law_379 : decode cL_law 379 = .ok (.if_icmp .eq 18, 3) := by decide +kernel
theorem dL_law_382 : decode cL_law 382 = .ok (.iconst 0, 1) := by decide +kernel
theorem dL_law_383 : decode cL_law 383 = .ok (.ireturn, 1) := by decide +kernel
theorem dL_law_384 : decode cL_law 384 = .ok (.aload_n 1, 1) := by decide +kernel
theorem dL_law_385 : decode cL_law 385 = .ok (.invokevirtual 81, 3) := by decide +kernel
theorem dL_law_388 : decode cL_law 388 = .ok (.aload_n 2, 1) := by decide +kernel
theorem dL_law_389 : decode cL_law 389 = .ok (.invokevirtual 84, 3) := by decide +kernel
theorem dL_law_392 : decode cL_law 392 = .ok (.if_icmp .eq 5, 3) := by decide +kernel
theorem dL_law_395 : decode cL_law 395 = .ok (.iconst 0, 1) := by decide +kernel
theorem dL_law_396 : decode cL_law 396 = .ok (.ireturn, 1) := by decide +kernel
theorem dL_law_397 : decode cL_law 397 = .ok (.iinc 3 3, 3) := by decide +kernel
theorem dL_law_400 : decode cL_law 400 = .ok (.goto (-382), 3) := by decide +kernel
theorem dL_law_403 : decode cL_law 403 = .ok (.iconst 1, 1) := by decide +kernel
theorem dL_law_404 : decode cL_law 404 = .ok (.ireturn, 1) := by decide +kernel
end
section
/-! FRAME: rows over natural numbers (every int of these classes is nI of a Nat), the world of one object with int arrays, contracts, calls -/
-- ===== sets of points as Nats below 64 =====
def zp_tb (S p : Nat) : Nat := (S.testBit p).toNat
def zp_sd (a b : Nat) : Nat := a ^^^ (a &&& b)
theorem zp_tb_le (S p : Nat) : zp_tb S p ≤ 1 := by unfold zp_tb; cases S.testBit p <;> decide
theorem zp_tb_t {S p : Nat} (h : S.testBit p = true) : zp_tb S p = 1 := by unfold zp_tb; rw [h]; rfl
theorem zp_tb_f {S p : Nat} (h : S.testBit p = false) : zp_tb S p = 0 := by unfold zp_tb; rw [h]; rfl
theorem zp_tb_1 {S p : Nat} : zp_tb S p = 1 ↔ S.testBit p = true := by unfold zp_tb; cases S.testBit p <;> decide
theorem zp_tb_0 {S p : Nat} : zp_tb S p = 0 ↔ S.testBit p = false := by unfold zp_tb; cases S.testBit p <;> decide
theorem zp_sd_bit (a b i : Nat) : (zp_sd a b).testBit i = (a.testBit i && !b.testBit i) := by
  unfold zp_sd
  rw [Nat.testBit_xor, Nat.testBit_and]
  cases a.testBit i <;> cases b.testBit i <;> rfl
theorem zp_sd_lt {a b : Nat} (h : a < 64) : zp_sd a b < 64 := by
  unfold zp_sd
  have h2 : a &&& b < 2 ^ 6 := Nat.lt_of_le_of_lt Nat.and_le_left h
  exact Nat.xor_lt_two_pow (n := 6) h h2
theorem zp_or_lt {a b : Nat} (h : a < 64) (h2 : b < 64) : a ||| b < 64 := Nat.or_lt_two_pow (n := 6) h h2
theorem zp_xor_lt {a b : Nat} (h : a < 64) (h2 : b < 64) : a ^^^ b < 64 := Nat.xor_lt_two_pow (n := 6) h h2
theorem zp_and_lt {a b : Nat} (h : a < 64) : a &&& b < 64 := Nat.lt_of_le_of_lt Nat.and_le_left h
theorem zp_pw_lt : ∀ p, p < 6 → 2 ^ p < 64 := by decide
-- ===== ints =====
theorem zi_and (a b : Nat) : nI a &&& nI b = nI (a &&& b) := by
  apply Int32.toBitVec_inj.1
  show BitVec.ofNat 32 a &&& BitVec.ofNat 32 b = BitVec.ofNat 32 (a &&& b)
  apply BitVec.eq_of_getLsbD_eq
  intro i hi
  simp [BitVec.getLsbD_and, BitVec.getLsbD_ofNat, hi, Nat.testBit_and]
theorem zi_or (a b : Nat) : nI a ||| nI b = nI (a ||| b) := by
  apply Int32.toBitVec_inj.1
  show BitVec.ofNat 32 a ||| BitVec.ofNat 32 b = BitVec.ofNat 32 (a ||| b)
  apply BitVec.eq_of_getLsbD_eq
  intro i hi
  simp [BitVec.getLsbD_or, BitVec.getLsbD_ofNat, hi, Nat.testBit_or]
theorem zi_xor (a b : Nat) : nI a ^^^ nI b = nI (a ^^^ b) := by
  apply Int32.toBitVec_inj.1
  show BitVec.ofNat 32 a ^^^ BitVec.ofNat 32 b = BitVec.ofNat 32 (a ^^^ b)
  apply BitVec.eq_of_getLsbD_eq
  intro i hi
  simp [BitVec.getLsbD_xor, BitVec.getLsbD_ofNat, hi, Nat.testBit_xor]
theorem zi_shl : ∀ k, k < 6 → (nI 1) <<< (nI k &&& 31) = nI (2 ^ k) := by decide +kernel
theorem zi_bit0 : ∀ S, S < 64 → ∀ k, k < 6 → (nI S >>> (nI k &&& 31)) &&& nI 1 = nI (zp_tb S k) := by decide +kernel
theorem zi_sd0 : ∀ a, a < 64 → ∀ b, b < 64 → nI a &&& (nI b ^^^ (-1)) = nI (zp_sd a b) := by decide +kernel
theorem zi_inc (a : Nat) : nI a + Int32.ofInt 1 = nI (a + 1) := nI_1 a
theorem zi_dec (a : Nat) : nI (a + 1) + Int32.ofInt (-1) = nI a := by
  have h : Int32.ofInt (-1) = -1 := by decide
  rw [h, ← nI_1 a]
  have h2 : ∀ x : Int32, x + 1 + (-1) = x := by intro x; grind
  exact h2 _
section
variable {p : Program} {l : Launch} {e : Env} {R : Room} {s : State} {m : MethodId} {args : Array Value} {below : List Frame} {meth : Method} {c : Code} {H : Heap} {locs : List Loc} {cells slots : Nat} {Q : State → Prop}
variable {cc : ByteArray} {pc : Nat} {ls : Array Slot} {rest : List Value} {nL : Nat} {own : String} {a b : Nat}
theorem zw_add (X : CallFix p m c cc nL s args lw_all own) (hd : decode cc pc = .ok (.iadd, 1)) (k : W p l e R s m args below meth c H locs cells slots Q (F0 m (pc + 1) ls (.int (nI (a + b)) :: rest))) : W p l e R s m args below meth c H locs cells slots Q (F0 m pc ls (.int (nI b) :: .int (nI a) :: rest)) :=
  lv_iadd X.1 X.2.1 hd (by rw [nI_add]; exact k)
theorem zw_sub (X : CallFix p m c cc nL s args lw_all own) (h : b ≤ a) (hd : decode cc pc = .ok (.isub, 1)) (k : W p l e R s m args below meth c H locs cells slots Q (F0 m (pc + 1) ls (.int (nI (a - b)) :: rest))) : W p l e R s m args below meth c H locs cells slots Q (F0 m pc ls (.int (nI b) :: .int (nI a) :: rest)) :=
  lv_isub X.1 X.2.1 hd (by rw [pk_sub h]; exact k)
theorem zw_or (X : CallFix p m c cc nL s args lw_all own) (hd : decode cc pc = .ok (.ior, 1)) (k : W p l e R s m args below meth c H locs cells slots Q (F0 m (pc + 1) ls (.int (nI (a ||| b)) :: rest))) : W p l e R s m args below meth c H locs cells slots Q (F0 m pc ls (.int (nI b) :: .int (nI a) :: rest)) :=
  lv_ior X.1 X.2.1 hd (by rw [zi_or]; exact k)
theorem zw_and (X : CallFix p m c cc nL s args lw_all own) (hd : decode cc pc = .ok (.iand, 1)) (k : W p l e R s m args below meth c H locs cells slots Q (F0 m (pc + 1) ls (.int (nI (a &&& b)) :: rest))) : W p l e R s m args below meth c H locs cells slots Q (F0 m pc ls (.int (nI b) :: .int (nI a) :: rest)) :=
  lv_iand X.1 X.2.1 hd (by rw [zi_and]; exact k)
theorem zw_xor (X : CallFix p m c cc nL s args lw_all own) (hd : decode cc pc = .ok (.ixor, 1)) (k : W p l e R s m args below meth c H locs cells slots Q (F0 m (pc + 1) ls (.int (nI (a ^^^ b)) :: rest))) : W p l e R s m args below meth c H locs cells slots Q (F0 m pc ls (.int (nI b) :: .int (nI a) :: rest)) :=
  lv_ixor X.1 X.2.1 hd (by rw [zi_xor]; exact k)
theorem zw_div (X : CallFix p m c cc nL s args lw_all own) (ha : a < 2147483648) (h0 : 0 < b) (hb : b < 2147483648) (hd : decode cc pc = .ok (.idiv, 1)) (k : W p l e R s m args below meth c H locs cells slots Q (F0 m (pc + 1) ls (.int (nI (a / b)) :: rest))) : W p l e R s m args below meth c H locs cells slots Q (F0 m pc ls (.int (nI b) :: .int (nI a) :: rest)) :=
  lv_idiv X.1 X.2.1 hd (nI_ne0 h0 hb) (by rw [pk_div ha h0 hb]; exact k)
theorem zw_rem (X : CallFix p m c cc nL s args lw_all own) (ha : a < 2147483648) (h0 : 0 < b) (hb : b < 2147483648) (hd : decode cc pc = .ok (.irem, 1)) (k : W p l e R s m args below meth c H locs cells slots Q (F0 m (pc + 1) ls (.int (nI (a % b)) :: rest))) : W p l e R s m args below meth c H locs cells slots Q (F0 m pc ls (.int (nI b) :: .int (nI a) :: rest)) :=
  lv_irem X.1 X.2.1 hd (nI_ne0 h0 hb) (by rw [pk_rem ha h0 hb]; exact k)
theorem zw_shl (X : CallFix p m c cc nL s args lw_all own) (hk : a < 6) (hd : decode cc pc = .ok (.ishl, 1)) (k : W p l e R s m args below meth c H locs cells slots Q (F0 m (pc + 1) ls (.int (nI (2 ^ a)) :: rest))) : W p l e R s m args below meth c H locs cells slots Q (F0 m pc ls (.int (nI a) :: .int (nI 1) :: rest)) :=
  lv_ishl X.1 X.2.1 hd (by rw [zi_shl a hk]; exact k)
/-- x >> k & 1 -/
theorem zw_bit (X : CallFix p m c cc nL s args lw_all own) (hS : a < 64) (hk : b < 6) (hd : decode cc pc = .ok (.ishr, 1)) (hd2 : decode cc (pc + 1) = .ok (.iconst 1, 1)) (hd3 : decode cc (pc + 1 + 1) = .ok (.iand, 1)) (k : W p l e R s m args below meth c H locs cells slots Q (F0 m (pc + 1 + 1 + 1) ls (.int (nI (zp_tb a b)) :: rest))) : W p l e R s m args below meth c H locs cells slots Q (F0 m pc ls (.int (nI b) :: .int (nI a) :: rest)) := by
  refine lv_ishr X.1 X.2.1 hd ?_
  refine lv_iconst (v := nI 1) X.1 X.2.1 hd2 (by decide) ?_
  refine lv_iand X.1 X.2.1 hd3 ?_
  rw [zi_bit0 a hS b hk]
  exact k
/-- y & ~x -/
theorem zw_sdn (X : CallFix p m c cc nL s args lw_all own) (ha : a < 64) (hb : b < 64) (hd : decode cc pc = .ok (.iconst (-1), 1)) (hd2 : decode cc (pc + 1) = .ok (.ixor, 1)) (hd3 : decode cc (pc + 1 + 1) = .ok (.iand, 1)) (k : W p l e R s m args below meth c H locs cells slots Q (F0 m (pc + 1 + 1 + 1) ls (.int (nI (zp_sd a b)) :: rest))) : W p l e R s m args below meth c H locs cells slots Q (F0 m pc ls (.int (nI b) :: .int (nI a) :: rest)) := by
  refine lv_iconst (v := -1) X.1 X.2.1 hd (by decide) ?_
  refine lv_ixor X.1 X.2.1 hd2 ?_
  refine lv_iand X.1 X.2.1 hd3 ?_
  rw [zi_sd0 a ha b hb]
  exact k
/-- another name for what lies on top -/
theorem zw_top {x y : Int32} (h : x = y) (k : W p l e R s m args below meth c H locs cells slots Q (F0 m pc ls (.int y :: rest))) : W p l e R s m args below meth c H locs cells slots Q (F0 m pc ls (.int x :: rest)) := by rw [h]; exact k
theorem zw_topn (b : Nat) (h : a = b) (k : W p l e R s m args below meth c H locs cells slots Q (F0 m pc ls (.int (nI b) :: rest))) : W p l e R s m args below meth c H locs cells slots Q (F0 m pc ls (.int (nI a) :: rest)) := by rw [h]; exact k
theorem zw_icmp_ge {tgt : Nat} {off : Int} (X : CallFix p m c cc nL s args lw_all own) (ha : a < 2147483648) (hb : b < 2147483648) (hd : decode cc pc = .ok (.if_icmp .ge off, 3)) (ht : (pc : Int) + off = (tgt : Int)) (kt : b ≤ a → W p l e R s m args below meth c H locs cells slots Q (F0 m tgt ls rest)) (kf : a < b → W p l e R s m args below meth c H locs cells slots Q (F0 m (pc + 3) ls rest)) : W p l e R s m args below meth c H locs cells slots Q (F0 m pc ls (.int (nI b) :: .int (nI a) :: rest)) :=
  lv_icmp_ge X.1 X.2.1 hd ht (fun h => kt ((nI_leI hb ha).mp h)) (fun h => kf (Nat.lt_of_not_le fun q => h ((nI_leI hb ha).mpr q)))
theorem zw_icmp_gt {tgt : Nat} {off : Int} (X : CallFix p m c cc nL s args lw_all own) (ha : a < 2147483648) (hb : b < 2147483648) (hd : decode cc pc = .ok (.if_icmp .gt off, 3)) (ht : (pc : Int) + off = (tgt : Int)) (kt : b < a → W p l e R s m args below meth c H locs cells slots Q (F0 m tgt ls rest)) (kf : a ≤ b → W p l e R s m args below meth c H locs cells slots Q (F0 m (pc + 3) ls rest)) : W p l e R s m args below meth c H locs cells slots Q (F0 m pc ls (.int (nI b) :: .int (nI a) :: rest)) :=
  lv_icmp_gt X.1 X.2.1 hd ht (fun h => kt ((nI_ltI hb ha).mp h)) (fun h => kf (Nat.le_of_not_lt fun q => h ((nI_ltI hb ha).mpr q)))
theorem zw_icmp_lt {tgt : Nat} {off : Int} (X : CallFix p m c cc nL s args lw_all own) (ha : a < 2147483648) (hb : b < 2147483648) (hd : decode cc pc = .ok (.if_icmp .lt off, 3)) (ht : (pc : Int) + off = (tgt : Int)) (kt : a < b → W p l e R s m args below meth c H locs cells slots Q (F0 m tgt ls rest)) (kf : b ≤ a → W p l e R s m args below meth c H locs cells slots Q (F0 m (pc + 3) ls rest)) : W p l e R s m args below meth c H locs cells slots Q (F0 m pc ls (.int (nI b) :: .int (nI a) :: rest)) :=
  lv_icmp_lt X.1 X.2.1 hd ht (fun h => kt ((nI_ltI ha hb).mp h)) (fun h => kf (Nat.le_of_not_lt fun q => h ((nI_ltI ha hb).mpr q)))
theorem zw_icmp_le {tgt : Nat} {off : Int} (X : CallFix p m c cc nL s args lw_all own) (ha : a < 2147483648) (hb : b < 2147483648) (hd : decode cc pc = .ok (.if_icmp .le off, 3)) (ht : (pc : Int) + off = (tgt : Int)) (kt : a ≤ b → W p l e R s m args below meth c H locs cells slots Q (F0 m tgt ls rest)) (kf : b < a → W p l e R s m args below meth c H locs cells slots Q (F0 m (pc + 3) ls rest)) : W p l e R s m args below meth c H locs cells slots Q (F0 m pc ls (.int (nI b) :: .int (nI a) :: rest)) :=
  lv_icmp_le X.1 X.2.1 hd ht (fun h => kt ((nI_leI ha hb).mp h)) (fun h => kf (Nat.lt_of_not_le fun q => h ((nI_leI ha hb).mpr q)))
theorem zw_icmp_eq {tgt : Nat} {off : Int} (X : CallFix p m c cc nL s args lw_all own) (ha : a < 2147483648) (hb : b < 2147483648) (hd : decode cc pc = .ok (.if_icmp .eq off, 3)) (ht : (pc : Int) + off = (tgt : Int)) (kt : a = b → W p l e R s m args below meth c H locs cells slots Q (F0 m tgt ls rest)) (kf : ¬ a = b → W p l e R s m args below meth c H locs cells slots Q (F0 m (pc + 3) ls rest)) : W p l e R s m args below meth c H locs cells slots Q (F0 m pc ls (.int (nI b) :: .int (nI a) :: rest)) :=
  lv_icmp_eq X.1 X.2.1 hd ht (fun h => kt ((nI_eq ha hb).mp h)) (fun h => kf fun q => h ((nI_eq ha hb).mpr q))
theorem zw_icmp_ne {tgt : Nat} {off : Int} (X : CallFix p m c cc nL s args lw_all own) (ha : a < 2147483648) (hb : b < 2147483648) (hd : decode cc pc = .ok (.if_icmp .ne off, 3)) (ht : (pc : Int) + off = (tgt : Int)) (kt : ¬ a = b → W p l e R s m args below meth c H locs cells slots Q (F0 m tgt ls rest)) (kf : a = b → W p l e R s m args below meth c H locs cells slots Q (F0 m (pc + 3) ls rest)) : W p l e R s m args below meth c H locs cells slots Q (F0 m pc ls (.int (nI b) :: .int (nI a) :: rest)) :=
  lv_icmp_ne X.1 X.2.1 hd ht (fun h => kt fun q => h ((nI_eq ha hb).mpr q)) (fun h => kf ((nI_eq ha hb).mp h))
theorem zw_if_eq {tgt : Nat} {off : Int} (X : CallFix p m c cc nL s args lw_all own) (ha : a < 2147483648) (hd : decode cc pc = .ok (.ifCond .eq off, 3)) (ht : (pc : Int) + off = (tgt : Int)) (kt : a = 0 → W p l e R s m args below meth c H locs cells slots Q (F0 m tgt ls rest)) (kf : ¬ a = 0 → W p l e R s m args below meth c H locs cells slots Q (F0 m (pc + 3) ls rest)) : W p l e R s m args below meth c H locs cells slots Q (F0 m pc ls (.int (nI a) :: rest)) :=
  lv_if_eq X.1 X.2.1 hd ht (fun h => kt ((nI_eq ha (by decide)).mp (h.trans nI_0.symm))) (fun h => kf fun q => h (by rw [q]; exact nI_0))
theorem zw_if_ne {tgt : Nat} {off : Int} (X : CallFix p m c cc nL s args lw_all own) (ha : a < 2147483648) (hd : decode cc pc = .ok (.ifCond .ne off, 3)) (ht : (pc : Int) + off = (tgt : Int)) (kt : ¬ a = 0 → W p l e R s m args below meth c H locs cells slots Q (F0 m tgt ls rest)) (kf : a = 0 → W p l e R s m args below meth c H locs cells slots Q (F0 m (pc + 3) ls rest)) : W p l e R s m args below meth c H locs cells slots Q (F0 m pc ls (.int (nI a) :: rest)) :=
  lv_if_ne X.1 X.2.1 hd ht (fun h => kt fun q => h (by rw [q]; exact nI_0)) (fun h => kf ((nI_eq ha (by decide)).mp (h.trans nI_0.symm)))
theorem zw_if_le {tgt : Nat} {off : Int} (X : CallFix p m c cc nL s args lw_all own) (ha : a < 2147483648) (hd : decode cc pc = .ok (.ifCond .le off, 3)) (ht : (pc : Int) + off = (tgt : Int)) (kt : a = 0 → W p l e R s m args below meth c H locs cells slots Q (F0 m tgt ls rest)) (kf : 0 < a → W p l e R s m args below meth c H locs cells slots Q (F0 m (pc + 3) ls rest)) : W p l e R s m args below meth c H locs cells slots Q (F0 m pc ls (.int (nI a) :: rest)) :=
  lv_if_le X.1 X.2.1 hd ht (fun h => kt (by
    rcases Nat.eq_zero_or_pos a with q | q
    · exact q
    · exact absurd h (nI_nle q ha))) (fun h => kf (by
    rcases Nat.eq_zero_or_pos a with q | q
    · exact absurd (by rw [q, nI_0]; decide) h
    · exact q))
/-- a number that is not negative: iflt goes on -/
theorem zw_if_lt {off : Int} {tgt : Nat} (X : CallFix p m c cc nL s args lw_all own) (ha : a < 2147483648) (hd : decode cc pc = .ok (.ifCond .lt off, 3)) (ht : (pc : Int) + off = (tgt : Int)) (kf : W p l e R s m args below meth c H locs cells slots Q (F0 m (pc + 3) ls rest)) : W p l e R s m args below meth c H locs cells slots Q (F0 m pc ls (.int (nI a) :: rest)) :=
  lv_if_lt X.1 X.2.1 hd ht (fun h => absurd h (nI_pos ha)) (fun _ => kf)
end
-- ===== the world of one object: its fields, and its int arrays (address, length, contents) =====
abbrev zw_L : Type := List (Nat × Nat × (Nat → Nat))
def zw_cell (dA : ClassId) (x : Nat × Nat × (Nat → Nat)) : Nat × va_E := (x.1, .inl (dA, x.2.1, .inl (fun j => nI (x.2.2 j))))
def zw_ow (dA : ClassId) (ci h0 : Nat) (fs : List Value) (as : zw_L) : va_W := (h0, .inr (ci, fs)) :: as.map (zw_cell dA)
def zw_O (D : va_G) (dA : ClassId) (A : Nat → Prop) (s : State) (H : Heap) (locs : List Loc) (ci h0 : Nat) (fs : List Value) (as : zw_L) : Prop :=
  va_K D vwCl [(dA, .int)] s ∧ va_P D vwCl (zw_ow dA ci h0 fs as) H ∧ va_D A (zw_ow dA ci h0 fs as) ∧ va_S A s.heap H locs ∧ (∀ q : Nat, s.heap.size ≤ q → A q)
theorem zw_at {dA : ClassId} {ci h0 : Nat} {fs : List Value} {as : zw_L} {j a n : Nat} {g : Nat → Nat} (h : as[j]? = some (a, n, g)) : (zw_ow dA ci h0 fs as)[j + 1]? = some (a, .inl (dA, n, .inl (fun j => nI (g j)))) := by
  unfold zw_ow
  rw [List.getElem?_cons_succ, List.getElem?_map, h]
  rfl
theorem zw_upn (g : Nat → Nat) (i v : Nat) : upd (fun j => nI (g j)) i (nI v) = fun j => nI (va_up g i v j) := by
  funext j
  unfold upd va_up
  by_cases h : j = i
  · rw [if_pos h, if_pos h]
  · rw [if_neg h, if_neg h]
theorem zw_setw {dA : ClassId} {ci h0 : Nat} {fs : List Value} {as : zw_L} {j a n i v : Nat} {g : Nat → Nat} : (zw_ow dA ci h0 fs as).set (j + 1) (a, .inl (dA, n, .inl (upd (fun j => nI (g j)) i (nI v)))) = zw_ow dA ci h0 fs (as.set j (a, n, va_up g i v)) := by
  unfold zw_ow
  rw [List.set_cons_succ, List.map_set, zw_upn]
  rfl
section
variable {p : Program} {l : Launch} {e : Env} {R : Room} {s : State} {m : MethodId} {args : Array Value} {below : List Frame} {meth : Method} {c : Code} {H : Heap} {locs : List Loc} {cells slots : Nat} {Q : State → Prop}
variable {cc : ByteArray} {pc : Nat} {ls : Array Slot} {rest : List Value} {nL : Nat} {own : String} {a n i v : Nat}
variable {D : va_G} {dA : ClassId} {A : Nat → Prop} {ci h0 : Nat} {fs : List Value} {as : zw_L}
theorem zw_ld (X : CallFix p m c cc nL s args lw_all own) (O : zw_O D dA A s H locs ci h0 fs as) (j : Nat) {g : Nat → Nat} (ha : as[j]? = some (a, n, g)) (hi : i < n) (hn : n < 2147483648) (hd : decode cc pc = .ok (.iaload, 1)) (kk : W p l e R s m args below meth c H locs cells slots Q (F0 m (pc + 1) ls (.int (nI (g i)) :: rest))) : W p l e R s m args below meth c H locs cells slots Q (F0 m pc ls (.int (nI i) :: .ref a :: rest)) := by
  refine va_iald X.1 X.2.1 O.1 O.2.1 (j + 1) 0 (zw_at ha) rfl (vp_in_nI hi hn) hd ?_
  rw [nI_clamp (Nat.lt_trans hi hn)]
  exact kk
theorem zw_st (X : CallFix p m c cc nL s args lw_all own) (O : zw_O D dA A s H locs ci h0 fs as) (j : Nat) {g : Nat → Nat} (ha : as[j]? = some (a, n, g)) (hi : i < n) (hn : n < 2147483648) (hd : decode cc pc = .ok (.iastore, 1)) (kk : ∀ (H1 : Heap) (locs1 : List Loc), zw_O D dA A s H1 locs1 ci h0 fs (as.set j (a, n, va_up g i v)) → W p l e R s m args below meth c H1 locs1 cells slots Q (F0 m (pc + 1) ls rest)) : W p l e R s m args below meth c H locs cells slots Q (F0 m pc ls (.int (nI v) :: .int (nI i) :: .ref a :: rest)) := by
  refine va_iast X.1 X.2.1 O.1 O.2.1 O.2.2.1 O.2.2.2.1 (j + 1) 0 (zw_at ha) rfl (vp_in_nI hi hn) hd (fun H1 locs1 hP hD hS => ?_)
  rw [nI_clamp (Nat.lt_trans hi hn), zw_setw] at hP hD
  exact kk H1 locs1 ⟨O.1, hP, hD, hS, O.2.2.2.2⟩
theorem zw_get {C : String} {T : u_T} {N index : Nat} (X : CallFix p m c cc nL s args lw_all own) (O : zw_O D dA A s H locs ci h0 fs as) (hC : vwCl[ci]? = some (C, T, N)) (hin : ∀ w ∈ u_ws C T N, w ∈ lw_all) (k : Nat) (hk : k < N) (hq : Cond.fieldLink own index (T k).1 (T k).2.1 (T k).2.2.1 ∈ lw_all) {x : Value} (hv : fs[k]? = some x) (hd : decode cc pc = .ok (.getfield index, 3)) (kk : W p l e R s m args below meth c H locs cells slots Q (F0 m (pc + 3) ls (x :: rest))) : W p l e R s m args below meth c H locs cells slots Q (F0 m pc ls (.ref h0 :: rest)) :=
  va_get (D := D) (ci := ci) (v := x) (C := C) (T := T) (N := N) X.1 X.2.1 X.2.2.2.2 hin X.2.2.2.1 O.1 O.2.1 0 rfl hC k hk (X.2.2.2.2 _ hq) (fun _ h9 => h9) hv hd kk
/-- aload_0, getfield: LayoutWidths -/
theorem zx_f {index : Nat} (X : CallFix p m c cc nL s args lw_all RX0) (O : zw_O D dA A s H locs 0 h0 fs as) {lv : List (Nat × Value)} (hl : lv_has ls nL lv) (i0 : Nat) (h0l : lv[i0]? = some (0, .ref h0)) (k : Nat) (hk : k < 6) (hq : Cond.fieldLink RX0 index (TX0 k).1 (TX0 k).2.1 (TX0 k).2.2.1 ∈ lw_all) {x : Value} (hv : fs[k]? = some x) (d1 : decode cc pc = .ok (.aload_n 0, 1)) (d2 : decode cc (pc + 1) = .ok (.getfield index, 3)) (kk : W p l e R s m args below meth c H locs cells slots Q (F0 m (pc + 1 + 3) ls (x :: rest))) : W p l e R s m args below meth c H locs cells slots Q (F0 m pc ls rest) :=
  lv_aload_n X.1 X.2.1 d1 rfl (lv_at hl i0 h0l) (zw_get X O rfl in_X0 k hk hq hv d2 kk)
/-- aload_0, getfield: LayoutWidthsModel -/
theorem zm_f {index : Nat} (X : CallFix p m c cc nL s args lw_all RX1) (O : zw_O D dA A s H locs 1 h0 fs as) {lv : List (Nat × Value)} (hl : lv_has ls nL lv) (i0 : Nat) (h0l : lv[i0]? = some (0, .ref h0)) (k : Nat) (hk : k < 8) (hq : Cond.fieldLink RX1 index (TX1 k).1 (TX1 k).2.1 (TX1 k).2.2.1 ∈ lw_all) {x : Value} (hv : fs[k]? = some x) (d1 : decode cc pc = .ok (.aload_n 0, 1)) (d2 : decode cc (pc + 1) = .ok (.getfield index, 3)) (kk : W p l e R s m args below meth c H locs cells slots Q (F0 m (pc + 1 + 3) ls (x :: rest))) : W p l e R s m args below meth c H locs cells slots Q (F0 m pc ls rest) :=
  lv_aload_n X.1 X.2.1 d1 rfl (lv_at hl i0 h0l) (zw_get X O rfl in_X1 k hk hq hv d2 kk)
/-- putfield known: LayoutWidthsModel -/
theorem zm_put {index : Nat} (X : CallFix p m c cc nL s args lw_all RX1) (O : zw_O D dA A s H locs 1 h0 fs as) (hq : Cond.fieldLink RX1 index (TX1 7).1 (TX1 7).2.1 (TX1 7).2.2.1 ∈ lw_all) {x : Int32} (hn : narrow .boolean (.int x) = .int x) (hfit : fits .boolean (.int x) = true) (hl7 : 7 < fs.length) (hd : decode cc pc = .ok (.putfield index, 3)) (kk : ∀ (H1 : Heap) (locs1 : List Loc), zw_O D dA A s H1 locs1 1 h0 (fs.set 7 (.int x)) as → W p l e R s m args below meth c H1 locs1 cells slots Q (F0 m (pc + 3) ls rest)) : W p l e R s m args below meth c H locs cells slots Q (F0 m pc ls (.int x :: .ref h0 :: rest)) :=
  va_put (D := D) (ci := 1) (v := .int x) (ty := .boolean) (C := RX1) (T := TX1) (N := 8) X.1 X.2.1 X.2.2.2.2 in_X1 tyX1 tyX1_ok nmX1 X.2.2.2.1 O.1 O.2.1 O.2.2.1 O.2.2.2.1 0 rfl rfl 7 (by decide) (X.2.2.2.2 _ hq) (fun _ h9 => h9) rfl (by decide +kernel) hn hfit hl7 hd (fun H1 locs1 hP hD hS => kk H1 locs1 ⟨O.1, hP, hD, hS, O.2.2.2.2⟩)
end
-- ===== contracts: an answer of int (or boolean), or none; the object's fields and arrays behind =====
def zw_Ci (l : Launch) (D : va_G) (dA : ClassId) (y : MethodName) (code : ByteArray) (L : Nat) (ret : Option FieldType) (rm : Room) (ci h0 : Nat) (av : List Value) (fs : List Value) (as : zw_L) (post : Int32 → List Value → zw_L → Prop) : Prop :=
  ∀ sz : Nat, Met l y (ws_ y code L ret) rm (va_Pc (.ref h0 :: av) (fun U => U.heap.size = sz ∧ va_P D vwCl (zw_ow dA ci h0 fs as) U.heap ∧ va_K D vwCl [(dA, .int)] U ∧ va_D (fun _ => True) (zw_ow dA ci h0 fs as)))
    (va_Qi (S := List Value × zw_L) (fun r u => post r u.1 u.2) (fun u t => va_P D vwCl (zw_ow dA ci h0 u.1 u.2) t.heap ∧ va_K D vwCl [(dA, .int)] t ∧ va_D (va_A (zw_ow dA ci h0 fs as) sz) (zw_ow dA ci h0 u.1 u.2)) (va_A (zw_ow dA ci h0 fs as) sz)) 0 0 (va_A (zw_ow dA ci h0 fs as) sz)
def zw_Cv (l : Launch) (D : va_G) (dA : ClassId) (y : MethodName) (code : ByteArray) (L : Nat) (rm : Room) (ci h0 : Nat) (av : List Value) (fs : List Value) (as : zw_L) (post : List Value → zw_L → Prop) : Prop :=
  ∀ sz : Nat, Met l y (ws_ y code L none) rm (va_Pc (.ref h0 :: av) (fun U => U.heap.size = sz ∧ va_P D vwCl (zw_ow dA ci h0 fs as) U.heap ∧ va_K D vwCl [(dA, .int)] U ∧ va_D (fun _ => True) (zw_ow dA ci h0 fs as)))
    (va_Qv (S := List Value × zw_L) (fun u => post u.1 u.2) (fun u t => va_P D vwCl (zw_ow dA ci h0 u.1 u.2) t.heap ∧ va_K D vwCl [(dA, .int)] t ∧ va_D (va_A (zw_ow dA ci h0 fs as) sz) (zw_ow dA ci h0 u.1 u.2)) (va_A (zw_ow dA ci h0 fs as) sz)) 0 0 (va_A (zw_ow dA ci h0 fs as) sz)
theorem zw_Ci.mk {l : Launch} {D : va_G} {dA : ClassId} {y : MethodName} {code : ByteArray} {L : Nat} {ret : Option FieldType} {rm : Room} {ci h0 : Nat} {av : List Value} {fs : List Value} {as : zw_L} {post : Int32 → List Value → zw_L → Prop} {ty : FieldType} {own : String} (hret : ret = some ty) (ho : y.cls = own) (hy : plainName y.cls = true) (hlen : (lg_sl (.ref h0 :: av)).length ≤ L) {lv0 : List (Nat × Value)} (hlv : lv_args 0 (.ref h0 :: av) = lv0)
    (body : ∀ (p : Program) (e : Env) (s : State) (m : MethodId) (args : Array Value) (below : List Frame) (meth : Method) (c : Code) (A : Nat → Prop) (Q : State → Prop), CallFix p m c code L s args lw_all own →
      (∀ (r : Int32) (fs' : List Value) (as' : zw_L) (H : Heap) (locs : List Loc) (pc : Nat) (ls : Array Slot), zw_O D dA A s H locs ci h0 fs' as' → post r fs' as' → narrow ty (.int r) = .int r → decode code pc = .ok (.ireturn, 1) → W p l e rm s m args below meth c H locs 0 0 Q (F0 m pc ls [.int r])) →
      ∀ (ls : Array Slot), lv_has ls L lv0 → zw_O D dA A s s.heap [] ci h0 fs as → W p l e rm s m args below meth c s.heap [] 0 0 Q (F0 m 0 ls [])) : zw_Ci l D dA y code L ret rm ci h0 av fs as post := by
  intro sz
  refine Met.ofW (cc := code) (maxL := L) (ret := ret) hy rfl ?_
  intro p e s m args below meth c s₁ B hml hv
  obtain ⟨rfl, hsz, hP, hK, hD0⟩ := hv
  have hts0 := atoms_spec (ws := ws_ y code L ret) B.pre
  have hts : ∀ w ∈ lw_all, w.before _ s = true := fun w h => hts0 w (List.mem_cons_of_mem _ h)
  have hown : s.vm.findClass own = some m.cls := by rw [← ho]; exact findClass_of_methodNamed B.named
  have hr := B.returns
  have hlocks := B.notSynchronized
  subst hsz
  have hD := hD0.self (sz := s.heap.size)
  generalize hAe : va_A (zw_ow dA ci h0 fs as) s.heap.size = A at hD ⊢
  have hA : ∀ q : Nat, s.heap.size ≤ q → A q := fun q h => by rw [← hAe]; exact Or.inr h
  have hl := lv_entry (.ref h0 :: av) (n := L) hlen
  rw [lg_entry_eq]
  generalize (lg_sl (Value.ref h0 :: av) ++ List.replicate (L - (lg_sl (Value.ref h0 :: av)).length) Slot.unset).toArray = ls at hl ⊢
  rw [hlv] at hl
  refine body p e s m _ below meth c A _ ⟨B.exec, B.bytes, hml, hown, hts⟩ ?_ ls hl ⟨hK, hP, hD, va_S.rf, hA⟩
  intro r fs' as' H locs pc ls O hpost hn hd
  exact W.zret (v := r) (ty := ty) B.exec B.bytes (hr.trans hret) hn (fun t ht hW => ⟨⟨r, (fs', as'), rfl, hpost, by rw [ht]; exact O.2.1, va_K.moved hW.alike O.1, O.2.2.1⟩, O.2.2.2.1.F ht⟩) O.2.2.2.1.2.2 hd
theorem zw_Cv.mk {l : Launch} {D : va_G} {dA : ClassId} {y : MethodName} {code : ByteArray} {L : Nat} {rm : Room} {ci h0 : Nat} {av : List Value} {fs : List Value} {as : zw_L} {post : List Value → zw_L → Prop} {own : String} (ho : y.cls = own) (hy : plainName y.cls = true) (hlen : (lg_sl (.ref h0 :: av)).length ≤ L) {lv0 : List (Nat × Value)} (hlv : lv_args 0 (.ref h0 :: av) = lv0)
    (body : ∀ (p : Program) (e : Env) (s : State) (m : MethodId) (args : Array Value) (below : List Frame) (meth : Method) (c : Code) (A : Nat → Prop) (Q : State → Prop), CallFix p m c code L s args lw_all own →
      (∀ (fs' : List Value) (as' : zw_L) (H : Heap) (locs : List Loc) (pc : Nat) (ls : Array Slot), zw_O D dA A s H locs ci h0 fs' as' → post fs' as' → decode code pc = .ok (.return_, 1) → W p l e rm s m args below meth c H locs 0 0 Q (F0 m pc ls [])) →
      ∀ (ls : Array Slot), lv_has ls L lv0 → zw_O D dA A s s.heap [] ci h0 fs as → W p l e rm s m args below meth c s.heap [] 0 0 Q (F0 m 0 ls [])) : zw_Cv l D dA y code L rm ci h0 av fs as post := by
  intro sz
  refine Met.ofW (cc := code) (maxL := L) (ret := none) hy rfl ?_
  intro p e s m args below meth c s₁ B hml hv
  obtain ⟨rfl, hsz, hP, hK, hD0⟩ := hv
  have hts0 := atoms_spec (ws := ws_ y code L none) B.pre
  have hts : ∀ w ∈ lw_all, w.before _ s = true := fun w h => hts0 w (List.mem_cons_of_mem _ h)
  have hown : s.vm.findClass own = some m.cls := by rw [← ho]; exact findClass_of_methodNamed B.named
  have hr := B.returns
  have hlocks := B.notSynchronized
  subst hsz
  have hD := hD0.self (sz := s.heap.size)
  generalize hAe : va_A (zw_ow dA ci h0 fs as) s.heap.size = A at hD ⊢
  have hA : ∀ q : Nat, s.heap.size ≤ q → A q := fun q h => by rw [← hAe]; exact Or.inr h
  have hl := lv_entry (.ref h0 :: av) (n := L) hlen
  rw [lg_entry_eq]
  generalize (lg_sl (Value.ref h0 :: av) ++ List.replicate (L - (lg_sl (Value.ref h0 :: av)).length) Slot.unset).toArray = ls at hl ⊢
  rw [hlv] at hl
  refine body p e s m _ below meth c A _ ⟨B.exec, B.bytes, hml, hown, hts⟩ ?_ ls hl ⟨hK, hP, hD, va_S.rf, hA⟩
  intro fs' as' H locs pc ls O hpost hd
  exact W.vret B.exec B.bytes hr (fun t ht hW => ⟨⟨(fs', as'), rfl, hpost, by rw [ht]; exact O.2.1, va_K.moved hW.alike O.1, O.2.2.1⟩, O.2.2.2.1.F ht⟩) O.2.2.2.1.2.2 hd
section
variable {p : Program} {l : Launch} {e : Env} {R : Room} {s : State} {m : MethodId} {args : Array Value} {below : List Frame} {meth : Method} {c : Code} {H : Heap} {locs : List Loc} {cells slots : Nat} {Q : State → Prop}
variable {cc : ByteArray} {pc : Nat} {ls : Array Slot} {rest : List Value} {nL : Nat} {own : String}
variable {D : va_G} {dA : ClassId} {A : Nat → Prop} {ci h0 : Nat} {fs : List Value} {as : zw_L}
theorem zw_freeA (O : zw_O D dA A s H locs ci h0 fs as) : ∀ q, va_A (zw_ow dA ci h0 fs as) H.size q → A q := by
  intro q h
  rcases h with ⟨k, e, h⟩ | h
  · exact O.2.2.1.2 k (q, e) h
  · exact O.2.2.2.2 q (Nat.le_trans O.2.2.2.1.1 h)
/-- a call of a method of the same object, with an answer -/
theorem zw_calli {y : MethodName} {code' : ByteArray} {L index : Nat} {ret : Option FieldType} {rm : Room} {av : List Value} {post : Int32 → List Value → zw_L → Prop} {C : String} {T : u_T} {N : Nat} (X : CallFix p m c cc nL s args lw_all own) (O : zw_O D dA A s H locs ci h0 fs as) (hM : zw_Ci l D dA y code' L ret rm ci h0 av fs as post) (hC : vwCl[ci]? = some (C, T, N)) (n : Nat) (hT : GoodIn lw_all (wsV own index C y (ws_ y code' L ret))) (hc0 : rm.cells = 0) (hs0 : rm.slots = 0)
    (hd : y.cls = C ∧ y.cls ≠ "java/lang/invoke/MethodHandle" ∧ y.cls ≠ "java/lang/invoke/VarHandle" ∧ (parseMethodDescriptor y.desc).map (fun d => d.parameters.length) = some n) (hR : rm.frames + 1 ≤ R.frames ∧ 8 + (L + 11) + rm.locals ≤ R.locals) (hn : av.length = n) (hls : ls.size = nL) {st : List Value} (hst : st = av.reverse ++ .ref h0 :: rest) (hroom : (rest.map fun v => v.category).sum ≤ 8) (hdg : decode cc pc = .ok (.invokevirtual index, 3)) (hf : cells ≤ R.cells ∧ slots ≤ R.slots)
    (kk : ∀ (r : Int32) (fs' : List Value) (as' : zw_L) (H1 : Heap) (locs1 : List Loc), post r fs' as' → zw_O D dA A s H1 locs1 ci h0 fs' as' → W p l e R s m args below meth c H1 locs1 cells slots Q (F0 m (pc + 3) ls (.int r :: rest))) : W p l e R s m args below meth c H locs cells slots Q (F0 m pc ls st) := by
  subst hst
  have hFc := zw_freeA O
  refine va_calli (va_runV (As := av) (rest := rest) X (hM H.size) (cwV n X.2.2.2.2 hT rfl hc0 hs0 hd hR) ⟨fun a U g mk q => by obtain ⟨q0, q1, qP, qK, qD⟩ := q; exact ⟨q0, q1, qP, va_K.moved (u := U) (U := U.calling g mk a) (Vm.Alike.refl U.vm) qK, qD⟩, va_recv O.1 O.2.1 (ci := ci) (q0 := 0) hC rfl, fun U hU hW => ⟨rfl, by rw [hU], by rw [hU]; exact O.2.1, va_K.moved hW.alike O.1, O.2.2.1.weaken (fun _ _ _ _ => trivial)⟩⟩ rfl hn hls rfl (lv_room hroom) hdg hf) O.2.2.2.1 (fun q _ h => hFc q h) hFc (fun r u t H1 locs1 ht hvm hw hB hz1 hk1 hS1 => ?_)
  obtain ⟨hP1, hK1, hD1⟩ := hB
  rw [ht] at hP1
  exact kk r u.1 u.2 H1 locs1 hw ⟨O.1, hP1, hD1.weaken (fun _ _ _ hq => hFc _ hq), hS1, O.2.2.2.2⟩
theorem zw_callv {y : MethodName} {code' : ByteArray} {L index : Nat} {rm : Room} {av : List Value} {post : List Value → zw_L → Prop} {C : String} {T : u_T} {N : Nat} (X : CallFix p m c cc nL s args lw_all own) (O : zw_O D dA A s H locs ci h0 fs as) (hM : zw_Cv l D dA y code' L rm ci h0 av fs as post) (hC : vwCl[ci]? = some (C, T, N)) (n : Nat) (hT : GoodIn lw_all (wsV own index C y (ws_ y code' L none))) (hc0 : rm.cells = 0) (hs0 : rm.slots = 0)
    (hd : y.cls = C ∧ y.cls ≠ "java/lang/invoke/MethodHandle" ∧ y.cls ≠ "java/lang/invoke/VarHandle" ∧ (parseMethodDescriptor y.desc).map (fun d => d.parameters.length) = some n) (hR : rm.frames + 1 ≤ R.frames ∧ 8 + (L + 11) + rm.locals ≤ R.locals) (hn : av.length = n) (hls : ls.size = nL) {st : List Value} (hst : st = av.reverse ++ .ref h0 :: rest) (hroom : (rest.map fun v => v.category).sum ≤ 8) (hdg : decode cc pc = .ok (.invokevirtual index, 3)) (hf : cells ≤ R.cells ∧ slots ≤ R.slots)
    (kk : ∀ (fs' : List Value) (as' : zw_L) (H1 : Heap) (locs1 : List Loc), post fs' as' → zw_O D dA A s H1 locs1 ci h0 fs' as' → W p l e R s m args below meth c H1 locs1 cells slots Q (F0 m (pc + 3) ls rest)) : W p l e R s m args below meth c H locs cells slots Q (F0 m pc ls st) := by
  subst hst
  have hFc := zw_freeA O
  refine va_callv (va_runV (As := av) (rest := rest) X (hM H.size) (cwV n X.2.2.2.2 hT rfl hc0 hs0 hd hR) ⟨fun a U g mk q => by obtain ⟨q0, q1, qP, qK, qD⟩ := q; exact ⟨q0, q1, qP, va_K.moved (u := U) (U := U.calling g mk a) (Vm.Alike.refl U.vm) qK, qD⟩, va_recv O.1 O.2.1 (ci := ci) (q0 := 0) hC rfl, fun U hU hW => ⟨rfl, by rw [hU], by rw [hU]; exact O.2.1, va_K.moved hW.alike O.1, O.2.2.1.weaken (fun _ _ _ _ => trivial)⟩⟩ rfl hn hls rfl (lv_room hroom) hdg hf) O.2.2.2.1 (fun q _ h => hFc q h) hFc (fun u t H1 locs1 ht hvm hw hB hz1 hk1 hS1 => ?_)
  obtain ⟨hP1, hK1, hD1⟩ := hB
  rw [ht] at hP1
  exact kk u.1 u.2 H1 locs1 hw ⟨O.1, hP1, hD1.weaken (fun _ _ _ hq => hFc _ hq), hS1, O.2.2.2.2⟩
end
-- ===== the two objects =====
/-- LayoutWidths: its six arrays near, cost, ways, ahead, placed, tried at the addresses a 0 .. a 5 -/
abbrev fX (a : Nat → Nat) : List Value := [.ref (a 0), .ref (a 1), .ref (a 2), .ref (a 3), .ref (a 4), .ref (a 5)]
abbrev sX (a : Nat → Nat) (g co wy ah pl tr : Nat → Nat) : zw_L := [(a 0, 6, g), (a 1, 64, co), (a 2, 64, wy), (a 3, 64, ah), (a 4, 6, pl), (a 5, 7, tr)]
/-- LayoutWidthsModel: near, left, row, numbers, leasts, counts, firsts at a 0 .. a 6, and known -/
abbrev fM (a : Nat → Nat) (kn : Nat) : List Value := [.ref (a 0), .ref (a 1), .ref (a 2), .ref (a 3), .ref (a 4), .ref (a 5), .ref (a 6), .int (nI kn)]
abbrev sM (a : Nat → Nat) (g lf rw nu le cn fi : Nat → Nat) : zw_L := [(a 0, 6, g), (a 1, 6, lf), (a 2, 6, rw), (a 3, 6, nu), (a 4, 6, le), (a 5, 6, cn), (a 6, 6, fi)]
end
section
/-! SPEC: what the methods compute, over natural numbers -/
def zp_sm (f : Nat → Nat) : Nat → Nat
  | 0 => 0
  | n + 1 => zp_sm f n + f n
def zp_mx (f : Nat → Nat) : Nat → Nat
  | 0 => 0
  | n + 1 => max (zp_mx f n) (f n)
def zp_om (f : Nat → Nat) : Nat → Nat
  | 0 => 0
  | n + 1 => zp_om f n ||| f n
def zp_mn (t : Nat → Bool) (f : Nat → Nat) : Nat → Nat
  | 0 => 1000
  | n + 1 => if t n = true then min (zp_mn t f n) (f n) else zp_mn t f n
def zp_it (f : Nat → Nat) (x : Nat) : Nat → Nat
  | 0 => x
  | n + 1 => f (zp_it f x n)
def zp_pop (S : Nat) : Nat := zp_sm (zp_tb S) 6
-- ===== LayoutWidths =====
def zp_cut (g : Nat → Nat) (S : Nat) : Nat := zp_sm (fun p => if S.testBit p = true then zp_pop (zp_sd (g p) S) else 0) 6
def zp_sep (g : Nat → Nat) (S : Nat) : Nat := zp_sm (fun p => if S.testBit p = true ∧ ¬ zp_sd (g p) S = 0 then 1 else 0) 6
def zp_stp (g : Nat → Nat) (E p seen q : Nat) : Nat := if seen.testBit q = true ∧ (q = p ∨ E.testBit q = true) then g q else 0
def zp_rnd (g : Nat → Nat) (E p seen : Nat) : Nat := seen ||| zp_om (zp_stp g E p seen) 6
def zp_nbr (g : Nat → Nat) (E p : Nat) : Nat := zp_sd (zp_sd (zp_it (zp_rnd g E p) (2 ^ p) 6) E) (2 ^ p)
def zp_mis1 (g : Nat → Nat) (E a q : Nat) : Nat := if a.testBit q = true then zp_pop (zp_sd (zp_sd a (zp_nbr g E q)) (2 ^ q)) else 0
def zp_mis (g : Nat → Nat) (E p : Nat) : Nat := zp_sm (zp_mis1 g E (zp_nbr g E p)) 6 / 2
def zp_pr (g : Nat → Nat) (k E p : Nat) : Nat := if k = 0 ∨ k = 3 then zp_cut g (E ||| 2 ^ p) else if k = 1 then zp_sep g (E ||| 2 ^ p) else if k = 2 then zp_pop (zp_nbr g E p) else zp_mis g E p
def zp_jn (k a b : Nat) : Nat := if 3 ≤ k then a + b else max a b
/-- the recurrence that fillCost fills in -/
def zp_RC (g : Nat → Nat) (k : Nat) (c : Nat → Nat) (n : Nat) : Prop := c 0 = 0 ∧ ∀ S, 0 < S → S < n → c S = zp_mn (fun p => S.testBit p) (fun p => zp_jn k (c (zp_sd S (2 ^ p))) (zp_pr g k (zp_sd S (2 ^ p)) p)) 6
/-- the recurrence that fillAhead fills in, from n on -/
def zp_RA (g : Nat → Nat) (k : Nat) (c : Nat → Nat) (n : Nat) : Prop := c 63 = 0 ∧ ∀ S, n ≤ S → S < 63 → c S = zp_mn (fun p => !S.testBit p) (fun p => zp_jn k (zp_pr g k S p) (c (S ||| 2 ^ p))) 6
/-- whether a step counts -/
def zp_fit (g : Nat → Nat) (k : Nat) (c : Nat → Nat) (S p : Nat) : Bool := if 3 ≤ k then decide (c (zp_sd S (2 ^ p)) + zp_pr g k (zp_sd S (2 ^ p)) p = c S) else decide (zp_pr g k (zp_sd S (2 ^ p)) p ≤ c 63)
def zp_RW (g : Nat → Nat) (k : Nat) (c w : Nat → Nat) (n : Nat) : Prop := w 0 = 1 ∧ ∀ S, 0 < S → S < n → w S = zp_sm (fun p => if S.testBit p = true ∧ zp_fit g k c S p = true then w (zp_sd S (2 ^ p)) else 0) 6
/-- whether point p may stand next in the first least order, behind the points of S that cost x -/
def zp_may (g : Nat → Nat) (k : Nat) (a : Nat → Nat) (S x p : Nat) : Prop := S.testBit p = false ∧ zp_jn k (zp_jn k x (zp_pr g k S p)) (a (S ||| 2 ^ p)) = a 0
/-- o is the order that is found step by step -/
def zp_Gr (g : Nat → Nat) (k : Nat) (a o : Nat → Nat) : Prop := ∃ (Sq ac : Nat → Nat), Sq 0 = 0 ∧ ac 0 = 0 ∧ ∀ i, i < 6 → Sq i < 64 ∧ ac i ≤ 1000 ∧ o i < 6 ∧ zp_may g k a (Sq i) (ac i) (o i) ∧ (∀ p, p < o i → ¬ zp_may g k a (Sq i) (ac i) p) ∧ Sq (i + 1) = Sq i ||| 2 ^ (o i) ∧ ac (i + 1) = zp_jn k (ac i) (zp_pr g k (Sq i) (o i))
/-- the search for an order of little stretch -/
def zp_ok (g pl : Nat → Nat) (p d far : Nat) : Bool := (List.range (d - far)).all (fun i => !(g p).testBit (pl i))
def zp_dfs (g : Nat → Nat) (far : Nat) : Nat → Nat → Nat → (Nat → Nat) → (Nat → Nat) → Bool
  | 0, _, _, _, _ => false
  | n + 1, d, S, pl, tr =>
    if d = 6 then true
    else if tr d = 6 then (if d = 0 then false else zp_dfs g far n (d - 1) (zp_sd S (2 ^ (pl (d - 1)))) pl tr)
    else if S.testBit (tr d) = false ∧ zp_ok g pl (tr d) d far = true then
      zp_dfs g far n (d + 1) (S ||| 2 ^ (tr d)) (va_up pl d (tr d)) (if d + 1 < 6 then va_up (va_up tr d (tr d + 1)) (d + 1) 0 else va_up tr d (tr d + 1))
    else zp_dfs g far n d S pl (va_up tr d (tr d + 1))
/-- stretch: the least far below 5 that fits, else 5 -/
def zp_str (fit : Nat → Bool) : Nat → Nat → Nat
  | 0, far => far
  | n + 1, far => if fit far = true then far else zp_str fit n (far + 1)
def zp_low (S : Nat) : Nat := if S.testBit 0 = true then 0 else if S.testBit 1 = true then 1 else if S.testBit 2 = true then 2 else if S.testBit 3 = true then 3 else if S.testBit 4 = true then 4 else 5
def zp_RQ (g w : Nat → Nat) (n : Nat) : Prop := w 0 = 1 ∧ ∀ S, 0 < S → S < n → w S = if w (zp_sd S (2 ^ zp_low S)) = 1 ∧ zp_sd (zp_sd S (2 ^ zp_low S)) (g (zp_low S)) = 0 then 1 else 0
def zp_bst (w : Nat → Nat) : Nat → Nat
  | 0 => 0
  | 1 => 0
  | n + 2 => if w (n + 1) = 1 ∧ zp_bst w (n + 1) < zp_pop (n + 1) then zp_pop (n + 1) else zp_bst w (n + 1)
def zp_lns (g : Nat → Nat) : Nat := zp_sm (fun p => zp_pop (g p)) 6 / 2
-- ===== LayoutWidthsModel =====
def zp_nth (S : Nat) : Nat → Nat → Nat → Nat
  | 0, _, _ => 0
  | n + 1, p, rest => if S.testBit p = true then (if rest = 0 then p else zp_nth S n (p + 1) (rest - 1)) else zp_nth S n (p + 1) rest
def zp_un : Nat → Nat
  | 0 => 720
  | 1 => 120
  | 2 => 24
  | 3 => 6
  | 4 => 2
  | _ => 1
def zp_so (n : Nat) : Nat → Nat × Nat
  | 0 => (n, 63)
  | i + 1 => ((zp_so n i).1 % zp_un (i + 1), zp_sd (zp_so n i).2 (2 ^ (zp_nth (zp_so n i).2 6 0 ((zp_so n i).1 / zp_un (i + 1)))))
def zp_row (n i : Nat) : Nat := zp_nth (zp_so n i).2 6 0 ((zp_so n i).1 / zp_un (i + 1))
def zp_ear (r : Nat → Nat) (n : Nat) : Nat := zp_om (fun k => 2 ^ (r k)) n
def zp_lat (g r : Nat → Nat) (i k : Nat) : Nat := zp_pop (zp_sd (g (r k)) (zp_ear r (i + 1)))
def zp_ct (g r : Nat → Nat) (i : Nat) : Nat := zp_sm (zp_lat g r i) (i + 1)
def zp_pt1 (g r : Nat → Nat) (i k : Nat) : Nat := if 0 < zp_lat g r i k then 1 else 0
def zp_pt (g r : Nat → Nat) (i : Nat) : Nat := zp_sm (zp_pt1 g r i) (i + 1)
def zp_st1 (g r : Nat → Nat) (i k : Nat) : Nat := if (g (r k)).testBit (r i) = true then i - k else 0
def zp_s2 (g r : Nat → Nat) (i : Nat) : Nat := zp_mx (zp_st1 g r i) (i + 1)
def zp_s3 (g r : Nat → Nat) (i : Nat) : Nat := zp_sm (zp_st1 g r i) (i + 1)
def zp_put1 (lf : Nat → Nat) (S p : Nat) : Nat := if S.testBit p = true then zp_pop (zp_sd (zp_sd S (lf p)) (2 ^ p)) else 0
def zp_put (lf : Nat → Nat) (S : Nat) : Nat := zp_sm (zp_put1 lf S) 6 / 2
def zp_join (lf : Nat → Nat) (S p : Nat) : Nat := if S.testBit p = true then lf p ||| zp_sd (zp_sd S (lf p)) (2 ^ p) else lf p
def zp_lf (g r : Nat → Nat) : Nat → Nat → Nat
  | 0, p => g p
  | i + 1, p => zp_sd (zp_join (zp_lf g r i) (zp_lf g r i (r i)) p) (2 ^ (r i))
/-- what the order in the row comes to -/
def zp_nm (g r : Nat → Nat) (k : Nat) : Nat :=
  if k = 0 then zp_mx (zp_ct g r) 6 else if k = 1 then zp_mx (zp_pt g r) 6 else if k = 2 then zp_mx (zp_s2 g r) 6 else if k = 3 then zp_sm (zp_s3 g r) 6
  else if k = 4 then zp_mx (fun i => zp_pop (zp_lf g r i (r i))) 6 else zp_sm (fun i => zp_put (zp_lf g r i) (zp_lf g r i (r i))) 6
/-- least, how many, which first: over the first n values -/
def zp_le (v : Nat → Nat) : Nat → Nat
  | 0 => 1000
  | n + 1 => if v n < zp_le v n then v n else zp_le v n
def zp_cn (v : Nat → Nat) (c0 : Nat) : Nat → Nat
  | 0 => c0
  | n + 1 => if v n < zp_le v n then 1 else if v n = zp_le v n then zp_cn v c0 n + 1 else zp_cn v c0 n
def zp_fi (v : Nat → Nat) (c0 : Nat) : Nat → Nat
  | 0 => c0
  | n + 1 => if v n < zp_le v n then n else zp_fi v c0 n
def zp_isq (g : Nat → Nat) (S : Nat) : Bool := (List.range 6).all (fun p => !(S.testBit p && !(zp_sd (zp_sd S (g p)) (2 ^ p) == 0)))
def zp_mq (g : Nat → Nat) : Nat → Nat
  | 0 => 0
  | n + 1 => if zp_mq g n < zp_pop n ∧ zp_isq g n = true then zp_pop n else zp_mq g n
/-- near is a graph on six points -/
def zp_G (g : Nat → Nat) : Prop := (∀ p, p < 6 → g p < 64) ∧ (∀ p q, p < 6 → q < 6 → (g p).testBit q = (g q).testBit p) ∧ (∀ p, p < 6 → (g p).testBit p = false)
-- ===== bounds =====
theorem zp_sm_le {f : Nat → Nat} {b : Nat} : ∀ n, (∀ i, i < n → f i ≤ b) → zp_sm f n ≤ n * b
  | 0, _ => by simp [zp_sm]
  | n + 1, h => by
    have h1 := zp_sm_le n (fun i hi => h i (Nat.lt_succ_of_lt hi))
    have h2 := h n (Nat.lt_succ_self n)
    rw [Nat.succ_mul]
    exact Nat.add_le_add h1 h2
theorem zp_pop_le (S : Nat) : zp_pop S ≤ 6 := by
  have := zp_sm_le (f := zp_tb S) (b := 1) 6 (fun i _ => zp_tb_le S i)
  exact this
theorem zp_popP_le (S n : Nat) (h : n ≤ 6) : zp_sm (zp_tb S) n ≤ 6 := by
  have := zp_sm_le (f := zp_tb S) (b := 1) n (fun i _ => zp_tb_le S i)
  omega
theorem zp_om_lt {f : Nat → Nat} : ∀ n, (∀ i, i < n → f i < 64) → zp_om f n < 64
  | 0, _ => by simp [zp_om]
  | n + 1, h => zp_or_lt (zp_om_lt n (fun i hi => h i (Nat.lt_succ_of_lt hi))) (h n (Nat.lt_succ_self n))
theorem zp_mn_le {t : Nat → Bool} {f : Nat → Nat} : ∀ n, zp_mn t f n ≤ 1000
  | 0 => Nat.le_refl _
  | n + 1 => by
    have h := zp_mn_le (t := t) (f := f) n
    simp only [zp_mn]
    split
    · omega
    · exact h
theorem zp_stp_lt {g : Nat → Nat} (hg : ∀ p, p < 6 → g p < 64) (E p seen : Nat) : ∀ q, q < 6 → zp_stp g E p seen q < 64 := by
  intro q hq
  unfold zp_stp
  split
  · exact hg q hq
  · decide
theorem zp_rnd_lt {g : Nat → Nat} (hg : ∀ p, p < 6 → g p < 64) {E p seen : Nat} (hs : seen < 64) : zp_rnd g E p seen < 64 := zp_or_lt hs (zp_om_lt 6 (zp_stp_lt hg E p seen))
theorem zp_itr_lt {g : Nat → Nat} (hg : ∀ p, p < 6 → g p < 64) {E p : Nat} (hp : p < 6) : ∀ n, zp_it (zp_rnd g E p) (2 ^ p) n < 64
  | 0 => zp_pw_lt p hp
  | n + 1 => zp_rnd_lt hg (zp_itr_lt hg hp n)
theorem zp_nbr_lt {g : Nat → Nat} (hg : ∀ p, p < 6 → g p < 64) {E p : Nat} (hp : p < 6) : zp_nbr g E p < 64 := zp_sd_lt (zp_sd_lt (zp_itr_lt hg hp 6))
theorem zp_mis1_le (g : Nat → Nat) (E a q : Nat) : zp_mis1 g E a q ≤ 6 := by
  unfold zp_mis1
  split
  · exact zp_pop_le _
  · decide
theorem zp_pr_le (g : Nat → Nat) (k E p : Nat) : zp_pr g k E p ≤ 36 := by
  unfold zp_pr
  split
  · unfold zp_cut
    exact zp_sm_le (b := 6) 6 (fun i _ => by split <;> first | exact zp_pop_le _ | decide)
  · split
    · unfold zp_sep
      have := zp_sm_le (f := fun p_1 => if (E ||| 2 ^ p).testBit p_1 = true ∧ ¬zp_sd (g p_1) (E ||| 2 ^ p) = 0 then 1 else 0) (b := 1) 6 (fun i _ => by split <;> decide)
      omega
    · split
      · have := zp_pop_le (zp_nbr g E p)
        omega
      · unfold zp_mis
        have := zp_sm_le (f := zp_mis1 g E (zp_nbr g E p)) (b := 6) 6 (fun i _ => zp_mis1_le g E _ i)
        omega
end
section
/-! more rows: tests of one bit -/
section
variable {p : Program} {l : Launch} {e : Env} {R : Room} {s : State} {m : MethodId} {args : Array Value} {below : List Frame} {meth : Method} {c : Code} {H : Heap} {locs : List Loc} {cells slots : Nat} {Q : State → Prop}
variable {cc : ByteArray} {pc : Nat} {ls : Array Slot} {rest : List Value} {nL : Nat} {own : String} {a b : Nat}
theorem zw_tbne {tgt : Nat} {off : Int} (X : CallFix p m c cc nL s args lw_all own) (hd0 : decode cc pc = .ok (.iconst 1, 1)) (hd : decode cc (pc + 1) = .ok (.if_icmp .ne off, 3)) (ht : ((pc + 1 : Nat) : Int) + off = (tgt : Int)) (kt : a.testBit b = false → W p l e R s m args below meth c H locs cells slots Q (F0 m tgt ls rest)) (kf : a.testBit b = true → W p l e R s m args below meth c H locs cells slots Q (F0 m (pc + 1 + 3) ls rest)) : W p l e R s m args below meth c H locs cells slots Q (F0 m pc ls (.int (nI (zp_tb a b)) :: rest)) := by
  refine lv_iconst (v := nI 1) X.1 X.2.1 hd0 (by decide) ?_
  refine zw_icmp_ne (tgt := tgt) X (Nat.lt_of_le_of_lt (zp_tb_le a b) (by decide)) (by decide) hd ht (fun h => kt ?_) (fun h => kf (zp_tb_1.mp h))
  cases hh : a.testBit b
  · rfl
  · exact absurd (zp_tb_t hh) h
theorem zw_tbif {tgt : Nat} {off : Int} (X : CallFix p m c cc nL s args lw_all own) (hd : decode cc pc = .ok (.ifCond .ne off, 3)) (ht : (pc : Int) + off = (tgt : Int)) (kt : a.testBit b = true → W p l e R s m args below meth c H locs cells slots Q (F0 m tgt ls rest)) (kf : a.testBit b = false → W p l e R s m args below meth c H locs cells slots Q (F0 m (pc + 3) ls rest)) : W p l e R s m args below meth c H locs cells slots Q (F0 m pc ls (.int (nI (zp_tb a b)) :: rest)) := by
  refine zw_if_ne (tgt := tgt) X (Nat.lt_of_le_of_lt (zp_tb_le a b) (by decide)) hd ht (fun h => kt ?_) (fun h => kf (zp_tb_0.mp h))
  cases hh : a.testBit b
  · exact absurd (zp_tb_f hh) h
  · rfl
end
end
section
/-! LayoutWidths: contracts, leaves first (written by gen/x1.py) -/
abbrev rX0_sizeOf : Room := { frames := 0, cells := 0, slots := 0, locals := 0 }
set_option maxHeartbeats 4000000 in
set_option maxRecDepth 100000 in
/-- the points of a set -/
theorem zX_sizeOf (l : Launch) (D : va_G) (dA : ClassId) (h0 : Nat) (a : Nat → Nat) (g co wy ah pl tr : Nat → Nat) (S : Nat) (hS : S < 64) : zw_Ci l D dA yX0_sizeOf cX0_sizeOf 4 (some .int) rX0_sizeOf 0 h0 [.int (nI S)] (fX a) (sX a g co wy ah pl tr) (fun r fs as => r = nI (zp_pop S) ∧ fs = fX a ∧ as = sX a g co wy ah pl tr) := by
  refine zw_Ci.mk (ty := .int) (own := RX0) (lv0 := [(0, .ref h0), (1, .int (nI S))]) rfl rfl (by decide +kernel) (Nat.le_of_ble_eq_true rfl) rfl ?_
  intro p e s m args below meth c A Q X RET ls hl O
  refine lv_iconst (v := nI 0) X.1 X.2.1 dX0_sizeOf_0 (by decide) ?_
  refine lv_istore_n (lv' := [(2, .int (nI 0)), (0, .ref h0), (1, .int (nI S))]) X.1 X.2.1 dX0_sizeOf_1 rfl hl (by decide) rfl (fun ls hl => ?_)
  refine lv_iconst (v := nI 0) X.1 X.2.1 dX0_sizeOf_2 (by decide) ?_
  refine lv_istore_n (lv' := [(3, .int (nI 0)), (2, .int (nI 0)), (0, .ref h0), (1, .int (nI S))]) X.1 X.2.1 dX0_sizeOf_3 rfl hl (by decide) rfl (fun ls hl => ?_)
  have L4 : ∀ (n : Nat) (i : Nat), (i + n = 6) → ∀ (H : Heap) (locs : List Loc), zw_O D dA A s H locs 0 h0 (fX a) (sX a g co wy ah pl tr) → ∀ (ls : Array Slot), lv_has ls 4 [(0, .ref h0), (1, .int (nI S)), (2, .int (nI (zp_sm (zp_tb S) i))), (3, .int (nI i))] → W p l e rX0_sizeOf s m args below meth c H locs 0 0 Q (F0 m 4 ls []) := by
    intro n
    induction n with
    | zero =>
      intro i hi H locs O ls hl
      refine lv_iload_n X.1 X.2.1 dX0_sizeOf_4 rfl (lv_at hl 3 rfl) ?_
      refine lv_bipush (v := nI 6) X.1 X.2.1 dX0_sizeOf_5 (by decide) ?_
      refine zw_icmp_ge (tgt := 24) X (by omega) (by decide) dX0_sizeOf_7 (by decide) (fun cb => ?_) (fun cb => ?_)
      · refine lv_iload_n X.1 X.2.1 dX0_sizeOf_24 rfl (lv_at hl 2 rfl) ?_
        exact RET _ _ _ _ _ _ _ O ⟨by rw [show i = 6 by omega]; rfl, rfl, rfl⟩ rfl dX0_sizeOf_25
      · exact absurd cb (by omega)
    | succ n ih =>
      intro i hi H locs O ls hl
      refine lv_iload_n X.1 X.2.1 dX0_sizeOf_4 rfl (lv_at hl 3 rfl) ?_
      refine lv_bipush (v := nI 6) X.1 X.2.1 dX0_sizeOf_5 (by decide) ?_
      refine zw_icmp_ge (tgt := 24) X (by omega) (by decide) dX0_sizeOf_7 (by decide) (fun cb => ?_) (fun cb => ?_)
      · exact absurd cb (by omega)
      · refine lv_iload_n X.1 X.2.1 dX0_sizeOf_10 rfl (lv_at hl 2 rfl) ?_
        refine lv_iload_n X.1 X.2.1 dX0_sizeOf_11 rfl (lv_at hl 1 rfl) ?_
        refine lv_iload_n X.1 X.2.1 dX0_sizeOf_12 rfl (lv_at hl 3 rfl) ?_
        refine zw_bit X hS (by omega) dX0_sizeOf_13 dX0_sizeOf_14 dX0_sizeOf_15 ?_
        refine zw_add X dX0_sizeOf_16 ?_
        refine lv_istore_n (lv' := [(2, .int (nI ((zp_sm (zp_tb S) i) + (zp_tb S i)))), (0, .ref h0), (1, .int (nI S)), (3, .int (nI i))]) X.1 X.2.1 dX0_sizeOf_17 rfl hl (by decide) rfl (fun ls hl => ?_)
        refine lv_iinc (v := nI (i + 1)) (lv' := [(3, .int (nI (i + 1))), (2, .int (nI ((zp_sm (zp_tb S) i) + (zp_tb S i)))), (0, .ref h0), (1, .int (nI S))]) X.1 X.2.1 dX0_sizeOf_18 hl (k := 3) rfl (zi_inc _) (by decide) rfl (fun ls hl => ?_)
        refine lv_goto (tgt := 4) X.1 X.2.1 dX0_sizeOf_21 (by decide) ?_
        exact ih (i + 1) (by omega) _ _ O ls (lv_sub hl [2, 3, 1, 0] rfl)
  exact L4 6 0 (by omega) _ _ O ls (lv_sub hl [2, 3, 1, 0] rfl)
abbrev rX0_joined : Room := { frames := 0, cells := 0, slots := 0, locals := 0 }
set_option maxHeartbeats 4000000 in
set_option maxRecDepth 100000 in
/-- sum or greatest -/
theorem zX_joined (l : Launch) (D : va_G) (dA : ClassId) (h0 : Nat) (a : Nat → Nat) (g co wy ah pl tr : Nat → Nat) (k x y : Nat) (hk : k < 5) (hx : x < 1000000) (hy : y < 1000000) : zw_Ci l D dA yX0_joined cX0_joined 4 (some .int) rX0_joined 0 h0 [.int (nI k), .int (nI x), .int (nI y)] (fX a) (sX a g co wy ah pl tr) (fun r fs as => r = nI (zp_jn k x y) ∧ fs = fX a ∧ as = sX a g co wy ah pl tr) := by
  refine zw_Ci.mk (ty := .int) (own := RX0) (lv0 := [(0, .ref h0), (1, .int (nI k)), (2, .int (nI x)), (3, .int (nI y))]) rfl rfl (by decide +kernel) (Nat.le_of_ble_eq_true rfl) rfl ?_
  intro p e s m args below meth c A Q X RET ls hl O
  refine lv_iload_n X.1 X.2.1 dX0_joined_0 rfl (lv_at hl 1 rfl) ?_
  refine lv_iconst (v := nI 3) X.1 X.2.1 dX0_joined_1 (by decide) ?_
  refine zw_icmp_lt (tgt := 9) X (by omega) (by decide) dX0_joined_2 (by decide) (fun cb => ?_) (fun cb => ?_)
  · refine lv_iload_n X.1 X.2.1 dX0_joined_9 rfl (lv_at hl 2 rfl) ?_
    refine lv_iload_n X.1 X.2.1 dX0_joined_10 rfl (lv_at hl 3 rfl) ?_
    refine zw_icmp_le (tgt := 18) X (by omega) (by omega) dX0_joined_11 (by decide) (fun c2 => ?_) (fun c2 => ?_)
    · refine lv_iload_n X.1 X.2.1 dX0_joined_18 rfl (lv_at hl 3 rfl) ?_
      exact RET _ _ _ _ _ _ _ O ⟨by unfold zp_jn; rw [if_neg (by omega), Nat.max_eq_right c2], rfl, rfl⟩ rfl dX0_joined_19
    · refine lv_iload_n X.1 X.2.1 dX0_joined_14 rfl (lv_at hl 2 rfl) ?_
      refine lv_goto (tgt := 19) X.1 X.2.1 dX0_joined_15 (by decide) ?_
      exact RET _ _ _ _ _ _ _ O ⟨by unfold zp_jn; rw [if_neg (by omega), Nat.max_eq_left (Nat.le_of_lt c2)], rfl, rfl⟩ rfl dX0_joined_19
  · refine lv_iload_n X.1 X.2.1 dX0_joined_5 rfl (lv_at hl 2 rfl) ?_
    refine lv_iload_n X.1 X.2.1 dX0_joined_6 rfl (lv_at hl 3 rfl) ?_
    refine zw_add X dX0_joined_7 ?_
    exact RET _ _ _ _ _ _ _ O ⟨by unfold zp_jn; rw [if_pos cb], rfl, rfl⟩ rfl dX0_joined_8
abbrev rX0_cutOf : Room := { frames := 1, cells := 0, slots := 0, locals := 23 }
set_option maxHeartbeats 4000000 in
set_option maxRecDepth 100000 in
/-- the lines from a set to the others -/
theorem zX_cutOf (l : Launch) (D : va_G) (dA : ClassId) (h0 : Nat) (a : Nat → Nat) (g co wy ah pl tr : Nat → Nat) (hg : ∀ p, p < 6 → g p < 64) (S : Nat) (hS : S < 64) : zw_Ci l D dA yX0_cutOf cX0_cutOf 5 (some .int) rX0_cutOf 0 h0 [.int (nI S)] (fX a) (sX a g co wy ah pl tr) (fun r fs as => r = nI (zp_cut g S) ∧ fs = fX a ∧ as = sX a g co wy ah pl tr) := by
  refine zw_Ci.mk (ty := .int) (own := RX0) (lv0 := [(0, .ref h0), (1, .int (nI S))]) rfl rfl (by decide +kernel) (Nat.le_of_ble_eq_true rfl) rfl ?_
  intro p e s m args below meth c A Q X RET ls hl O
  refine lv_iconst (v := nI 0) X.1 X.2.1 dX0_cutOf_0 (by decide) ?_
  refine lv_istore_n (lv' := [(2, .int (nI 0)), (0, .ref h0), (1, .int (nI S))]) X.1 X.2.1 dX0_cutOf_1 rfl hl (by decide) rfl (fun ls hl => ?_)
  refine lv_iconst (v := nI 0) X.1 X.2.1 dX0_cutOf_2 (by decide) ?_
  refine lv_istore_n (lv' := [(3, .int (nI 0)), (2, .int (nI 0)), (0, .ref h0), (1, .int (nI S))]) X.1 X.2.1 dX0_cutOf_3 rfl hl (by decide) rfl (fun ls hl => ?_)
  have L4 : ∀ (n : Nat) (i : Nat), (i + n = 6) → ∀ (H : Heap) (locs : List Loc), zw_O D dA A s H locs 0 h0 (fX a) (sX a g co wy ah pl tr) → ∀ (ls : Array Slot), lv_has ls 5 [(0, .ref h0), (1, .int (nI S)), (2, .int (nI (zp_sm (fun p => if S.testBit p = true then zp_pop (zp_sd (g p) S) else 0) i))), (3, .int (nI i))] → W p l e rX0_cutOf s m args below meth c H locs 0 0 Q (F0 m 4 ls []) := by
    intro n
    induction n with
    | zero =>
      intro i hi H locs O ls hl
      refine lv_iload_n X.1 X.2.1 dX0_cutOf_4 rfl (lv_at hl 3 rfl) ?_
      refine lv_bipush (v := nI 6) X.1 X.2.1 dX0_cutOf_5 (by decide) ?_
      refine zw_icmp_ge (tgt := 46) X (by omega) (by decide) dX0_cutOf_7 (by decide) (fun cb => ?_) (fun cb => ?_)
      · refine lv_iload_n X.1 X.2.1 dX0_cutOf_46 rfl (lv_at hl 2 rfl) ?_
        exact RET _ _ _ _ _ _ _ O ⟨by rw [show i = 6 by omega]; rfl, rfl, rfl⟩ rfl dX0_cutOf_47
      · exact absurd cb (by omega)
    | succ n ih =>
      intro i hi H locs O ls hl
      refine lv_iload_n X.1 X.2.1 dX0_cutOf_4 rfl (lv_at hl 3 rfl) ?_
      refine lv_bipush (v := nI 6) X.1 X.2.1 dX0_cutOf_5 (by decide) ?_
      refine zw_icmp_ge (tgt := 46) X (by omega) (by decide) dX0_cutOf_7 (by decide) (fun cb => ?_) (fun cb => ?_)
      · exact absurd cb (by omega)
      · refine lv_iload_n X.1 X.2.1 dX0_cutOf_10 rfl (lv_at hl 1 rfl) ?_
        refine lv_iload_n X.1 X.2.1 dX0_cutOf_11 rfl (lv_at hl 3 rfl) ?_
        refine zw_bit X hS (by omega) dX0_cutOf_12 dX0_cutOf_13 dX0_cutOf_14 ?_
        refine zw_tbne (tgt := 40) X dX0_cutOf_15 dX0_cutOf_16 (by decide) (fun c2 => ?_) (fun c2 => ?_)
        · have e1 : zp_sm (fun p => if S.testBit p = true then zp_pop (zp_sd (g p) S) else 0) i = zp_sm (fun p => if S.testBit p = true then zp_pop (zp_sd (g p) S) else 0) (i + 1) := by
            show _ = zp_sm (fun p => if S.testBit p = true then zp_pop (zp_sd (g p) S) else 0) i + (if S.testBit i = true then zp_pop (zp_sd (g i) S) else 0)
            rw [if_neg (by rw [c2]; decide)]; rfl
          rw [e1] at hl
          refine lv_iinc (v := nI (i + 1)) (lv' := [(3, .int (nI (i + 1))), (0, .ref h0), (1, .int (nI S)), (2, .int (nI (zp_sm (fun p => if S.testBit p = true then zp_pop (zp_sd (g p) S) else 0) (i + 1))))]) X.1 X.2.1 dX0_cutOf_40 hl (k := 3) rfl (zi_inc _) (by decide) rfl (fun ls hl => ?_)
          refine lv_goto (tgt := 4) X.1 X.2.1 dX0_cutOf_43 (by decide) ?_
          exact ih (i + 1) (by omega) _ _ O ls (lv_sub hl [1, 2, 3, 0] rfl)
        · refine lv_aload_n X.1 X.2.1 dX0_cutOf_19 rfl (lv_at hl 0 rfl) ?_
          refine zx_f X O hl 0 rfl 0 (by decide) q41 rfl dX0_cutOf_20 dX0_cutOf_21 ?_
          refine lv_iload_n X.1 X.2.1 dX0_cutOf_24 rfl (lv_at hl 3 rfl) ?_
          refine zw_ld X O 0 rfl (by omega) (by decide) dX0_cutOf_25 ?_
          refine lv_iload_n X.1 X.2.1 dX0_cutOf_26 rfl (lv_at hl 1 rfl) ?_
          refine zw_sdn X (hg _ (by omega)) hS dX0_cutOf_27 dX0_cutOf_28 dX0_cutOf_29 ?_
          refine zw_calli X O (zX_sizeOf l D dA h0 a g co wy ah pl tr (zp_sd (g i) S) (zp_sd_lt (hg i cb))) rfl 1 (lw_V q81 q83 qs2 q31 q84) rfl rfl (by decide +kernel) ⟨Nat.le_of_ble_eq_true rfl, Nat.le_of_ble_eq_true rfl⟩ rfl hl.1 rfl (Nat.le_of_ble_eq_true rfl) dX0_cutOf_30 ⟨Nat.zero_le _, Nat.zero_le _⟩ (fun r fs' as' H locs hp O => ?_)
          obtain ⟨rfl, rfl, rfl⟩ := hp
          refine lv_istore (lv' := [(4, .int (nI (zp_pop (zp_sd (g i) S)))), (0, .ref h0), (1, .int (nI S)), (2, .int (nI (zp_sm (fun p => if S.testBit p = true then zp_pop (zp_sd (g p) S) else 0) i))), (3, .int (nI i))]) X.1 X.2.1 dX0_cutOf_33 hl (by decide) rfl (fun ls hl => ?_)
          refine lv_iload_n X.1 X.2.1 dX0_cutOf_35 rfl (lv_at hl 3 rfl) ?_
          refine lv_iload X.1 X.2.1 dX0_cutOf_36 (lv_at hl 0 rfl) ?_
          refine zw_add X dX0_cutOf_38 ?_
          have e1 : zp_sm (fun p => if S.testBit p = true then zp_pop (zp_sd (g p) S) else 0) i + zp_pop (zp_sd (g i) S) = zp_sm (fun p => if S.testBit p = true then zp_pop (zp_sd (g p) S) else 0) (i + 1) := by
            show _ = zp_sm (fun p => if S.testBit p = true then zp_pop (zp_sd (g p) S) else 0) i + (if S.testBit i = true then zp_pop (zp_sd (g i) S) else 0)
            rw [if_pos c2]
          refine zw_topn (zp_sm (fun p => if S.testBit p = true then zp_pop (zp_sd (g p) S) else 0) (i + 1)) e1 ?_
          refine lv_istore_n (lv' := [(2, .int (nI (zp_sm (fun p => if S.testBit p = true then zp_pop (zp_sd (g p) S) else 0) (i + 1)))), (4, .int (nI (zp_pop (zp_sd (g i) S)))), (0, .ref h0), (1, .int (nI S)), (3, .int (nI i))]) X.1 X.2.1 dX0_cutOf_39 rfl hl (by decide) rfl (fun ls hl => ?_)
          refine lv_iinc (v := nI (i + 1)) (lv' := [(3, .int (nI (i + 1))), (2, .int (nI (zp_sm (fun p => if S.testBit p = true then zp_pop (zp_sd (g p) S) else 0) (i + 1)))), (4, .int (nI (zp_pop (zp_sd (g i) S)))), (0, .ref h0), (1, .int (nI S))]) X.1 X.2.1 dX0_cutOf_40 hl (k := 4) rfl (zi_inc _) (by decide) rfl (fun ls hl => ?_)
          refine lv_goto (tgt := 4) X.1 X.2.1 dX0_cutOf_43 (by decide) ?_
          exact ih (i + 1) (by omega) _ _ O ls (lv_sub hl [3, 4, 1, 0] rfl)
  exact L4 6 0 (by omega) _ _ O ls (lv_sub hl [2, 3, 1, 0] rfl)
abbrev rX0_separationOf : Room := { frames := 0, cells := 0, slots := 0, locals := 0 }
set_option maxHeartbeats 4000000 in
set_option maxRecDepth 100000 in
/-- the points of a set with lines to others -/
theorem zX_separationOf (l : Launch) (D : va_G) (dA : ClassId) (h0 : Nat) (a : Nat → Nat) (g co wy ah pl tr : Nat → Nat) (hg : ∀ p, p < 6 → g p < 64) (S : Nat) (hS : S < 64) : zw_Ci l D dA yX0_separationOf cX0_separationOf 4 (some .int) rX0_separationOf 0 h0 [.int (nI S)] (fX a) (sX a g co wy ah pl tr) (fun r fs as => r = nI (zp_sep g S) ∧ fs = fX a ∧ as = sX a g co wy ah pl tr) := by
  refine zw_Ci.mk (ty := .int) (own := RX0) (lv0 := [(0, .ref h0), (1, .int (nI S))]) rfl rfl (by decide +kernel) (Nat.le_of_ble_eq_true rfl) rfl ?_
  intro p e s m args below meth c A Q X RET ls hl O
  refine lv_iconst (v := nI 0) X.1 X.2.1 dX0_separationOf_0 (by decide) ?_
  refine lv_istore_n (lv' := [(2, .int (nI 0)), (0, .ref h0), (1, .int (nI S))]) X.1 X.2.1 dX0_separationOf_1 rfl hl (by decide) rfl (fun ls hl => ?_)
  refine lv_iconst (v := nI 0) X.1 X.2.1 dX0_separationOf_2 (by decide) ?_
  refine lv_istore_n (lv' := [(3, .int (nI 0)), (2, .int (nI 0)), (0, .ref h0), (1, .int (nI S))]) X.1 X.2.1 dX0_separationOf_3 rfl hl (by decide) rfl (fun ls hl => ?_)
  have L4 : ∀ (n : Nat) (i : Nat), (i + n = 6) → ∀ (H : Heap) (locs : List Loc), zw_O D dA A s H locs 0 h0 (fX a) (sX a g co wy ah pl tr) → ∀ (ls : Array Slot), lv_has ls 4 [(0, .ref h0), (1, .int (nI S)), (2, .int (nI (zp_sm (fun p => if S.testBit p = true ∧ ¬ zp_sd (g p) S = 0 then 1 else 0) i))), (3, .int (nI i))] → W p l e rX0_separationOf s m args below meth c H locs 0 0 Q (F0 m 4 ls []) := by
    intro n
    induction n with
    | zero =>
      intro i hi H locs O ls hl
      refine lv_iload_n X.1 X.2.1 dX0_separationOf_4 rfl (lv_at hl 3 rfl) ?_
      refine lv_bipush (v := nI 6) X.1 X.2.1 dX0_separationOf_5 (by decide) ?_
      refine zw_icmp_ge (tgt := 41) X (by omega) (by decide) dX0_separationOf_7 (by decide) (fun cb => ?_) (fun cb => ?_)
      · refine lv_iload_n X.1 X.2.1 dX0_separationOf_41 rfl (lv_at hl 2 rfl) ?_
        exact RET _ _ _ _ _ _ _ O ⟨by rw [show i = 6 by omega]; rfl, rfl, rfl⟩ rfl dX0_separationOf_42
      · exact absurd cb (by omega)
    | succ n ih =>
      intro i hi H locs O ls hl
      refine lv_iload_n X.1 X.2.1 dX0_separationOf_4 rfl (lv_at hl 3 rfl) ?_
      refine lv_bipush (v := nI 6) X.1 X.2.1 dX0_separationOf_5 (by decide) ?_
      refine zw_icmp_ge (tgt := 41) X (by omega) (by decide) dX0_separationOf_7 (by decide) (fun cb => ?_) (fun cb => ?_)
      · exact absurd cb (by omega)
      · refine lv_iload_n X.1 X.2.1 dX0_separationOf_10 rfl (lv_at hl 1 rfl) ?_
        refine lv_iload_n X.1 X.2.1 dX0_separationOf_11 rfl (lv_at hl 3 rfl) ?_
        refine zw_bit X hS (by omega) dX0_separationOf_12 dX0_separationOf_13 dX0_separationOf_14 ?_
        refine zw_tbne (tgt := 35) X dX0_separationOf_15 dX0_separationOf_16 (by decide) (fun c2 => ?_) (fun c2 => ?_)
        · have e1 : zp_sm (fun p => if S.testBit p = true ∧ ¬ zp_sd (g p) S = 0 then 1 else 0) i = zp_sm (fun p => if S.testBit p = true ∧ ¬ zp_sd (g p) S = 0 then 1 else 0) (i + 1) := by
            show _ = zp_sm (fun p => if S.testBit p = true ∧ ¬ zp_sd (g p) S = 0 then 1 else 0) i + (if S.testBit i = true ∧ ¬ zp_sd (g i) S = 0 then 1 else 0)
            rw [if_neg (fun q => by rw [c2] at q; exact absurd q.1 (by decide))]; rfl
          rw [e1] at hl
          refine lv_iinc (v := nI (i + 1)) (lv' := [(3, .int (nI (i + 1))), (0, .ref h0), (1, .int (nI S)), (2, .int (nI (zp_sm (fun p => if S.testBit p = true ∧ ¬ zp_sd (g p) S = 0 then 1 else 0) (i + 1))))]) X.1 X.2.1 dX0_separationOf_35 hl (k := 3) rfl (zi_inc _) (by decide) rfl (fun ls hl => ?_)
          refine lv_goto (tgt := 4) X.1 X.2.1 dX0_separationOf_38 (by decide) ?_
          exact ih (i + 1) (by omega) _ _ O ls (lv_sub hl [1, 2, 3, 0] rfl)
        · refine zx_f X O hl 0 rfl 0 (by decide) q41 rfl dX0_separationOf_19 dX0_separationOf_20 ?_
          refine lv_iload_n X.1 X.2.1 dX0_separationOf_23 rfl (lv_at hl 3 rfl) ?_
          refine zw_ld X O 0 rfl (by omega) (by decide) dX0_separationOf_24 ?_
          refine lv_iload_n X.1 X.2.1 dX0_separationOf_25 rfl (lv_at hl 1 rfl) ?_
          refine zw_sdn X (hg _ (by omega)) hS dX0_separationOf_26 dX0_separationOf_27 dX0_separationOf_28 ?_
          refine zw_if_eq (tgt := 35) X (Nat.lt_trans (zp_sd_lt (hg _ (by omega))) (by decide)) dX0_separationOf_29 (by decide) (fun c3 => ?_) (fun c3 => ?_)
          · have e1 : zp_sm (fun p => if S.testBit p = true ∧ ¬ zp_sd (g p) S = 0 then 1 else 0) i = zp_sm (fun p => if S.testBit p = true ∧ ¬ zp_sd (g p) S = 0 then 1 else 0) (i + 1) := by
              show _ = zp_sm (fun p => if S.testBit p = true ∧ ¬ zp_sd (g p) S = 0 then 1 else 0) i + (if S.testBit i = true ∧ ¬ zp_sd (g i) S = 0 then 1 else 0)
              rw [if_neg (fun q => q.2 c3)]; rfl
            rw [e1] at hl
            refine lv_iinc (v := nI (i + 1)) (lv' := [(3, .int (nI (i + 1))), (0, .ref h0), (1, .int (nI S)), (2, .int (nI (zp_sm (fun p => if S.testBit p = true ∧ ¬ zp_sd (g p) S = 0 then 1 else 0) (i + 1))))]) X.1 X.2.1 dX0_separationOf_35 hl (k := 3) rfl (zi_inc _) (by decide) rfl (fun ls hl => ?_)
            refine lv_goto (tgt := 4) X.1 X.2.1 dX0_separationOf_38 (by decide) ?_
            exact ih (i + 1) (by omega) _ _ O ls (lv_sub hl [1, 2, 3, 0] rfl)
          · refine lv_iinc (v := nI ((zp_sm (fun p => if S.testBit p = true ∧ ¬ zp_sd (g p) S = 0 then 1 else 0) i) + 1)) (lv' := [(2, .int (nI ((zp_sm (fun p => if S.testBit p = true ∧ ¬ zp_sd (g p) S = 0 then 1 else 0) i) + 1))), (0, .ref h0), (1, .int (nI S)), (3, .int (nI i))]) X.1 X.2.1 dX0_separationOf_32 hl (k := 2) rfl (zi_inc _) (by decide) rfl (fun ls hl => ?_)
            have e1 : zp_sm (fun p => if S.testBit p = true ∧ ¬ zp_sd (g p) S = 0 then 1 else 0) i + 1 = zp_sm (fun p => if S.testBit p = true ∧ ¬ zp_sd (g p) S = 0 then 1 else 0) (i + 1) := by
              show _ = zp_sm (fun p => if S.testBit p = true ∧ ¬ zp_sd (g p) S = 0 then 1 else 0) i + (if S.testBit i = true ∧ ¬ zp_sd (g i) S = 0 then 1 else 0)
              rw [if_pos ⟨c2, c3⟩]
            rw [e1] at hl
            refine lv_iinc (v := nI (i + 1)) (lv' := [(3, .int (nI (i + 1))), (2, .int (nI (zp_sm (fun p => if S.testBit p = true ∧ ¬ zp_sd (g p) S = 0 then 1 else 0) (i + 1)))), (0, .ref h0), (1, .int (nI S))]) X.1 X.2.1 dX0_separationOf_35 hl (k := 3) rfl (zi_inc _) (by decide) rfl (fun ls hl => ?_)
            refine lv_goto (tgt := 4) X.1 X.2.1 dX0_separationOf_38 (by decide) ?_
            exact ih (i + 1) (by omega) _ _ O ls (lv_sub hl [2, 3, 1, 0] rfl)
  exact L4 6 0 (by omega) _ _ O ls (lv_sub hl [2, 3, 1, 0] rfl)
abbrev rX0_neighbours : Room := { frames := 0, cells := 0, slots := 0, locals := 0 }
set_option maxHeartbeats 4000000 in
set_option maxRecDepth 100000 in
/-- the points outside to which a way over points of the set leads -/
theorem zX_neighbours (l : Launch) (D : va_G) (dA : ClassId) (h0 : Nat) (a : Nat → Nat) (g co wy ah pl tr : Nat → Nat) (hg : ∀ p, p < 6 → g p < 64) (E u : Nat) (hE : E < 64) (hu : u < 6) : zw_Ci l D dA yX0_neighbours cX0_neighbours 7 (some .int) rX0_neighbours 0 h0 [.int (nI E), .int (nI u)] (fX a) (sX a g co wy ah pl tr) (fun r fs as => r = nI (zp_nbr g E u) ∧ fs = fX a ∧ as = sX a g co wy ah pl tr) := by
  refine zw_Ci.mk (ty := .int) (own := RX0) (lv0 := [(0, .ref h0), (1, .int (nI E)), (2, .int (nI u))]) rfl rfl (by decide +kernel) (Nat.le_of_ble_eq_true rfl) rfl ?_
  intro p e s m args below meth c A Q X RET ls hl O
  refine lv_iconst (v := nI 1) X.1 X.2.1 dX0_neighbours_0 (by decide) ?_
  refine lv_iload_n X.1 X.2.1 dX0_neighbours_1 rfl (lv_at hl 2 rfl) ?_
  refine zw_shl X hu dX0_neighbours_2 ?_
  refine lv_istore_n (lv' := [(3, .int (nI (2 ^ u))), (0, .ref h0), (1, .int (nI E)), (2, .int (nI u))]) X.1 X.2.1 dX0_neighbours_3 rfl hl (by decide) rfl (fun ls hl => ?_)
  refine lv_iconst (v := nI 0) X.1 X.2.1 dX0_neighbours_4 (by decide) ?_
  refine lv_istore (lv' := [(4, .int (nI 0)), (3, .int (nI (2 ^ u))), (0, .ref h0), (1, .int (nI E)), (2, .int (nI u))]) X.1 X.2.1 dX0_neighbours_5 hl (by decide) rfl (fun ls hl => ?_)
  have L7 : ∀ (n : Nat) (i : Nat), (i + n = 6) → ∀ (H : Heap) (locs : List Loc), zw_O D dA A s H locs 0 h0 (fX a) (sX a g co wy ah pl tr) → ∀ (ls : Array Slot), lv_has ls 7 [(0, .ref h0), (1, .int (nI E)), (2, .int (nI u)), (3, .int (nI (zp_it (zp_rnd g E u) (2 ^ u) i))), (4, .int (nI i))] → W p l e rX0_neighbours s m args below meth c H locs 0 0 Q (F0 m 7 ls []) := by
    intro n
    induction n with
    | zero =>
      intro i hi H locs O ls hl
      refine lv_iload X.1 X.2.1 dX0_neighbours_7 (lv_at hl 4 rfl) ?_
      refine lv_bipush (v := nI 6) X.1 X.2.1 dX0_neighbours_9 (by decide) ?_
      refine zw_icmp_ge (tgt := 82) X (by omega) (by decide) dX0_neighbours_11 (by decide) (fun cb => ?_) (fun cb => ?_)
      · refine lv_iload_n X.1 X.2.1 dX0_neighbours_82 rfl (lv_at hl 3 rfl) ?_
        refine lv_iload_n X.1 X.2.1 dX0_neighbours_83 rfl (lv_at hl 1 rfl) ?_
        refine zw_sdn X (zp_itr_lt hg hu i) hE dX0_neighbours_84 dX0_neighbours_85 dX0_neighbours_86 ?_
        refine lv_iconst (v := nI 1) X.1 X.2.1 dX0_neighbours_87 (by decide) ?_
        refine lv_iload_n X.1 X.2.1 dX0_neighbours_88 rfl (lv_at hl 2 rfl) ?_
        refine zw_shl X hu dX0_neighbours_89 ?_
        refine zw_sdn X (zp_sd_lt (zp_itr_lt hg hu i)) (zp_pw_lt _ hu) dX0_neighbours_90 dX0_neighbours_91 dX0_neighbours_92 ?_
        exact RET _ _ _ _ _ _ _ O ⟨by rw [show i = 6 by omega]; rfl, rfl, rfl⟩ rfl dX0_neighbours_93
      · exact absurd cb (by omega)
    | succ n ih =>
      intro i hi H locs O ls hl
      refine lv_iload X.1 X.2.1 dX0_neighbours_7 (lv_at hl 4 rfl) ?_
      refine lv_bipush (v := nI 6) X.1 X.2.1 dX0_neighbours_9 (by decide) ?_
      refine zw_icmp_ge (tgt := 82) X (by omega) (by decide) dX0_neighbours_11 (by decide) (fun cb => ?_) (fun cb => ?_)
      · exact absurd cb (by omega)
      · refine lv_iconst (v := nI 0) X.1 X.2.1 dX0_neighbours_14 (by decide) ?_
        refine lv_istore (lv' := [(5, .int (nI 0)), (0, .ref h0), (1, .int (nI E)), (2, .int (nI u)), (3, .int (nI (zp_it (zp_rnd g E u) (2 ^ u) i))), (4, .int (nI i))]) X.1 X.2.1 dX0_neighbours_15 hl (by decide) rfl (fun ls hl => ?_)
        refine lv_iconst (v := nI 0) X.1 X.2.1 dX0_neighbours_17 (by decide) ?_
        refine lv_istore (lv' := [(6, .int (nI 0)), (5, .int (nI 0)), (0, .ref h0), (1, .int (nI E)), (2, .int (nI u)), (3, .int (nI (zp_it (zp_rnd g E u) (2 ^ u) i))), (4, .int (nI i))]) X.1 X.2.1 dX0_neighbours_18 hl (by decide) rfl (fun ls hl => ?_)
        have L20 : ∀ (n : Nat) (j : Nat), (j + n = 6) → ∀ (H : Heap) (locs : List Loc), zw_O D dA A s H locs 0 h0 (fX a) (sX a g co wy ah pl tr) → ∀ (ls : Array Slot), lv_has ls 7 [(0, .ref h0), (1, .int (nI E)), (2, .int (nI u)), (3, .int (nI (zp_it (zp_rnd g E u) (2 ^ u) i))), (4, .int (nI i)), (5, .int (nI (zp_om (zp_stp g E u (zp_it (zp_rnd g E u) (2 ^ u) i)) j))), (6, .int (nI j))] → W p l e rX0_neighbours s m args below meth c H locs 0 0 Q (F0 m 20 ls []) := by
          intro n
          induction n with
          | zero =>
            intro j hj H locs O ls hl
            refine lv_iload X.1 X.2.1 dX0_neighbours_20 (lv_at hl 6 rfl) ?_
            refine lv_bipush (v := nI 6) X.1 X.2.1 dX0_neighbours_22 (by decide) ?_
            refine zw_icmp_ge (tgt := 71) X (by omega) (by decide) dX0_neighbours_24 (by decide) (fun d => ?_) (fun d => ?_)
            · refine lv_iload_n X.1 X.2.1 dX0_neighbours_71 rfl (lv_at hl 3 rfl) ?_
              refine lv_iload X.1 X.2.1 dX0_neighbours_72 (lv_at hl 5 rfl) ?_
              refine zw_or X dX0_neighbours_74 ?_
              have e2 : (zp_it (zp_rnd g E u) (2 ^ u) i) ||| (zp_om (zp_stp g E u (zp_it (zp_rnd g E u) (2 ^ u) i)) j) = zp_it (zp_rnd g E u) (2 ^ u) (i + 1) := by rw [show j = 6 by omega]; rfl
              refine zw_topn (zp_it (zp_rnd g E u) (2 ^ u) (i + 1)) e2 ?_
              refine lv_istore_n (lv' := [(3, .int (nI (zp_it (zp_rnd g E u) (2 ^ u) (i + 1)))), (0, .ref h0), (1, .int (nI E)), (2, .int (nI u)), (4, .int (nI i)), (5, .int (nI (zp_om (zp_stp g E u (zp_it (zp_rnd g E u) (2 ^ u) i)) j))), (6, .int (nI j))]) X.1 X.2.1 dX0_neighbours_75 rfl hl (by decide) rfl (fun ls hl => ?_)
              refine lv_iinc (v := nI (i + 1)) (lv' := [(4, .int (nI (i + 1))), (3, .int (nI (zp_it (zp_rnd g E u) (2 ^ u) (i + 1)))), (0, .ref h0), (1, .int (nI E)), (2, .int (nI u)), (5, .int (nI (zp_om (zp_stp g E u (zp_it (zp_rnd g E u) (2 ^ u) i)) j))), (6, .int (nI j))]) X.1 X.2.1 dX0_neighbours_76 hl (k := 4) rfl (zi_inc _) (by decide) rfl (fun ls hl => ?_)
              refine lv_goto (tgt := 7) X.1 X.2.1 dX0_neighbours_79 (by decide) ?_
              exact ih (i + 1) (by omega) _ _ O ls (lv_sub hl [2, 3, 4, 1, 0] rfl)
            · exact absurd d (by omega)
          | succ n ih =>
            intro j hj H locs O ls hl
            have ih2 := ih
            refine lv_iload X.1 X.2.1 dX0_neighbours_20 (lv_at hl 6 rfl) ?_
            refine lv_bipush (v := nI 6) X.1 X.2.1 dX0_neighbours_22 (by decide) ?_
            refine zw_icmp_ge (tgt := 71) X (by omega) (by decide) dX0_neighbours_24 (by decide) (fun d => ?_) (fun d => ?_)
            · exact absurd d (by omega)
            · refine lv_iload_n X.1 X.2.1 dX0_neighbours_27 rfl (lv_at hl 3 rfl) ?_
              refine lv_iload X.1 X.2.1 dX0_neighbours_28 (lv_at hl 6 rfl) ?_
              refine zw_bit X (zp_itr_lt hg hu i) (by omega) dX0_neighbours_30 dX0_neighbours_31 dX0_neighbours_32 ?_
              refine zw_tbne (tgt := 65) X dX0_neighbours_33 dX0_neighbours_34 (by decide) (fun c2 => ?_) (fun c2 => ?_)
              · have e1 : zp_om (zp_stp g E u (zp_it (zp_rnd g E u) (2 ^ u) i)) j = zp_om (zp_stp g E u (zp_it (zp_rnd g E u) (2 ^ u) i)) (j + 1) := by
                  show _ = zp_om (zp_stp g E u (zp_it (zp_rnd g E u) (2 ^ u) i)) j ||| zp_stp g E u (zp_it (zp_rnd g E u) (2 ^ u) i) j
                  unfold zp_stp; rw [if_neg (fun q => by rw [c2] at q; exact absurd q.1 (by decide)), Nat.or_zero]
                rw [e1] at hl
                refine lv_iinc (v := nI (j + 1)) (lv' := [(6, .int (nI (j + 1))), (0, .ref h0), (1, .int (nI E)), (2, .int (nI u)), (3, .int (nI (zp_it (zp_rnd g E u) (2 ^ u) i))), (4, .int (nI i)), (5, .int (nI (zp_om (zp_stp g E u (zp_it (zp_rnd g E u) (2 ^ u) i)) (j + 1))))]) X.1 X.2.1 dX0_neighbours_65 hl (k := 6) rfl (zi_inc _) (by decide) rfl (fun ls hl => ?_)
                refine lv_goto (tgt := 20) X.1 X.2.1 dX0_neighbours_68 (by decide) ?_
                exact ih2 (j + 1) (by omega) _ _ O ls (lv_sub hl [1, 2, 3, 4, 5, 6, 0] rfl)
              · refine lv_iload X.1 X.2.1 dX0_neighbours_37 (lv_at hl 6 rfl) ?_
                refine lv_iload_n X.1 X.2.1 dX0_neighbours_39 rfl (lv_at hl 2 rfl) ?_
                refine zw_icmp_eq (tgt := 53) X (by omega) (Nat.lt_trans hu (by decide)) dX0_neighbours_40 (by decide) (fun c3 => ?_) (fun c3 => ?_)
                · refine lv_iload X.1 X.2.1 dX0_neighbours_53 (lv_at hl 5 rfl) ?_
                  refine zx_f X O hl 0 rfl 0 (by decide) q41 rfl dX0_neighbours_55 dX0_neighbours_56 ?_
                  refine lv_iload X.1 X.2.1 dX0_neighbours_59 (lv_at hl 6 rfl) ?_
                  refine zw_ld X O 0 rfl (by omega) (by decide) dX0_neighbours_61 ?_
                  refine zw_or X dX0_neighbours_62 ?_
                  have e1 : (zp_om (zp_stp g E u (zp_it (zp_rnd g E u) (2 ^ u) i)) j) ||| (g j) = zp_om (zp_stp g E u (zp_it (zp_rnd g E u) (2 ^ u) i)) (j + 1) := by
                    show _ = zp_om (zp_stp g E u (zp_it (zp_rnd g E u) (2 ^ u) i)) j ||| zp_stp g E u (zp_it (zp_rnd g E u) (2 ^ u) i) j
                    unfold zp_stp; rw [if_pos ⟨c2, Or.inl c3⟩]
                  refine zw_topn (zp_om (zp_stp g E u (zp_it (zp_rnd g E u) (2 ^ u) i)) (j + 1)) e1 ?_
                  refine lv_istore (lv' := [(5, .int (nI (zp_om (zp_stp g E u (zp_it (zp_rnd g E u) (2 ^ u) i)) (j + 1)))), (0, .ref h0), (1, .int (nI E)), (2, .int (nI u)), (3, .int (nI (zp_it (zp_rnd g E u) (2 ^ u) i))), (4, .int (nI i)), (6, .int (nI j))]) X.1 X.2.1 dX0_neighbours_63 hl (by decide) rfl (fun ls hl => ?_)
                  refine lv_iinc (v := nI (j + 1)) (lv' := [(6, .int (nI (j + 1))), (5, .int (nI (zp_om (zp_stp g E u (zp_it (zp_rnd g E u) (2 ^ u) i)) (j + 1)))), (0, .ref h0), (1, .int (nI E)), (2, .int (nI u)), (3, .int (nI (zp_it (zp_rnd g E u) (2 ^ u) i))), (4, .int (nI i))]) X.1 X.2.1 dX0_neighbours_65 hl (k := 6) rfl (zi_inc _) (by decide) rfl (fun ls hl => ?_)
                  refine lv_goto (tgt := 20) X.1 X.2.1 dX0_neighbours_68 (by decide) ?_
                  exact ih2 (j + 1) (by omega) _ _ O ls (lv_sub hl [2, 3, 4, 5, 6, 1, 0] rfl)
                · refine lv_iload_n X.1 X.2.1 dX0_neighbours_43 rfl (lv_at hl 1 rfl) ?_
                  refine lv_iload X.1 X.2.1 dX0_neighbours_44 (lv_at hl 6 rfl) ?_
                  refine zw_bit X hE (by omega) dX0_neighbours_46 dX0_neighbours_47 dX0_neighbours_48 ?_
                  refine zw_tbne (tgt := 65) X dX0_neighbours_49 dX0_neighbours_50 (by decide) (fun c4 => ?_) (fun c4 => ?_)
                  · have e1 : zp_om (zp_stp g E u (zp_it (zp_rnd g E u) (2 ^ u) i)) j = zp_om (zp_stp g E u (zp_it (zp_rnd g E u) (2 ^ u) i)) (j + 1) := by
                      show _ = zp_om (zp_stp g E u (zp_it (zp_rnd g E u) (2 ^ u) i)) j ||| zp_stp g E u (zp_it (zp_rnd g E u) (2 ^ u) i) j
                      unfold zp_stp; rw [if_neg (fun q => by rcases q.2 with q | q; exact c3 q; rw [c4] at q; exact absurd q (by decide)), Nat.or_zero]
                    rw [e1] at hl
                    refine lv_iinc (v := nI (j + 1)) (lv' := [(6, .int (nI (j + 1))), (0, .ref h0), (1, .int (nI E)), (2, .int (nI u)), (3, .int (nI (zp_it (zp_rnd g E u) (2 ^ u) i))), (4, .int (nI i)), (5, .int (nI (zp_om (zp_stp g E u (zp_it (zp_rnd g E u) (2 ^ u) i)) (j + 1))))]) X.1 X.2.1 dX0_neighbours_65 hl (k := 6) rfl (zi_inc _) (by decide) rfl (fun ls hl => ?_)
                    refine lv_goto (tgt := 20) X.1 X.2.1 dX0_neighbours_68 (by decide) ?_
                    exact ih2 (j + 1) (by omega) _ _ O ls (lv_sub hl [1, 2, 3, 4, 5, 6, 0] rfl)
                  · refine lv_iload X.1 X.2.1 dX0_neighbours_53 (lv_at hl 5 rfl) ?_
                    refine zx_f X O hl 0 rfl 0 (by decide) q41 rfl dX0_neighbours_55 dX0_neighbours_56 ?_
                    refine lv_iload X.1 X.2.1 dX0_neighbours_59 (lv_at hl 6 rfl) ?_
                    refine zw_ld X O 0 rfl (by omega) (by decide) dX0_neighbours_61 ?_
                    refine zw_or X dX0_neighbours_62 ?_
                    have e1 : (zp_om (zp_stp g E u (zp_it (zp_rnd g E u) (2 ^ u) i)) j) ||| (g j) = zp_om (zp_stp g E u (zp_it (zp_rnd g E u) (2 ^ u) i)) (j + 1) := by
                      show _ = zp_om (zp_stp g E u (zp_it (zp_rnd g E u) (2 ^ u) i)) j ||| zp_stp g E u (zp_it (zp_rnd g E u) (2 ^ u) i) j
                      unfold zp_stp; rw [if_pos ⟨c2, Or.inr c4⟩]
                    refine zw_topn (zp_om (zp_stp g E u (zp_it (zp_rnd g E u) (2 ^ u) i)) (j + 1)) e1 ?_
                    refine lv_istore (lv' := [(5, .int (nI (zp_om (zp_stp g E u (zp_it (zp_rnd g E u) (2 ^ u) i)) (j + 1)))), (0, .ref h0), (1, .int (nI E)), (2, .int (nI u)), (3, .int (nI (zp_it (zp_rnd g E u) (2 ^ u) i))), (4, .int (nI i)), (6, .int (nI j))]) X.1 X.2.1 dX0_neighbours_63 hl (by decide) rfl (fun ls hl => ?_)
                    refine lv_iinc (v := nI (j + 1)) (lv' := [(6, .int (nI (j + 1))), (5, .int (nI (zp_om (zp_stp g E u (zp_it (zp_rnd g E u) (2 ^ u) i)) (j + 1)))), (0, .ref h0), (1, .int (nI E)), (2, .int (nI u)), (3, .int (nI (zp_it (zp_rnd g E u) (2 ^ u) i))), (4, .int (nI i))]) X.1 X.2.1 dX0_neighbours_65 hl (k := 6) rfl (zi_inc _) (by decide) rfl (fun ls hl => ?_)
                    refine lv_goto (tgt := 20) X.1 X.2.1 dX0_neighbours_68 (by decide) ?_
                    exact ih2 (j + 1) (by omega) _ _ O ls (lv_sub hl [2, 3, 4, 5, 6, 1, 0] rfl)
        exact L20 6 0 (by omega) _ _ O ls (lv_sub hl [2, 3, 4, 5, 6, 1, 0] rfl)
  exact L7 6 0 (by omega) _ _ O ls (lv_sub hl [2, 3, 4, 1, 0] rfl)
abbrev rX0_missing : Room := { frames := 1, cells := 0, slots := 0, locals := 26 }
set_option maxHeartbeats 4000000 in
set_option maxRecDepth 100000 in
/-- pairs of neighbours without a way -/
theorem zX_missing (l : Launch) (D : va_G) (dA : ClassId) (h0 : Nat) (a : Nat → Nat) (g co wy ah pl tr : Nat → Nat) (hg : ∀ p, p < 6 → g p < 64) (E u : Nat) (hE : E < 64) (hu : u < 6) : zw_Ci l D dA yX0_missing cX0_missing 8 (some .int) rX0_missing 0 h0 [.int (nI E), .int (nI u)] (fX a) (sX a g co wy ah pl tr) (fun r fs as => r = nI (zp_mis g E u) ∧ fs = fX a ∧ as = sX a g co wy ah pl tr) := by
  refine zw_Ci.mk (ty := .int) (own := RX0) (lv0 := [(0, .ref h0), (1, .int (nI E)), (2, .int (nI u))]) rfl rfl (by decide +kernel) (Nat.le_of_ble_eq_true rfl) rfl ?_
  intro p e s m args below meth c A Q X RET ls hl O
  refine lv_aload_n X.1 X.2.1 dX0_missing_0 rfl (lv_at hl 0 rfl) ?_
  refine lv_iload_n X.1 X.2.1 dX0_missing_1 rfl (lv_at hl 1 rfl) ?_
  refine lv_iload_n X.1 X.2.1 dX0_missing_2 rfl (lv_at hl 2 rfl) ?_
  refine zw_calli X O (zX_neighbours l D dA h0 a g co wy ah pl tr hg E u hE hu) rfl 2 (lw_V q110 q112 qs8 q31 q113) rfl rfl (by decide +kernel) ⟨Nat.le_of_ble_eq_true rfl, Nat.le_of_ble_eq_true rfl⟩ rfl hl.1 rfl (Nat.le_of_ble_eq_true rfl) dX0_missing_3 ⟨Nat.zero_le _, Nat.zero_le _⟩ (fun r fs' as' H locs hp O => ?_)
  obtain ⟨rfl, rfl, rfl⟩ := hp
  refine lv_istore_n (lv' := [(3, .int (nI (zp_nbr g E u))), (0, .ref h0), (1, .int (nI E)), (2, .int (nI u))]) X.1 X.2.1 dX0_missing_6 rfl hl (by decide) rfl (fun ls hl => ?_)
  refine lv_iconst (v := nI 0) X.1 X.2.1 dX0_missing_7 (by decide) ?_
  refine lv_istore (lv' := [(4, .int (nI 0)), (3, .int (nI (zp_nbr g E u))), (0, .ref h0), (1, .int (nI E)), (2, .int (nI u))]) X.1 X.2.1 dX0_missing_8 hl (by decide) rfl (fun ls hl => ?_)
  refine lv_iconst (v := nI 0) X.1 X.2.1 dX0_missing_10 (by decide) ?_
  refine lv_istore (lv' := [(5, .int (nI 0)), (4, .int (nI 0)), (3, .int (nI (zp_nbr g E u))), (0, .ref h0), (1, .int (nI E)), (2, .int (nI u))]) X.1 X.2.1 dX0_missing_11 hl (by decide) rfl (fun ls hl => ?_)
  have L13 : ∀ (n : Nat) (i : Nat), (i + n = 6) → ∀ (H : Heap) (locs : List Loc), zw_O D dA A s H locs 0 h0 (fX a) (sX a g co wy ah pl tr) → ∀ (ls : Array Slot), lv_has ls 8 [(0, .ref h0), (1, .int (nI E)), (2, .int (nI u)), (3, .int (nI (zp_nbr g E u))), (4, .int (nI (zp_sm (zp_mis1 g E (zp_nbr g E u)) i))), (5, .int (nI i))] → W p l e rX0_missing s m args below meth c H locs 0 0 Q (F0 m 13 ls []) := by
    intro n
    induction n with
    | zero =>
      intro i hi H locs O ls hl
      refine lv_iload X.1 X.2.1 dX0_missing_13 (lv_at hl 5 rfl) ?_
      refine lv_bipush (v := nI 6) X.1 X.2.1 dX0_missing_15 (by decide) ?_
      refine zw_icmp_ge (tgt := 71) X (by omega) (by decide) dX0_missing_17 (by decide) (fun cb => ?_) (fun cb => ?_)
      · have hb : zp_sm (zp_mis1 g E (zp_nbr g E u)) i < 2147483648 := by
          have := zp_sm_le (f := (zp_mis1 g E (zp_nbr g E u))) (b := 6) i (fun q _ => zp_mis1_le g E _ q)
          omega
        refine lv_iload X.1 X.2.1 dX0_missing_71 (lv_at hl 4 rfl) ?_
        refine lv_iconst (v := nI 2) X.1 X.2.1 dX0_missing_73 (by decide) ?_
        refine zw_div X hb (by omega) (by decide) dX0_missing_74 ?_
        exact RET _ _ _ _ _ _ _ O ⟨by rw [show i = 6 by omega]; rfl, rfl, rfl⟩ rfl dX0_missing_75
      · exact absurd cb (by omega)
    | succ n ih =>
      intro i hi H locs O ls hl
      refine lv_iload X.1 X.2.1 dX0_missing_13 (lv_at hl 5 rfl) ?_
      refine lv_bipush (v := nI 6) X.1 X.2.1 dX0_missing_15 (by decide) ?_
      refine zw_icmp_ge (tgt := 71) X (by omega) (by decide) dX0_missing_17 (by decide) (fun cb => ?_) (fun cb => ?_)
      · exact absurd cb (by omega)
      · refine lv_iload_n X.1 X.2.1 dX0_missing_20 rfl (lv_at hl 3 rfl) ?_
        refine lv_iload X.1 X.2.1 dX0_missing_21 (lv_at hl 5 rfl) ?_
        refine zw_bit X (zp_nbr_lt hg hu) (by omega) dX0_missing_23 dX0_missing_24 dX0_missing_25 ?_
        refine zw_tbne (tgt := 65) X dX0_missing_26 dX0_missing_27 (by decide) (fun c2 => ?_) (fun c2 => ?_)
        · have e1 : zp_sm (zp_mis1 g E (zp_nbr g E u)) i = zp_sm (zp_mis1 g E (zp_nbr g E u)) (i + 1) := by
            show _ = zp_sm (zp_mis1 g E (zp_nbr g E u)) i + zp_mis1 g E (zp_nbr g E u) i
            unfold zp_mis1; rw [if_neg (by rw [c2]; decide)]; rfl
          rw [e1] at hl
          refine lv_iinc (v := nI (i + 1)) (lv' := [(5, .int (nI (i + 1))), (0, .ref h0), (1, .int (nI E)), (2, .int (nI u)), (3, .int (nI (zp_nbr g E u))), (4, .int (nI (zp_sm (zp_mis1 g E (zp_nbr g E u)) (i + 1))))]) X.1 X.2.1 dX0_missing_65 hl (k := 5) rfl (zi_inc _) (by decide) rfl (fun ls hl => ?_)
          refine lv_goto (tgt := 13) X.1 X.2.1 dX0_missing_68 (by decide) ?_
          exact ih (i + 1) (by omega) _ _ O ls (lv_sub hl [1, 2, 3, 4, 5, 0] rfl)
        · refine lv_aload_n X.1 X.2.1 dX0_missing_30 rfl (lv_at hl 0 rfl) ?_
          refine lv_iload_n X.1 X.2.1 dX0_missing_31 rfl (lv_at hl 1 rfl) ?_
          refine lv_iload X.1 X.2.1 dX0_missing_32 (lv_at hl 5 rfl) ?_
          refine zw_calli X O (zX_neighbours l D dA h0 a g co wy ah pl tr hg E i hE cb) rfl 2 (lw_V q110 q112 qs8 q31 q113) rfl rfl (by decide +kernel) ⟨Nat.le_of_ble_eq_true rfl, Nat.le_of_ble_eq_true rfl⟩ rfl hl.1 rfl (Nat.le_of_ble_eq_true rfl) dX0_missing_34 ⟨Nat.zero_le _, Nat.zero_le _⟩ (fun r fs' as' H locs hp O => ?_)
          obtain ⟨rfl, rfl, rfl⟩ := hp
          refine lv_istore (lv' := [(6, .int (nI (zp_nbr g E i))), (0, .ref h0), (1, .int (nI E)), (2, .int (nI u)), (3, .int (nI (zp_nbr g E u))), (4, .int (nI (zp_sm (zp_mis1 g E (zp_nbr g E u)) i))), (5, .int (nI i))]) X.1 X.2.1 dX0_missing_37 hl (by decide) rfl (fun ls hl => ?_)
          refine lv_aload_n X.1 X.2.1 dX0_missing_39 rfl (lv_at hl 1 rfl) ?_
          refine lv_iload_n X.1 X.2.1 dX0_missing_40 rfl (lv_at hl 4 rfl) ?_
          refine lv_iload X.1 X.2.1 dX0_missing_41 (lv_at hl 0 rfl) ?_
          refine zw_sdn X (zp_nbr_lt hg hu) (zp_nbr_lt hg cb) dX0_missing_43 dX0_missing_44 dX0_missing_45 ?_
          refine lv_iconst (v := nI 1) X.1 X.2.1 dX0_missing_46 (by decide) ?_
          refine lv_iload X.1 X.2.1 dX0_missing_47 (lv_at hl 6 rfl) ?_
          refine zw_shl X (by omega) dX0_missing_49 ?_
          refine zw_sdn X (zp_sd_lt (zp_nbr_lt hg hu)) (zp_pw_lt _ (by omega)) dX0_missing_50 dX0_missing_51 dX0_missing_52 ?_
          refine zw_calli X O (zX_sizeOf l D dA h0 a g co wy ah pl tr (zp_sd (zp_sd (zp_nbr g E u) (zp_nbr g E i)) (2 ^ i)) (zp_sd_lt (zp_sd_lt (zp_nbr_lt hg hu)))) rfl 1 (lw_V q81 q83 qs2 q31 q84) rfl rfl (by decide +kernel) ⟨Nat.le_of_ble_eq_true rfl, Nat.le_of_ble_eq_true rfl⟩ rfl hl.1 rfl (Nat.le_of_ble_eq_true rfl) dX0_missing_53 ⟨Nat.zero_le _, Nat.zero_le _⟩ (fun r fs' as' H locs hp O => ?_)
          obtain ⟨rfl, rfl, rfl⟩ := hp
          refine lv_istore (lv' := [(7, .int (nI (zp_pop (zp_sd (zp_sd (zp_nbr g E u) (zp_nbr g E i)) (2 ^ i))))), (6, .int (nI (zp_nbr g E i))), (0, .ref h0), (1, .int (nI E)), (2, .int (nI u)), (3, .int (nI (zp_nbr g E u))), (4, .int (nI (zp_sm (zp_mis1 g E (zp_nbr g E u)) i))), (5, .int (nI i))]) X.1 X.2.1 dX0_missing_56 hl (by decide) rfl (fun ls hl => ?_)
          refine lv_iload X.1 X.2.1 dX0_missing_58 (lv_at hl 6 rfl) ?_
          refine lv_iload X.1 X.2.1 dX0_missing_60 (lv_at hl 0 rfl) ?_
          refine zw_add X dX0_missing_62 ?_
          have e1 : (zp_sm (zp_mis1 g E (zp_nbr g E u)) i) + (zp_pop (zp_sd (zp_sd (zp_nbr g E u) (zp_nbr g E i)) (2 ^ i))) = zp_sm (zp_mis1 g E (zp_nbr g E u)) (i + 1) := by
            show _ = zp_sm (zp_mis1 g E (zp_nbr g E u)) i + zp_mis1 g E (zp_nbr g E u) i
            unfold zp_mis1; rw [if_pos c2]
          refine zw_topn (zp_sm (zp_mis1 g E (zp_nbr g E u)) (i + 1)) e1 ?_
          refine lv_istore (lv' := [(4, .int (nI (zp_sm (zp_mis1 g E (zp_nbr g E u)) (i + 1)))), (7, .int (nI (zp_pop (zp_sd (zp_sd (zp_nbr g E u) (zp_nbr g E i)) (2 ^ i))))), (6, .int (nI (zp_nbr g E i))), (0, .ref h0), (1, .int (nI E)), (2, .int (nI u)), (3, .int (nI (zp_nbr g E u))), (5, .int (nI i))]) X.1 X.2.1 dX0_missing_63 hl (by decide) rfl (fun ls hl => ?_)
          refine lv_iinc (v := nI (i + 1)) (lv' := [(5, .int (nI (i + 1))), (4, .int (nI (zp_sm (zp_mis1 g E (zp_nbr g E u)) (i + 1)))), (7, .int (nI (zp_pop (zp_sd (zp_sd (zp_nbr g E u) (zp_nbr g E i)) (2 ^ i))))), (6, .int (nI (zp_nbr g E i))), (0, .ref h0), (1, .int (nI E)), (2, .int (nI u)), (3, .int (nI (zp_nbr g E u)))]) X.1 X.2.1 dX0_missing_65 hl (k := 7) rfl (zi_inc _) (by decide) rfl (fun ls hl => ?_)
          refine lv_goto (tgt := 13) X.1 X.2.1 dX0_missing_68 (by decide) ?_
          exact ih (i + 1) (by omega) _ _ O ls (lv_sub hl [4, 5, 6, 7, 1, 0] rfl)
  exact L13 6 0 (by omega) _ _ O ls (lv_sub hl [3, 4, 5, 2, 1, 0] rfl)
abbrev rX0_price : Room := { frames := 2, cells := 0, slots := 0, locals := 53 }
set_option maxHeartbeats 4000000 in
set_option maxRecDepth 100000 in
/-- what it costs to put u behind the points of E -/
theorem zX_price (l : Launch) (D : va_G) (dA : ClassId) (h0 : Nat) (a : Nat → Nat) (g co wy ah pl tr : Nat → Nat) (hg : ∀ p, p < 6 → g p < 64) (k E u : Nat) (hk : k < 5) (hE : E < 64) (hu : u < 6) : zw_Ci l D dA yX0_price cX0_price 6 (some .int) rX0_price 0 h0 [.int (nI k), .int (nI E), .int (nI u)] (fX a) (sX a g co wy ah pl tr) (fun r fs as => r = nI (zp_pr g k E u) ∧ fs = fX a ∧ as = sX a g co wy ah pl tr) := by
  refine zw_Ci.mk (ty := .int) (own := RX0) (lv0 := [(0, .ref h0), (1, .int (nI k)), (2, .int (nI E)), (3, .int (nI u))]) rfl rfl (by decide +kernel) (Nat.le_of_ble_eq_true rfl) rfl ?_
  intro p e s m args below meth c A Q X RET ls hl O
  refine lv_iload_n X.1 X.2.1 dX0_price_0 rfl (lv_at hl 2 rfl) ?_
  refine lv_iconst (v := nI 1) X.1 X.2.1 dX0_price_1 (by decide) ?_
  refine lv_iload_n X.1 X.2.1 dX0_price_2 rfl (lv_at hl 3 rfl) ?_
  refine zw_shl X hu dX0_price_3 ?_
  refine zw_or X dX0_price_4 ?_
  refine lv_istore (lv' := [(4, .int (nI (E ||| (2 ^ u)))), (0, .ref h0), (1, .int (nI k)), (2, .int (nI E)), (3, .int (nI u))]) X.1 X.2.1 dX0_price_5 hl (by decide) rfl (fun ls hl => ?_)
  refine lv_iload_n X.1 X.2.1 dX0_price_7 rfl (lv_at hl 2 rfl) ?_
  refine zw_if_eq (tgt := 16) X (by omega) dX0_price_8 (by decide) (fun c1 => ?_) (fun c1 => ?_)
  · refine lv_aload_n X.1 X.2.1 dX0_price_16 rfl (lv_at hl 1 rfl) ?_
    refine lv_iload X.1 X.2.1 dX0_price_17 (lv_at hl 0 rfl) ?_
    refine zw_calli X O (zX_cutOf l D dA h0 a g co wy ah pl tr hg (E ||| (2 ^ u)) (zp_or_lt hE (zp_pw_lt u hu))) rfl 1 (lw_V q102 q104 qs6 q31 q105) rfl rfl (by decide +kernel) ⟨Nat.le_of_ble_eq_true rfl, Nat.le_of_ble_eq_true rfl⟩ rfl hl.1 rfl (Nat.le_of_ble_eq_true rfl) dX0_price_19 ⟨Nat.zero_le _, Nat.zero_le _⟩ (fun r fs' as' H locs hp O => ?_)
    obtain ⟨rfl, rfl, rfl⟩ := hp
    exact RET _ _ _ _ _ _ _ O ⟨by unfold zp_pr; rw [if_pos (Or.inl c1)], rfl, rfl⟩ rfl dX0_price_22
  · refine lv_iload_n X.1 X.2.1 dX0_price_11 rfl (lv_at hl 2 rfl) ?_
    refine lv_iconst (v := nI 3) X.1 X.2.1 dX0_price_12 (by decide) ?_
    refine zw_icmp_ne (tgt := 23) X (by omega) (by decide) dX0_price_13 (by decide) (fun c2 => ?_) (fun c2 => ?_)
    · refine lv_iload_n X.1 X.2.1 dX0_price_23 rfl (lv_at hl 2 rfl) ?_
      refine lv_iconst (v := nI 1) X.1 X.2.1 dX0_price_24 (by decide) ?_
      refine zw_icmp_ne (tgt := 35) X (by omega) (by decide) dX0_price_25 (by decide) (fun c3 => ?_) (fun c3 => ?_)
      · refine lv_iload_n X.1 X.2.1 dX0_price_35 rfl (lv_at hl 2 rfl) ?_
        refine lv_iconst (v := nI 2) X.1 X.2.1 dX0_price_36 (by decide) ?_
        refine zw_icmp_ne (tgt := 55) X (by omega) (by decide) dX0_price_37 (by decide) (fun c4 => ?_) (fun c4 => ?_)
        · refine lv_aload_n X.1 X.2.1 dX0_price_55 rfl (lv_at hl 1 rfl) ?_
          refine lv_iload_n X.1 X.2.1 dX0_price_56 rfl (lv_at hl 3 rfl) ?_
          refine lv_iload_n X.1 X.2.1 dX0_price_57 rfl (lv_at hl 4 rfl) ?_
          refine zw_calli X O (zX_missing l D dA h0 a g co wy ah pl tr hg E u hE hu) rfl 2 (lw_V q114 q116 qs9 q31 q117) rfl rfl (by decide +kernel) ⟨Nat.le_of_ble_eq_true rfl, Nat.le_of_ble_eq_true rfl⟩ rfl hl.1 rfl (Nat.le_of_ble_eq_true rfl) dX0_price_58 ⟨Nat.zero_le _, Nat.zero_le _⟩ (fun r fs' as' H locs hp O => ?_)
          obtain ⟨rfl, rfl, rfl⟩ := hp
          exact RET _ _ _ _ _ _ _ O ⟨by unfold zp_pr; rw [if_neg (fun q => by rcases q with q | q; exact c1 q; exact c2 q), if_neg c3, if_neg c4], rfl, rfl⟩ rfl dX0_price_61
        · refine lv_aload_n X.1 X.2.1 dX0_price_40 rfl (lv_at hl 1 rfl) ?_
          refine lv_iload_n X.1 X.2.1 dX0_price_41 rfl (lv_at hl 3 rfl) ?_
          refine lv_iload_n X.1 X.2.1 dX0_price_42 rfl (lv_at hl 4 rfl) ?_
          refine zw_calli X O (zX_neighbours l D dA h0 a g co wy ah pl tr hg E u hE hu) rfl 2 (lw_V q110 q112 qs8 q31 q113) rfl rfl (by decide +kernel) ⟨Nat.le_of_ble_eq_true rfl, Nat.le_of_ble_eq_true rfl⟩ rfl hl.1 rfl (Nat.le_of_ble_eq_true rfl) dX0_price_43 ⟨Nat.zero_le _, Nat.zero_le _⟩ (fun r fs' as' H locs hp O => ?_)
          obtain ⟨rfl, rfl, rfl⟩ := hp
          refine lv_istore (lv' := [(5, .int (nI (zp_nbr g E u))), (4, .int (nI (E ||| (2 ^ u)))), (0, .ref h0), (1, .int (nI k)), (2, .int (nI E)), (3, .int (nI u))]) X.1 X.2.1 dX0_price_46 hl (by decide) rfl (fun ls hl => ?_)
          refine lv_aload_n X.1 X.2.1 dX0_price_48 rfl (lv_at hl 2 rfl) ?_
          refine lv_iload X.1 X.2.1 dX0_price_49 (lv_at hl 0 rfl) ?_
          refine zw_calli X O (zX_sizeOf l D dA h0 a g co wy ah pl tr (zp_nbr g E u) (zp_nbr_lt hg hu)) rfl 1 (lw_V q81 q83 qs2 q31 q84) rfl rfl (by decide +kernel) ⟨Nat.le_of_ble_eq_true rfl, Nat.le_of_ble_eq_true rfl⟩ rfl hl.1 rfl (Nat.le_of_ble_eq_true rfl) dX0_price_51 ⟨Nat.zero_le _, Nat.zero_le _⟩ (fun r fs' as' H locs hp O => ?_)
          obtain ⟨rfl, rfl, rfl⟩ := hp
          exact RET _ _ _ _ _ _ _ O ⟨by unfold zp_pr; rw [if_neg (fun q => by rcases q with q | q; exact c1 q; exact c2 q), if_neg c3, if_pos c4], rfl, rfl⟩ rfl dX0_price_54
      · refine lv_aload_n X.1 X.2.1 dX0_price_28 rfl (lv_at hl 1 rfl) ?_
        refine lv_iload X.1 X.2.1 dX0_price_29 (lv_at hl 0 rfl) ?_
        refine zw_calli X O (zX_separationOf l D dA h0 a g co wy ah pl tr hg (E ||| (2 ^ u)) (zp_or_lt hE (zp_pw_lt u hu))) rfl 1 (lw_V q106 q108 qs7 q31 q109) rfl rfl (by decide +kernel) ⟨Nat.le_of_ble_eq_true rfl, Nat.le_of_ble_eq_true rfl⟩ rfl hl.1 rfl (Nat.le_of_ble_eq_true rfl) dX0_price_31 ⟨Nat.zero_le _, Nat.zero_le _⟩ (fun r fs' as' H locs hp O => ?_)
        obtain ⟨rfl, rfl, rfl⟩ := hp
        exact RET _ _ _ _ _ _ _ O ⟨by unfold zp_pr; rw [if_neg (fun q => by rcases q with q | q; exact c1 q; exact c2 q), if_pos c3], rfl, rfl⟩ rfl dX0_price_34
    · refine lv_aload_n X.1 X.2.1 dX0_price_16 rfl (lv_at hl 1 rfl) ?_
      refine lv_iload X.1 X.2.1 dX0_price_17 (lv_at hl 0 rfl) ?_
      refine zw_calli X O (zX_cutOf l D dA h0 a g co wy ah pl tr hg (E ||| (2 ^ u)) (zp_or_lt hE (zp_pw_lt u hu))) rfl 1 (lw_V q102 q104 qs6 q31 q105) rfl rfl (by decide +kernel) ⟨Nat.le_of_ble_eq_true rfl, Nat.le_of_ble_eq_true rfl⟩ rfl hl.1 rfl (Nat.le_of_ble_eq_true rfl) dX0_price_19 ⟨Nat.zero_le _, Nat.zero_le _⟩ (fun r fs' as' H locs hp O => ?_)
      obtain ⟨rfl, rfl, rfl⟩ := hp
      exact RET _ _ _ _ _ _ _ O ⟨by unfold zp_pr; rw [if_pos (Or.inr c2)], rfl, rfl⟩ rfl dX0_price_22
end
section
/-! HELP: what the fills keep -/
theorem zp_sd_eq : ∀ S, S < 64 → ∀ j, j < 6 → (zp_sd S (2 ^ j) = S ↔ S.testBit j = false) := by decide +kernel
theorem zp_sd_dn : ∀ S, S < 64 → ∀ j, j < 6 → S.testBit j = true → zp_sd S (2 ^ j) < S := by decide +kernel
theorem zp_or_up : ∀ S, S < 64 → ∀ j, j < 6 → S.testBit j = false → S < S ||| 2 ^ j := by decide +kernel
theorem zp_sd_ds : ∀ S, S < 64 → ∀ j, j < 6 → zp_sd S (2 ^ j) ≤ S := by decide +kernel
theorem zp_or_us : ∀ S, S < 64 → ∀ j, j < 6 → S ≤ S ||| 2 ^ j := by decide +kernel
theorem zp_mn_congr {t : Nat → Bool} {f f' : Nat → Nat} : ∀ n, (∀ p, p < n → t p = true → f p = f' p) → zp_mn t f n = zp_mn t f' n
  | 0, _ => rfl
  | n + 1, h => by
    simp only [zp_mn]
    rw [zp_mn_congr n (fun p hp => h p (Nat.lt_succ_of_lt hp))]
    split
    · rename_i ht
      rw [h n (Nat.lt_succ_self n) ht]
    · rfl
theorem zp_sm_congr {f f' : Nat → Nat} : ∀ n, (∀ p, p < n → f p = f' p) → zp_sm f n = zp_sm f' n
  | 0, _ => rfl
  | n + 1, h => by
    simp only [zp_sm]
    rw [zp_sm_congr n (fun p hp => h p (Nat.lt_succ_of_lt hp)), h n (Nat.lt_succ_self n)]
theorem zp_up_s (f : Nat → Nat) (k x : Nat) : va_up f k x k = x := by unfold va_up; rw [if_pos rfl]
theorem zp_up_n {f : Nat → Nat} {k j x : Nat} (h : j ≠ k) : va_up f k x j = f j := by unfold va_up; rw [if_neg h]
theorem zp_RC_le {g : Nat → Nat} {k : Nat} {c : Nat → Nat} {n : Nat} (h : zp_RC g k c n) : ∀ S, S < n → c S ≤ 1000 := by
  intro S hS
  rcases Nat.eq_zero_or_pos S with q | q
  · rw [q, h.1]; decide
  · rw [h.2 S q hS]; exact zp_mn_le 6
theorem zp_RC_0 (g : Nat → Nat) (k : Nat) (c : Nat → Nat) : zp_RC g k (va_up c 0 0) 1 := ⟨zp_up_s _ _ _, fun S h1 h2 => by omega⟩
theorem zp_RC_s {g : Nat → Nat} {k : Nat} {c c2 : Nat → Nat} {S : Nat} (h0 : 0 < S) (hS : S < 64) (h : zp_RC g k c S) (h1 : c2 S = zp_mn (fun p => S.testBit p) (fun p => zp_jn k (c (zp_sd S (2 ^ p))) (zp_pr g k (zp_sd S (2 ^ p)) p)) 6) (h2 : ∀ x, x ≠ S → c2 x = c x) : zp_RC g k c2 (S + 1) := by
  refine ⟨by rw [h2 0 (by omega)]; exact h.1, fun T hT0 hT => ?_⟩
  by_cases e : T = S
  · rw [e, h1]
    refine zp_mn_congr 6 (fun p hp ht => ?_)
    have := zp_sd_dn S hS p hp ht
    rw [h2 _ (by omega)]
  · rw [h2 T e, h.2 T hT0 (by omega)]
    refine zp_mn_congr 6 (fun p hp ht => ?_)
    have := zp_sd_dn T (by omega) p hp ht
    rw [h2 _ (by omega)]
theorem zp_RA_le {g : Nat → Nat} {k : Nat} {c : Nat → Nat} {n : Nat} (h : zp_RA g k c n) : ∀ S, n ≤ S → S < 64 → c S ≤ 1000 := by
  intro S h1 hS
  by_cases q : S = 63
  · rw [q, h.1]; decide
  · rw [h.2 S h1 (by omega)]; exact zp_mn_le 6
theorem zp_RA_0 (g : Nat → Nat) (k : Nat) (c : Nat → Nat) : zp_RA g k (va_up c 63 0) 63 := ⟨zp_up_s _ _ _, fun S h1 h2 => by omega⟩
theorem zp_RA_s {g : Nat → Nat} {k : Nat} {c c2 : Nat → Nat} {S : Nat} (hS : S < 63) (h : zp_RA g k c (S + 1)) (h1 : c2 S = zp_mn (fun p => !S.testBit p) (fun p => zp_jn k (zp_pr g k S p) (c (S ||| 2 ^ p))) 6) (h2 : ∀ x, x ≠ S → c2 x = c x) : zp_RA g k c2 S := by
  refine ⟨by rw [h2 63 (by omega)]; exact h.1, fun T hT0 hT => ?_⟩
  by_cases e : T = S
  · rw [e, h1]
    refine zp_mn_congr 6 (fun p hp ht => ?_)
    have := zp_or_up S (by omega) p hp (by simpa using ht)
    rw [h2 _ (by omega)]
  · rw [h2 T e, h.2 T (by omega) hT]
    refine zp_mn_congr 6 (fun p hp ht => ?_)
    have := zp_or_up T (by omega) p hp (by simpa using ht)
    rw [h2 _ (by omega)]
theorem zp_RW_0 (g : Nat → Nat) (k : Nat) (c w : Nat → Nat) : zp_RW g k c (va_up w 0 1) 1 := ⟨zp_up_s _ _ _, fun S h1 h2 => by omega⟩
theorem zp_RW_s {g : Nat → Nat} {k : Nat} {c w w2 : Nat → Nat} {S : Nat} (h0 : 0 < S) (hS : S < 64) (h : zp_RW g k c w S) (h1 : w2 S = zp_sm (fun p => if S.testBit p = true ∧ zp_fit g k c S p = true then w (zp_sd S (2 ^ p)) else 0) 6) (h2 : ∀ x, x ≠ S → w2 x = w x) : zp_RW g k c w2 (S + 1) := by
  refine ⟨by rw [h2 0 (by omega)]; exact h.1, fun T hT0 hT => ?_⟩
  by_cases e : T = S
  · rw [e, h1]
    refine zp_sm_congr 6 (fun p hp => ?_)
    split
    · rename_i q
      have := zp_sd_dn S hS p hp q.1
      rw [h2 _ (by omega)]
    · rfl
  · rw [h2 T e, h.2 T hT0 (by omega)]
    refine zp_sm_congr 6 (fun p hp => ?_)
    split
    · rename_i q
      have := zp_sd_dn T (by omega) p hp q.1
      rw [h2 _ (by omega)]
    · rfl
theorem zp_jn_le {k x y b : Nat} (hx : x ≤ b) (hy : y ≤ b) : zp_jn k x y ≤ b + b := by
  unfold zp_jn
  split
  · omega
  · omega
/-- one point of a fill is looked at: skipped, taken as less, or left -/
theorem zp_mn_skip {t : Nat → Bool} {f : Nat → Nat} {n : Nat} (h : t n = false) : zp_mn t f (n + 1) = zp_mn t f n := by simp [zp_mn, h]
theorem zp_mn_less {t : Nat → Bool} {f : Nat → Nat} {n v : Nat} (h : t n = true) (hv : v = f n) (hl : v < zp_mn t f n) : zp_mn t f (n + 1) = v := by
  simp only [zp_mn]; rw [if_pos h, ← hv]; omega
theorem zp_mn_stay {t : Nat → Bool} {f : Nat → Nat} {n v : Nat} (h : t n = true) (hv : v = f n) (hl : zp_mn t f n ≤ v) : zp_mn t f (n + 1) = zp_mn t f n := by
  simp only [zp_mn]; rw [if_pos h, ← hv]; omega
section
variable {p : Program} {l : Launch} {e : Env} {R : Room} {s : State} {m : MethodId} {args : Array Value} {below : List Frame} {meth : Method} {c : Code} {H : Heap} {locs : List Loc} {cells slots : Nat} {Q : State → Prop}
variable {cc : ByteArray} {pc : Nat} {ls : Array Slot} {rest : List Value} {nL : Nat} {own : String} {a b : Nat}
/-- counting down: the number below n; at 0 it is -1 -/
theorem zw_down0 {tgt : Nat} {off : Int} (X : CallFix p m c cc nL s args lw_all own) (hd : decode cc pc = .ok (.ifCond .lt off, 3)) (ht : (pc : Int) + off = (tgt : Int)) (kt : W p l e R s m args below meth c H locs cells slots Q (F0 m tgt ls rest)) : W p l e R s m args below meth c H locs cells slots Q (F0 m pc ls (.int (nI 0 - 1) :: rest)) :=
  lv_if_lt X.1 X.2.1 hd ht (fun _ => kt) (fun h => absurd (by decide) h)
theorem zi_down (a : Nat) : nI a + Int32.ofInt (-1) = nI a - 1 := by
  have h : Int32.ofInt (-1) = -1 := by decide
  rw [h]
  have h2 : ∀ x : Int32, x + (-1) = x - 1 := by intro x; grind
  exact h2 _
end
end
section
/-! LayoutWidths: contracts, the fills (written by gen/x2.py) -/
abbrev rX0_fillCost : Room := { frames := 3, cells := 0, slots := 0, locals := 78 }
set_option maxHeartbeats 4000000 in
set_option maxRecDepth 100000 in
/-- cost: the least cost of coming to each set -/
theorem zX_fillCost (l : Launch) (D : va_G) (dA : ClassId) (h0 : Nat) (a : Nat → Nat) (g co wy ah pl tr : Nat → Nat) (hg : ∀ p, p < 6 → g p < 64) (k : Nat) (hk : k < 5) : zw_Cv l D dA yX0_fillCost cX0_fillCost 7 rX0_fillCost 0 h0 [.int (nI k)] (fX a) (sX a g co wy ah pl tr) (fun fs as => ∃ x, zp_RC g k x 64 ∧ fs = fX a ∧ as = sX a g x wy ah pl tr) := by
  refine zw_Cv.mk (own := RX0) (lv0 := [(0, .ref h0), (1, .int (nI k))]) rfl (by decide +kernel) (Nat.le_of_ble_eq_true rfl) rfl ?_
  intro p e s m args below meth c A Q X RET ls hl O
  refine zx_f X O hl 0 rfl 1 (by decide) q42 rfl dX0_fillCost_0 dX0_fillCost_1 ?_
  refine lv_iconst (v := nI 0) X.1 X.2.1 dX0_fillCost_4 (by decide) ?_
  refine lv_iconst (v := nI 0) X.1 X.2.1 dX0_fillCost_5 (by decide) ?_
  refine zw_st X O 1 rfl (by decide) (by decide) dX0_fillCost_6 (fun H locs O => ?_)
  have O : zw_O D dA A s H locs 0 h0 (fX a) (sX a g (va_up co 0 0) wy ah pl tr) := O
  refine lv_iconst (v := nI 1) X.1 X.2.1 dX0_fillCost_7 (by decide) ?_
  refine lv_istore_n (lv' := [(2, .int (nI 1)), (0, .ref h0), (1, .int (nI k))]) X.1 X.2.1 dX0_fillCost_8 rfl hl (by decide) rfl (fun ls hl => ?_)
  have L9 : ∀ (n : Nat) (S : Nat) (x : Nat → Nat), (S + n = 64) → (0 < S) → (zp_RC g k x S) → ∀ (H : Heap) (locs : List Loc), zw_O D dA A s H locs 0 h0 (fX a) (sX a g x wy ah pl tr) → ∀ (ls : Array Slot), lv_has ls 7 [(0, .ref h0), (1, .int (nI k)), (2, .int (nI S))] → W p l e rX0_fillCost s m args below meth c H locs 0 0 Q (F0 m 9 ls []) := by
    intro n
    induction n with
    | zero =>
      intro S x hS hS0 hR H locs O ls hl
      refine lv_iload_n X.1 X.2.1 dX0_fillCost_9 rfl (lv_at hl 2 rfl) ?_
      refine lv_bipush (v := nI 64) X.1 X.2.1 dX0_fillCost_10 (by decide) ?_
      refine zw_icmp_ge (tgt := 113) X (by omega) (by decide) dX0_fillCost_12 (by decide) (fun cb => ?_) (fun cb => ?_)
      · have e0 : S = 64 := by omega
        rw [e0] at hR
        exact RET _ _ _ _ _ _ O ⟨x, hR, rfl, rfl⟩ dX0_fillCost_113
      · exact absurd cb (by omega)
    | succ n ih =>
      intro S x hS hS0 hR H locs O ls hl
      refine lv_iload_n X.1 X.2.1 dX0_fillCost_9 rfl (lv_at hl 2 rfl) ?_
      refine lv_bipush (v := nI 64) X.1 X.2.1 dX0_fillCost_10 (by decide) ?_
      refine zw_icmp_ge (tgt := 113) X (by omega) (by decide) dX0_fillCost_12 (by decide) (fun cb => ?_) (fun cb => ?_)
      · exact absurd cb (by omega)
      · refine zx_f X O hl 0 rfl 1 (by decide) q42 rfl dX0_fillCost_15 dX0_fillCost_16 ?_
        refine lv_iload_n X.1 X.2.1 dX0_fillCost_19 rfl (lv_at hl 2 rfl) ?_
        refine lv_sipush (v := nI 1000) X.1 X.2.1 dX0_fillCost_20 (by decide) ?_
        refine zw_st X O 1 rfl cb (by decide) dX0_fillCost_23 (fun H locs O => ?_)
        have O : zw_O D dA A s H locs 0 h0 (fX a) (sX a g (va_up x S 1000) wy ah pl tr) := O
        refine lv_iconst (v := nI 0) X.1 X.2.1 dX0_fillCost_24 (by decide) ?_
        refine lv_istore_n (lv' := [(3, .int (nI 0)), (0, .ref h0), (1, .int (nI k)), (2, .int (nI S))]) X.1 X.2.1 dX0_fillCost_25 rfl hl (by decide) rfl (fun ls hl => ?_)
        have L26 : ∀ (n : Nat) (j : Nat) (y : Nat → Nat), (j + n = 6) → (y S = zp_mn (fun p => S.testBit p) (fun p => zp_jn k (x (zp_sd S (2 ^ p))) (zp_pr g k (zp_sd S (2 ^ p)) p)) j) → (∀ z, z ≠ S → y z = x z) → ∀ (H : Heap) (locs : List Loc), zw_O D dA A s H locs 0 h0 (fX a) (sX a g y wy ah pl tr) → ∀ (ls : Array Slot), lv_has ls 7 [(0, .ref h0), (1, .int (nI k)), (2, .int (nI S)), (3, .int (nI j))] → W p l e rX0_fillCost s m args below meth c H locs 0 0 Q (F0 m 26 ls []) := by
          intro n
          induction n with
          | zero =>
            intro j y hj h1 h2 H locs O ls hl
            refine lv_iload_n X.1 X.2.1 dX0_fillCost_26 rfl (lv_at hl 3 rfl) ?_
            refine lv_bipush (v := nI 6) X.1 X.2.1 dX0_fillCost_27 (by decide) ?_
            refine zw_icmp_ge (tgt := 107) X (by omega) (by decide) dX0_fillCost_29 (by decide) (fun d => ?_) (fun d => ?_)
            · have e0 : j = 6 := by omega
              rw [e0] at h1
              refine lv_iinc (v := nI (S + 1)) (lv' := [(2, .int (nI (S + 1))), (0, .ref h0), (1, .int (nI k)), (3, .int (nI j))]) X.1 X.2.1 dX0_fillCost_107 hl (k := 2) rfl (zi_inc _) (by decide) rfl (fun ls hl => ?_)
              refine lv_goto (tgt := 9) X.1 X.2.1 dX0_fillCost_110 (by decide) ?_
              exact ih (S + 1) y (by omega) (by omega) (zp_RC_s hS0 cb hR h1 h2) _ _ O ls (lv_sub hl [1, 2, 0] rfl)
            · exact absurd d (by omega)
          | succ n ih =>
            intro j y hj h1 h2 H locs O ls hl
            have ih2 := ih
            refine lv_iload_n X.1 X.2.1 dX0_fillCost_26 rfl (lv_at hl 3 rfl) ?_
            refine lv_bipush (v := nI 6) X.1 X.2.1 dX0_fillCost_27 (by decide) ?_
            refine zw_icmp_ge (tgt := 107) X (by omega) (by decide) dX0_fillCost_29 (by decide) (fun d => ?_) (fun d => ?_)
            · exact absurd d (by omega)
            · refine lv_iload_n X.1 X.2.1 dX0_fillCost_32 rfl (lv_at hl 2 rfl) ?_
              refine lv_iconst (v := nI 1) X.1 X.2.1 dX0_fillCost_33 (by decide) ?_
              refine lv_iload_n X.1 X.2.1 dX0_fillCost_34 rfl (lv_at hl 3 rfl) ?_
              refine zw_shl X d dX0_fillCost_35 ?_
              refine zw_sdn X cb (zp_pw_lt _ d) dX0_fillCost_36 dX0_fillCost_37 dX0_fillCost_38 ?_
              refine lv_istore (lv' := [(4, .int (nI (zp_sd S (2 ^ j)))), (0, .ref h0), (1, .int (nI k)), (2, .int (nI S)), (3, .int (nI j))]) X.1 X.2.1 dX0_fillCost_39 hl (by decide) rfl (fun ls hl => ?_)
              refine lv_iload X.1 X.2.1 dX0_fillCost_41 (lv_at hl 0 rfl) ?_
              refine lv_iload_n X.1 X.2.1 dX0_fillCost_43 rfl (lv_at hl 3 rfl) ?_
              refine zw_icmp_eq (tgt := 101) X (Nat.lt_trans (zp_sd_lt cb) (by decide)) (Nat.lt_trans cb (by decide)) dX0_fillCost_44 (by decide) (fun c2 => ?_) (fun c2 => ?_)
              · have ht : S.testBit j = false := (zp_sd_eq S cb j d).mp c2
                refine lv_iinc (v := nI (j + 1)) (lv' := [(3, .int (nI (j + 1))), (4, .int (nI (zp_sd S (2 ^ j)))), (0, .ref h0), (1, .int (nI k)), (2, .int (nI S))]) X.1 X.2.1 dX0_fillCost_101 hl (k := 4) rfl (zi_inc _) (by decide) rfl (fun ls hl => ?_)
                refine lv_goto (tgt := 26) X.1 X.2.1 dX0_fillCost_104 (by decide) ?_
                exact ih2 (j + 1) y (by omega) (by rw [zp_mn_skip ht]; exact h1) h2 _ _ O ls (lv_sub hl [2, 3, 4, 0] rfl)
              · have ht : S.testBit j = true := by
                  cases hh : S.testBit j
                  · exact absurd ((zp_sd_eq S cb j d).mpr hh) c2
                  · rfl
                have hlt := zp_sd_dn S cb j d ht
                refine lv_aload_n X.1 X.2.1 dX0_fillCost_47 rfl (lv_at hl 1 rfl) ?_
                refine lv_iload_n X.1 X.2.1 dX0_fillCost_48 rfl (lv_at hl 2 rfl) ?_
                refine lv_iload X.1 X.2.1 dX0_fillCost_49 (lv_at hl 0 rfl) ?_
                refine lv_iload_n X.1 X.2.1 dX0_fillCost_51 rfl (lv_at hl 4 rfl) ?_
                refine zw_calli X O (zX_price l D dA h0 a g y wy ah pl tr hg k (zp_sd S (2 ^ j)) j hk (zp_sd_lt cb) d) rfl 3 (lw_V q98 q100 qs5 q31 q101) rfl rfl (by decide +kernel) ⟨Nat.le_of_ble_eq_true rfl, Nat.le_of_ble_eq_true rfl⟩ rfl hl.1 rfl (Nat.le_of_ble_eq_true rfl) dX0_fillCost_52 ⟨Nat.zero_le _, Nat.zero_le _⟩ (fun r fs' as' H locs hp O => ?_)
                obtain ⟨rfl, rfl, rfl⟩ := hp
                refine lv_istore (lv' := [(5, .int (nI (zp_pr g k (zp_sd S (2 ^ j)) j))), (4, .int (nI (zp_sd S (2 ^ j)))), (0, .ref h0), (1, .int (nI k)), (2, .int (nI S)), (3, .int (nI j))]) X.1 X.2.1 dX0_fillCost_55 hl (by decide) rfl (fun ls hl => ?_)
                refine lv_aload_n X.1 X.2.1 dX0_fillCost_57 rfl (lv_at hl 2 rfl) ?_
                refine lv_iload_n X.1 X.2.1 dX0_fillCost_58 rfl (lv_at hl 3 rfl) ?_
                refine zx_f X O hl 2 rfl 1 (by decide) q42 rfl dX0_fillCost_59 dX0_fillCost_60 ?_
                refine lv_iload X.1 X.2.1 dX0_fillCost_63 (lv_at hl 1 rfl) ?_
                refine zw_ld X O 1 rfl (zp_sd_lt cb) (by decide) dX0_fillCost_65 ?_
                refine lv_iload X.1 X.2.1 dX0_fillCost_66 (lv_at hl 0 rfl) ?_
                have b1 : y (zp_sd S (2 ^ j)) ≤ 1000 := by rw [h2 _ (by omega)]; exact zp_RC_le hR _ hlt
                have b2 := zp_pr_le g k (zp_sd S (2 ^ j)) j
                refine zw_calli X O (zX_joined l D dA h0 a g y wy ah pl tr k (y (zp_sd S (2 ^ j))) (zp_pr g k (zp_sd S (2 ^ j)) j) hk (by omega) (by omega)) rfl 3 (lw_V q118 q120 qs10 q31 q121) rfl rfl (by decide +kernel) ⟨Nat.le_of_ble_eq_true rfl, Nat.le_of_ble_eq_true rfl⟩ rfl hl.1 rfl (Nat.le_of_ble_eq_true rfl) dX0_fillCost_68 ⟨Nat.zero_le _, Nat.zero_le _⟩ (fun r fs' as' H locs hp O => ?_)
                obtain ⟨rfl, rfl, rfl⟩ := hp
                have b3 := zp_jn_le (k := k) b1 (Nat.le_trans b2 (by decide))
                have b4 : y S ≤ 1000 := by rw [h1]; exact zp_mn_le j
                have e3 : zp_jn k (y (zp_sd S (2 ^ j))) (zp_pr g k (zp_sd S (2 ^ j)) j) = (fun p => zp_jn k (x (zp_sd S (2 ^ p))) (zp_pr g k (zp_sd S (2 ^ p)) p)) j := by rw [h2 _ (by omega)]
                refine lv_istore (lv' := [(6, .int (nI (zp_jn k (y (zp_sd S (2 ^ j))) (zp_pr g k (zp_sd S (2 ^ j)) j)))), (5, .int (nI (zp_pr g k (zp_sd S (2 ^ j)) j))), (4, .int (nI (zp_sd S (2 ^ j)))), (0, .ref h0), (1, .int (nI k)), (2, .int (nI S)), (3, .int (nI j))]) X.1 X.2.1 dX0_fillCost_71 hl (by decide) rfl (fun ls hl => ?_)
                refine zx_f X O hl 3 rfl 1 (by decide) q42 rfl dX0_fillCost_73 dX0_fillCost_74 ?_
                refine lv_iload_n X.1 X.2.1 dX0_fillCost_77 rfl (lv_at hl 5 rfl) ?_
                refine lv_iload X.1 X.2.1 dX0_fillCost_78 (lv_at hl 0 rfl) ?_
                refine zx_f X O hl 3 rfl 1 (by decide) q42 rfl dX0_fillCost_80 dX0_fillCost_81 ?_
                refine lv_iload_n X.1 X.2.1 dX0_fillCost_84 rfl (lv_at hl 5 rfl) ?_
                refine zw_ld X O 1 rfl cb (by decide) dX0_fillCost_85 ?_
                refine zw_icmp_ge (tgt := 94) X (by omega) (by omega) dX0_fillCost_86 (by decide) (fun c3 => ?_) (fun c3 => ?_)
                · refine zx_f X O hl 3 rfl 1 (by decide) q42 rfl dX0_fillCost_94 dX0_fillCost_95 ?_
                  refine lv_iload_n X.1 X.2.1 dX0_fillCost_98 rfl (lv_at hl 5 rfl) ?_
                  refine zw_ld X O 1 rfl cb (by decide) dX0_fillCost_99 ?_
                  refine zw_st X O 1 rfl cb (by decide) dX0_fillCost_100 (fun H locs O => ?_)
                  have O : zw_O D dA A s H locs 0 h0 (fX a) (sX a g (va_up y S (y S)) wy ah pl tr) := O
                  refine lv_iinc (v := nI (j + 1)) (lv' := [(3, .int (nI (j + 1))), (6, .int (nI (zp_jn k (y (zp_sd S (2 ^ j))) (zp_pr g k (zp_sd S (2 ^ j)) j)))), (5, .int (nI (zp_pr g k (zp_sd S (2 ^ j)) j))), (4, .int (nI (zp_sd S (2 ^ j)))), (0, .ref h0), (1, .int (nI k)), (2, .int (nI S))]) X.1 X.2.1 dX0_fillCost_101 hl (k := 6) rfl (zi_inc _) (by decide) rfl (fun ls hl => ?_)
                  refine lv_goto (tgt := 26) X.1 X.2.1 dX0_fillCost_104 (by decide) ?_
                  exact ih2 (j + 1) (va_up y S (y S)) (by omega) (by rw [zp_up_s, h1]; exact (zp_mn_stay (t := (fun p => S.testBit p)) (f := (fun p => zp_jn k (x (zp_sd S (2 ^ p))) (zp_pr g k (zp_sd S (2 ^ p)) p))) ht e3 (by rw [← h1]; exact c3)).symm) (fun z hz => by rw [zp_up_n hz]; exact h2 z hz) _ _ O ls (lv_sub hl [4, 5, 6, 0] rfl)
                · refine lv_iload X.1 X.2.1 dX0_fillCost_89 (lv_at hl 0 rfl) ?_
                  refine lv_goto (tgt := 100) X.1 X.2.1 dX0_fillCost_91 (by decide) ?_
                  refine zw_st X O 1 rfl cb (by decide) dX0_fillCost_100 (fun H locs O => ?_)
                  have O : zw_O D dA A s H locs 0 h0 (fX a) (sX a g (va_up y S (zp_jn k (y (zp_sd S (2 ^ j))) (zp_pr g k (zp_sd S (2 ^ j)) j))) wy ah pl tr) := O
                  refine lv_iinc (v := nI (j + 1)) (lv' := [(3, .int (nI (j + 1))), (6, .int (nI (zp_jn k (y (zp_sd S (2 ^ j))) (zp_pr g k (zp_sd S (2 ^ j)) j)))), (5, .int (nI (zp_pr g k (zp_sd S (2 ^ j)) j))), (4, .int (nI (zp_sd S (2 ^ j)))), (0, .ref h0), (1, .int (nI k)), (2, .int (nI S))]) X.1 X.2.1 dX0_fillCost_101 hl (k := 6) rfl (zi_inc _) (by decide) rfl (fun ls hl => ?_)
                  refine lv_goto (tgt := 26) X.1 X.2.1 dX0_fillCost_104 (by decide) ?_
                  exact ih2 (j + 1) (va_up y S (zp_jn k (y (zp_sd S (2 ^ j))) (zp_pr g k (zp_sd S (2 ^ j)) j))) (by omega) (by rw [zp_up_s]; exact (zp_mn_less (t := (fun p => S.testBit p)) (f := (fun p => zp_jn k (x (zp_sd S (2 ^ p))) (zp_pr g k (zp_sd S (2 ^ p)) p))) ht e3 (by rw [← h1]; exact c3)).symm) (fun z hz => by rw [zp_up_n hz]; exact h2 z hz) _ _ O ls (lv_sub hl [4, 5, 6, 0] rfl)
        exact L26 6 0 (va_up x S 1000) (by omega) (zp_up_s _ _ _) (fun z hz => zp_up_n hz) _ _ O ls (lv_sub hl [1, 2, 3, 0] rfl)
  exact L9 63 1 (va_up co 0 0) (by omega) (by omega) (zp_RC_0 g k co) _ _ O ls (lv_sub hl [1, 2, 0] rfl)
abbrev rX0_leastOf : Room := { frames := 4, cells := 0, slots := 0, locals := 104 }
set_option maxHeartbeats 4000000 in
set_option maxRecDepth 100000 in
/-- the least cost of an order -/
theorem zX_leastOf (l : Launch) (D : va_G) (dA : ClassId) (h0 : Nat) (a : Nat → Nat) (g co wy ah pl tr : Nat → Nat) (hg : ∀ p, p < 6 → g p < 64) (k : Nat) (hk : k < 5) : zw_Ci l D dA yX0_leastOf cX0_leastOf 2 (some .int) rX0_leastOf 0 h0 [.int (nI k)] (fX a) (sX a g co wy ah pl tr) (fun r fs as => ∃ x, zp_RC g k x 64 ∧ r = nI (x 63) ∧ fs = fX a ∧ as = sX a g x wy ah pl tr) := by
  refine zw_Ci.mk (ty := .int) (own := RX0) (lv0 := [(0, .ref h0), (1, .int (nI k))]) rfl rfl (by decide +kernel) (Nat.le_of_ble_eq_true rfl) rfl ?_
  intro p e s m args below meth c A Q X RET ls hl O
  refine lv_aload_n X.1 X.2.1 dX0_leastOf_0 rfl (lv_at hl 0 rfl) ?_
  refine lv_iload_n X.1 X.2.1 dX0_leastOf_1 rfl (lv_at hl 1 rfl) ?_
  refine zw_callv X O (zX_fillCost l D dA h0 a g co wy ah pl tr hg k hk) rfl 1 (lw_V q94 q96 qs4 q31 q97) rfl rfl (by decide +kernel) ⟨Nat.le_of_ble_eq_true rfl, Nat.le_of_ble_eq_true rfl⟩ rfl hl.1 rfl (Nat.le_of_ble_eq_true rfl) dX0_leastOf_2 ⟨Nat.zero_le _, Nat.zero_le _⟩ (fun fs' as' H locs hp O => ?_)
  obtain ⟨x, hR, rfl, rfl⟩ := hp
  refine zx_f X O hl 0 rfl 1 (by decide) q42 rfl dX0_leastOf_5 dX0_leastOf_6 ?_
  refine lv_bipush (v := nI 63) X.1 X.2.1 dX0_leastOf_9 (by decide) ?_
  refine zw_ld X O 1 rfl (by decide) (by decide) dX0_leastOf_11 ?_
  exact RET _ _ _ _ _ _ _ O ⟨x, hR, rfl, rfl, rfl⟩ rfl dX0_leastOf_12
abbrev rX0_fillAhead : Room := { frames := 3, cells := 0, slots := 0, locals := 78 }
set_option maxHeartbeats 4000000 in
set_option maxRecDepth 100000 in
/-- ahead: what is still to be paid from each set on -/
theorem zX_fillAhead (l : Launch) (D : va_G) (dA : ClassId) (h0 : Nat) (a : Nat → Nat) (g co wy ah pl tr : Nat → Nat) (hg : ∀ p, p < 6 → g p < 64) (k : Nat) (hk : k < 5) : zw_Cv l D dA yX0_fillAhead cX0_fillAhead 6 rX0_fillAhead 0 h0 [.int (nI k)] (fX a) (sX a g co wy ah pl tr) (fun fs as => ∃ x, zp_RA g k x 0 ∧ fs = fX a ∧ as = sX a g co wy x pl tr) := by
  refine zw_Cv.mk (own := RX0) (lv0 := [(0, .ref h0), (1, .int (nI k))]) rfl (by decide +kernel) (Nat.le_of_ble_eq_true rfl) rfl ?_
  intro p e s m args below meth c A Q X RET ls hl O
  refine zx_f X O hl 0 rfl 3 (by decide) q44 rfl dX0_fillAhead_0 dX0_fillAhead_1 ?_
  refine lv_bipush (v := nI 63) X.1 X.2.1 dX0_fillAhead_4 (by decide) ?_
  refine lv_iconst (v := nI 0) X.1 X.2.1 dX0_fillAhead_6 (by decide) ?_
  refine zw_st X O 3 rfl (by decide) (by decide) dX0_fillAhead_7 (fun H locs O => ?_)
  have O : zw_O D dA A s H locs 0 h0 (fX a) (sX a g co wy (va_up ah 63 0) pl tr) := O
  refine lv_bipush (v := nI 62) X.1 X.2.1 dX0_fillAhead_8 (by decide) ?_
  refine lv_istore_n (lv' := [(2, .int (nI 62)), (0, .ref h0), (1, .int (nI k))]) X.1 X.2.1 dX0_fillAhead_10 rfl hl (by decide) rfl (fun ls hl => ?_)
  have L11 : ∀ (n : Nat) (x : Nat → Nat), (n ≤ 63) → (zp_RA g k x n) → ∀ (H : Heap) (locs : List Loc), zw_O D dA A s H locs 0 h0 (fX a) (sX a g co wy x pl tr) → ∀ (ls : Array Slot), lv_has ls 6 [(0, .ref h0), (1, .int (nI k)), (2, .int (nI n - 1))] → W p l e rX0_fillAhead s m args below meth c H locs 0 0 Q (F0 m 11 ls []) := by
    intro n
    induction n with
    | zero =>
      intro x hS hR H locs O ls hl
      refine lv_iload_n X.1 X.2.1 dX0_fillAhead_11 rfl (lv_at hl 2 rfl) ?_
      refine zw_down0 (tgt := 108) X dX0_fillAhead_12 (by decide) ?_
      exact RET _ _ _ _ _ _ O ⟨x, hR, rfl, rfl⟩ dX0_fillAhead_108
    | succ n ih =>
      intro x hS hR H locs O ls hl
      rw [nI_pred] at hl
      have cb : n < 64 := by omega
      refine lv_iload_n X.1 X.2.1 dX0_fillAhead_11 rfl (lv_at hl 2 rfl) ?_
      refine zw_if_lt (tgt := 108) X (by omega) dX0_fillAhead_12 (by decide) ?_
      refine zx_f X O hl 0 rfl 3 (by decide) q44 rfl dX0_fillAhead_15 dX0_fillAhead_16 ?_
      refine lv_iload_n X.1 X.2.1 dX0_fillAhead_19 rfl (lv_at hl 2 rfl) ?_
      refine lv_sipush (v := nI 1000) X.1 X.2.1 dX0_fillAhead_20 (by decide) ?_
      refine zw_st X O 3 rfl cb (by decide) dX0_fillAhead_23 (fun H locs O => ?_)
      have O : zw_O D dA A s H locs 0 h0 (fX a) (sX a g co wy (va_up x n 1000) pl tr) := O
      refine lv_iconst (v := nI 0) X.1 X.2.1 dX0_fillAhead_24 (by decide) ?_
      refine lv_istore_n (lv' := [(3, .int (nI 0)), (0, .ref h0), (1, .int (nI k)), (2, .int (nI n))]) X.1 X.2.1 dX0_fillAhead_25 rfl hl (by decide) rfl (fun ls hl => ?_)
      have L26 : ∀ (i : Nat) (j : Nat) (y : Nat → Nat), (j + i = 6) → (y n = zp_mn (fun p => !n.testBit p) (fun p => zp_jn k (zp_pr g k n p) (x (n ||| 2 ^ p))) j) → (∀ z, z ≠ n → y z = x z) → ∀ (H : Heap) (locs : List Loc), zw_O D dA A s H locs 0 h0 (fX a) (sX a g co wy y pl tr) → ∀ (ls : Array Slot), lv_has ls 6 [(0, .ref h0), (1, .int (nI k)), (2, .int (nI n)), (3, .int (nI j))] → W p l e rX0_fillAhead s m args below meth c H locs 0 0 Q (F0 m 26 ls []) := by
        intro i
        induction i with
        | zero =>
          intro j y hj h1 h2 H locs O ls hl
          refine lv_iload_n X.1 X.2.1 dX0_fillAhead_26 rfl (lv_at hl 3 rfl) ?_
          refine lv_bipush (v := nI 6) X.1 X.2.1 dX0_fillAhead_27 (by decide) ?_
          refine zw_icmp_ge (tgt := 102) X (by omega) (by decide) dX0_fillAhead_29 (by decide) (fun d => ?_) (fun d => ?_)
          · have e0 : j = 6 := by omega
            rw [e0] at h1
            refine lv_iinc (v := nI n - 1) (lv' := [(2, .int (nI n - 1)), (0, .ref h0), (1, .int (nI k)), (3, .int (nI j))]) X.1 X.2.1 dX0_fillAhead_102 hl (k := 2) rfl (zi_down _) (by decide) rfl (fun ls hl => ?_)
            refine lv_goto (tgt := 11) X.1 X.2.1 dX0_fillAhead_105 (by decide) ?_
            exact ih y (by omega) (zp_RA_s (by omega) hR h1 h2) _ _ O ls (lv_sub hl [1, 2, 0] rfl)
          · exact absurd d (by omega)
        | succ i ih =>
          intro j y hj h1 h2 H locs O ls hl
          have ih2 := ih
          refine lv_iload_n X.1 X.2.1 dX0_fillAhead_26 rfl (lv_at hl 3 rfl) ?_
          refine lv_bipush (v := nI 6) X.1 X.2.1 dX0_fillAhead_27 (by decide) ?_
          refine zw_icmp_ge (tgt := 102) X (by omega) (by decide) dX0_fillAhead_29 (by decide) (fun d => ?_) (fun d => ?_)
          · exact absurd d (by omega)
          · refine lv_iload_n X.1 X.2.1 dX0_fillAhead_32 rfl (lv_at hl 2 rfl) ?_
            refine lv_iload_n X.1 X.2.1 dX0_fillAhead_33 rfl (lv_at hl 3 rfl) ?_
            refine zw_bit X cb d dX0_fillAhead_34 dX0_fillAhead_35 dX0_fillAhead_36 ?_
            refine zw_tbif (tgt := 96) X dX0_fillAhead_37 (by decide) (fun ht => ?_) (fun ht => ?_)
            · refine lv_iinc (v := nI (j + 1)) (lv' := [(3, .int (nI (j + 1))), (0, .ref h0), (1, .int (nI k)), (2, .int (nI n))]) X.1 X.2.1 dX0_fillAhead_96 hl (k := 3) rfl (zi_inc _) (by decide) rfl (fun ls hl => ?_)
              refine lv_goto (tgt := 26) X.1 X.2.1 dX0_fillAhead_99 (by decide) ?_
              exact ih2 (j + 1) y (by omega) (by rw [zp_mn_skip (by simp [ht])]; exact h1) h2 _ _ O ls (lv_sub hl [1, 2, 3, 0] rfl)
            · have hlt := zp_or_up n cb j d ht
              have hlt2 : n ||| 2 ^ j < 64 := zp_or_lt cb (zp_pw_lt j d)
              refine lv_aload_n X.1 X.2.1 dX0_fillAhead_40 rfl (lv_at hl 0 rfl) ?_
              refine lv_iload_n X.1 X.2.1 dX0_fillAhead_41 rfl (lv_at hl 1 rfl) ?_
              refine lv_iload_n X.1 X.2.1 dX0_fillAhead_42 rfl (lv_at hl 2 rfl) ?_
              refine lv_iload_n X.1 X.2.1 dX0_fillAhead_43 rfl (lv_at hl 3 rfl) ?_
              refine zw_calli X O (zX_price l D dA h0 a g co wy y pl tr hg k n j hk cb d) rfl 3 (lw_V q98 q100 qs5 q31 q101) rfl rfl (by decide +kernel) ⟨Nat.le_of_ble_eq_true rfl, Nat.le_of_ble_eq_true rfl⟩ rfl hl.1 rfl (Nat.le_of_ble_eq_true rfl) dX0_fillAhead_44 ⟨Nat.zero_le _, Nat.zero_le _⟩ (fun r fs' as' H locs hp O => ?_)
              obtain ⟨rfl, rfl, rfl⟩ := hp
              refine lv_istore (lv' := [(4, .int (nI (zp_pr g k n j))), (0, .ref h0), (1, .int (nI k)), (2, .int (nI n)), (3, .int (nI j))]) X.1 X.2.1 dX0_fillAhead_47 hl (by decide) rfl (fun ls hl => ?_)
              refine lv_aload_n X.1 X.2.1 dX0_fillAhead_49 rfl (lv_at hl 1 rfl) ?_
              refine lv_iload_n X.1 X.2.1 dX0_fillAhead_50 rfl (lv_at hl 2 rfl) ?_
              refine lv_iload X.1 X.2.1 dX0_fillAhead_51 (lv_at hl 0 rfl) ?_
              refine zx_f X O hl 1 rfl 3 (by decide) q44 rfl dX0_fillAhead_53 dX0_fillAhead_54 ?_
              refine lv_iload_n X.1 X.2.1 dX0_fillAhead_57 rfl (lv_at hl 3 rfl) ?_
              refine lv_iconst (v := nI 1) X.1 X.2.1 dX0_fillAhead_58 (by decide) ?_
              refine lv_iload_n X.1 X.2.1 dX0_fillAhead_59 rfl (lv_at hl 4 rfl) ?_
              refine zw_shl X d dX0_fillAhead_60 ?_
              refine zw_or X dX0_fillAhead_61 ?_
              refine zw_ld X O 3 rfl hlt2 (by decide) dX0_fillAhead_62 ?_
              have b1 : y (n ||| 2 ^ j) ≤ 1000 := by rw [h2 _ (by omega)]; exact zp_RA_le hR _ (by omega) hlt2
              have b2 := zp_pr_le g k n j
              refine zw_calli X O (zX_joined l D dA h0 a g co wy y pl tr k (zp_pr g k n j) (y (n ||| 2 ^ j)) hk (by omega) (by omega)) rfl 3 (lw_V q118 q120 qs10 q31 q121) rfl rfl (by decide +kernel) ⟨Nat.le_of_ble_eq_true rfl, Nat.le_of_ble_eq_true rfl⟩ rfl hl.1 rfl (Nat.le_of_ble_eq_true rfl) dX0_fillAhead_63 ⟨Nat.zero_le _, Nat.zero_le _⟩ (fun r fs' as' H locs hp O => ?_)
              obtain ⟨rfl, rfl, rfl⟩ := hp
              have b3 := zp_jn_le (k := k) (Nat.le_trans b2 (by decide)) b1
              have b4 : y n ≤ 1000 := by rw [h1]; exact zp_mn_le j
              have e3 : zp_jn k (zp_pr g k n j) (y (n ||| 2 ^ j)) = (fun p => zp_jn k (zp_pr g k n p) (x (n ||| 2 ^ p))) j := by rw [h2 _ (by omega)]
              have ht2 : (fun p => !n.testBit p) j = true := by simp [ht]
              refine lv_istore (lv' := [(5, .int (nI (zp_jn k (zp_pr g k n j) (y (n ||| 2 ^ j))))), (4, .int (nI (zp_pr g k n j))), (0, .ref h0), (1, .int (nI k)), (2, .int (nI n)), (3, .int (nI j))]) X.1 X.2.1 dX0_fillAhead_66 hl (by decide) rfl (fun ls hl => ?_)
              refine zx_f X O hl 2 rfl 3 (by decide) q44 rfl dX0_fillAhead_68 dX0_fillAhead_69 ?_
              refine lv_iload_n X.1 X.2.1 dX0_fillAhead_72 rfl (lv_at hl 4 rfl) ?_
              refine lv_iload X.1 X.2.1 dX0_fillAhead_73 (lv_at hl 0 rfl) ?_
              refine zx_f X O hl 2 rfl 3 (by decide) q44 rfl dX0_fillAhead_75 dX0_fillAhead_76 ?_
              refine lv_iload_n X.1 X.2.1 dX0_fillAhead_79 rfl (lv_at hl 4 rfl) ?_
              refine zw_ld X O 3 rfl cb (by decide) dX0_fillAhead_80 ?_
              refine zw_icmp_ge (tgt := 89) X (by omega) (by omega) dX0_fillAhead_81 (by decide) (fun c3 => ?_) (fun c3 => ?_)
              · refine zx_f X O hl 2 rfl 3 (by decide) q44 rfl dX0_fillAhead_89 dX0_fillAhead_90 ?_
                refine lv_iload_n X.1 X.2.1 dX0_fillAhead_93 rfl (lv_at hl 4 rfl) ?_
                refine zw_ld X O 3 rfl cb (by decide) dX0_fillAhead_94 ?_
                refine zw_st X O 3 rfl cb (by decide) dX0_fillAhead_95 (fun H locs O => ?_)
                have O : zw_O D dA A s H locs 0 h0 (fX a) (sX a g co wy (va_up y n (y n)) pl tr) := O
                refine lv_iinc (v := nI (j + 1)) (lv' := [(3, .int (nI (j + 1))), (5, .int (nI (zp_jn k (zp_pr g k n j) (y (n ||| 2 ^ j))))), (4, .int (nI (zp_pr g k n j))), (0, .ref h0), (1, .int (nI k)), (2, .int (nI n))]) X.1 X.2.1 dX0_fillAhead_96 hl (k := 5) rfl (zi_inc _) (by decide) rfl (fun ls hl => ?_)
                refine lv_goto (tgt := 26) X.1 X.2.1 dX0_fillAhead_99 (by decide) ?_
                exact ih2 (j + 1) (va_up y n (y n)) (by omega) (by rw [zp_up_s, h1]; exact (zp_mn_stay (t := (fun p => !n.testBit p)) (f := (fun p => zp_jn k (zp_pr g k n p) (x (n ||| 2 ^ p)))) ht2 e3 (by rw [← h1]; exact c3)).symm) (fun z hz => by rw [zp_up_n hz]; exact h2 z hz) _ _ O ls (lv_sub hl [3, 4, 5, 0] rfl)
              · refine lv_iload X.1 X.2.1 dX0_fillAhead_84 (lv_at hl 0 rfl) ?_
                refine lv_goto (tgt := 95) X.1 X.2.1 dX0_fillAhead_86 (by decide) ?_
                refine zw_st X O 3 rfl cb (by decide) dX0_fillAhead_95 (fun H locs O => ?_)
                have O : zw_O D dA A s H locs 0 h0 (fX a) (sX a g co wy (va_up y n (zp_jn k (zp_pr g k n j) (y (n ||| 2 ^ j)))) pl tr) := O
                refine lv_iinc (v := nI (j + 1)) (lv' := [(3, .int (nI (j + 1))), (5, .int (nI (zp_jn k (zp_pr g k n j) (y (n ||| 2 ^ j))))), (4, .int (nI (zp_pr g k n j))), (0, .ref h0), (1, .int (nI k)), (2, .int (nI n))]) X.1 X.2.1 dX0_fillAhead_96 hl (k := 5) rfl (zi_inc _) (by decide) rfl (fun ls hl => ?_)
                refine lv_goto (tgt := 26) X.1 X.2.1 dX0_fillAhead_99 (by decide) ?_
                exact ih2 (j + 1) (va_up y n (zp_jn k (zp_pr g k n j) (y (n ||| 2 ^ j)))) (by omega) (by rw [zp_up_s]; exact (zp_mn_less (t := (fun p => !n.testBit p)) (f := (fun p => zp_jn k (zp_pr g k n p) (x (n ||| 2 ^ p)))) ht2 e3 (by rw [← h1]; exact c3)).symm) (fun z hz => by rw [zp_up_n hz]; exact h2 z hz) _ _ O ls (lv_sub hl [3, 4, 5, 0] rfl)
      exact L26 6 0 (va_up x n 1000) (by omega) (zp_up_s _ _ _) (fun z hz => zp_up_n hz) _ _ O ls (lv_sub hl [1, 2, 3, 0] rfl)
  exact L11 63 (va_up ah 63 0) (by omega) (zp_RA_0 g k ah) _ _ O ls (lv_sub hl [1, 2, 0] rfl)
end
section
/-! LayoutWidths: contracts, orders (written by gen/x3.py) -/
abbrev rX0_ordersOf : Room := { frames := 4, cells := 0, slots := 0, locals := 104 }
set_option maxHeartbeats 4000000 in
set_option maxRecDepth 100000 in
/-- how many orders have the least cost -/
theorem zX_ordersOf (l : Launch) (D : va_G) (dA : ClassId) (h0 : Nat) (a : Nat → Nat) (g co wy ah pl tr : Nat → Nat) (hg : ∀ p, p < 6 → g p < 64) (k : Nat) (hk : k < 5) : zw_Ci l D dA yX0_ordersOf cX0_ordersOf 8 (some .int) rX0_ordersOf 0 h0 [.int (nI k)] (fX a) (sX a g co wy ah pl tr) (fun r fs as => ∃ x u, zp_RC g k x 64 ∧ zp_RW g k x u 64 ∧ r = nI (u 63) ∧ fs = fX a ∧ as = sX a g x u ah pl tr) := by
  refine zw_Ci.mk (ty := .int) (own := RX0) (lv0 := [(0, .ref h0), (1, .int (nI k))]) rfl rfl (by decide +kernel) (Nat.le_of_ble_eq_true rfl) rfl ?_
  intro p e s m args below meth c A Q X RET ls hl O
  refine lv_aload_n X.1 X.2.1 dX0_ordersOf_0 rfl (lv_at hl 0 rfl) ?_
  refine lv_iload_n X.1 X.2.1 dX0_ordersOf_1 rfl (lv_at hl 1 rfl) ?_
  refine zw_callv X O (zX_fillCost l D dA h0 a g co wy ah pl tr hg k hk) rfl 1 (lw_V q94 q96 qs4 q31 q97) rfl rfl (by decide +kernel) ⟨Nat.le_of_ble_eq_true rfl, Nat.le_of_ble_eq_true rfl⟩ rfl hl.1 rfl (Nat.le_of_ble_eq_true rfl) dX0_ordersOf_2 ⟨Nat.zero_le _, Nat.zero_le _⟩ (fun fs' as' H locs hp O => ?_)
  obtain ⟨x, hC, rfl, rfl⟩ := hp
  refine zx_f X O hl 0 rfl 1 (by decide) q42 rfl dX0_ordersOf_5 dX0_ordersOf_6 ?_
  refine lv_bipush (v := nI 63) X.1 X.2.1 dX0_ordersOf_9 (by decide) ?_
  refine zw_ld X O 1 rfl (by decide) (by decide) dX0_ordersOf_11 ?_
  refine lv_istore_n (lv' := [(2, .int (nI (x 63))), (0, .ref h0), (1, .int (nI k))]) X.1 X.2.1 dX0_ordersOf_12 rfl hl (by decide) rfl (fun ls hl => ?_)
  refine zx_f X O hl 1 rfl 2 (by decide) q43 rfl dX0_ordersOf_13 dX0_ordersOf_14 ?_
  refine lv_iconst (v := nI 0) X.1 X.2.1 dX0_ordersOf_17 (by decide) ?_
  refine lv_iconst (v := nI 1) X.1 X.2.1 dX0_ordersOf_18 (by decide) ?_
  refine zw_st X O 2 rfl (by decide) (by decide) dX0_ordersOf_19 (fun H locs O => ?_)
  have O : zw_O D dA A s H locs 0 h0 (fX a) (sX a g x (va_up wy 0 1) ah pl tr) := O
  refine lv_iconst (v := nI 1) X.1 X.2.1 dX0_ordersOf_20 (by decide) ?_
  refine lv_istore_n (lv' := [(3, .int (nI 1)), (2, .int (nI (x 63))), (0, .ref h0), (1, .int (nI k))]) X.1 X.2.1 dX0_ordersOf_21 rfl hl (by decide) rfl (fun ls hl => ?_)
  have L22 : ∀ (n : Nat) (S : Nat) (u : Nat → Nat), (S + n = 64) → (0 < S) → (zp_RW g k x u S) → ∀ (H : Heap) (locs : List Loc), zw_O D dA A s H locs 0 h0 (fX a) (sX a g x u ah pl tr) → ∀ (ls : Array Slot), lv_has ls 8 [(0, .ref h0), (1, .int (nI k)), (2, .int (nI (x 63))), (3, .int (nI S))] → W p l e rX0_ordersOf s m args below meth c H locs 0 0 Q (F0 m 22 ls []) := by
    intro n
    induction n with
    | zero =>
      intro S u hS hS0 hR H locs O ls hl
      refine lv_iload_n X.1 X.2.1 dX0_ordersOf_22 rfl (lv_at hl 3 rfl) ?_
      refine lv_bipush (v := nI 64) X.1 X.2.1 dX0_ordersOf_23 (by decide) ?_
      refine zw_icmp_ge (tgt := 163) X (by omega) (by decide) dX0_ordersOf_25 (by decide) (fun cb => ?_) (fun cb => ?_)
      · have e0 : S = 64 := by omega
        rw [e0] at hR
        refine zx_f X O hl 0 rfl 2 (by decide) q43 rfl dX0_ordersOf_163 dX0_ordersOf_164 ?_
        refine lv_bipush (v := nI 63) X.1 X.2.1 dX0_ordersOf_167 (by decide) ?_
        refine zw_ld X O 2 rfl (by decide) (by decide) dX0_ordersOf_169 ?_
        exact RET _ _ _ _ _ _ _ O ⟨x, u, hC, hR, rfl, rfl, rfl⟩ rfl dX0_ordersOf_170
      · exact absurd cb (by omega)
    | succ n ih =>
      intro S u hS hS0 hR H locs O ls hl
      refine lv_iload_n X.1 X.2.1 dX0_ordersOf_22 rfl (lv_at hl 3 rfl) ?_
      refine lv_bipush (v := nI 64) X.1 X.2.1 dX0_ordersOf_23 (by decide) ?_
      refine zw_icmp_ge (tgt := 163) X (by omega) (by decide) dX0_ordersOf_25 (by decide) (fun cb => ?_) (fun cb => ?_)
      · exact absurd cb (by omega)
      · refine zx_f X O hl 0 rfl 2 (by decide) q43 rfl dX0_ordersOf_28 dX0_ordersOf_29 ?_
        refine lv_iload_n X.1 X.2.1 dX0_ordersOf_32 rfl (lv_at hl 3 rfl) ?_
        refine lv_iconst (v := nI 0) X.1 X.2.1 dX0_ordersOf_33 (by decide) ?_
        refine zw_st X O 2 rfl cb (by decide) dX0_ordersOf_34 (fun H locs O => ?_)
        have O : zw_O D dA A s H locs 0 h0 (fX a) (sX a g x (va_up u S 0) ah pl tr) := O
        refine lv_iconst (v := nI 0) X.1 X.2.1 dX0_ordersOf_35 (by decide) ?_
        refine lv_istore (lv' := [(4, .int (nI 0)), (0, .ref h0), (1, .int (nI k)), (2, .int (nI (x 63))), (3, .int (nI S))]) X.1 X.2.1 dX0_ordersOf_36 hl (by decide) rfl (fun ls hl => ?_)
        have L38 : ∀ (n : Nat) (j : Nat) (y : Nat → Nat), (j + n = 6) → (y S = zp_sm (fun p => if S.testBit p = true ∧ zp_fit g k x S p = true then u (zp_sd S (2 ^ p)) else 0) j) → (∀ z, z ≠ S → y z = u z) → ∀ (H : Heap) (locs : List Loc), zw_O D dA A s H locs 0 h0 (fX a) (sX a g x y ah pl tr) → ∀ (ls : Array Slot), lv_has ls 8 [(0, .ref h0), (1, .int (nI k)), (2, .int (nI (x 63))), (3, .int (nI S)), (4, .int (nI j))] → W p l e rX0_ordersOf s m args below meth c H locs 0 0 Q (F0 m 38 ls []) := by
          intro n
          induction n with
          | zero =>
            intro j y hj h1 h2 H locs O ls hl
            refine lv_iload X.1 X.2.1 dX0_ordersOf_38 (lv_at hl 4 rfl) ?_
            refine lv_bipush (v := nI 6) X.1 X.2.1 dX0_ordersOf_40 (by decide) ?_
            refine zw_icmp_ge (tgt := 157) X (by omega) (by decide) dX0_ordersOf_42 (by decide) (fun d => ?_) (fun d => ?_)
            · have e0 : j = 6 := by omega
              rw [e0] at h1
              refine lv_iinc (v := nI (S + 1)) (lv' := [(3, .int (nI (S + 1))), (0, .ref h0), (1, .int (nI k)), (2, .int (nI (x 63))), (4, .int (nI j))]) X.1 X.2.1 dX0_ordersOf_157 hl (k := 3) rfl (zi_inc _) (by decide) rfl (fun ls hl => ?_)
              refine lv_goto (tgt := 22) X.1 X.2.1 dX0_ordersOf_160 (by decide) ?_
              exact ih (S + 1) y (by omega) (by omega) (zp_RW_s hS0 cb hR h1 h2) _ _ O ls (lv_sub hl [1, 2, 3, 0] rfl)
            · exact absurd d (by omega)
          | succ n ih =>
            intro j y hj h1 h2 H locs O ls hl
            have ih2 := ih
            refine lv_iload X.1 X.2.1 dX0_ordersOf_38 (lv_at hl 4 rfl) ?_
            refine lv_bipush (v := nI 6) X.1 X.2.1 dX0_ordersOf_40 (by decide) ?_
            refine zw_icmp_ge (tgt := 157) X (by omega) (by decide) dX0_ordersOf_42 (by decide) (fun d => ?_) (fun d => ?_)
            · exact absurd d (by omega)
            · refine lv_iload_n X.1 X.2.1 dX0_ordersOf_45 rfl (lv_at hl 3 rfl) ?_
              refine lv_iconst (v := nI 1) X.1 X.2.1 dX0_ordersOf_46 (by decide) ?_
              refine lv_iload X.1 X.2.1 dX0_ordersOf_47 (lv_at hl 4 rfl) ?_
              refine zw_shl X d dX0_ordersOf_49 ?_
              refine zw_sdn X cb (zp_pw_lt _ d) dX0_ordersOf_50 dX0_ordersOf_51 dX0_ordersOf_52 ?_
              refine lv_istore (lv' := [(5, .int (nI (zp_sd S (2 ^ j)))), (0, .ref h0), (1, .int (nI k)), (2, .int (nI (x 63))), (3, .int (nI S)), (4, .int (nI j))]) X.1 X.2.1 dX0_ordersOf_53 hl (by decide) rfl (fun ls hl => ?_)
              refine lv_iload X.1 X.2.1 dX0_ordersOf_55 (lv_at hl 0 rfl) ?_
              refine lv_iload_n X.1 X.2.1 dX0_ordersOf_57 rfl (lv_at hl 4 rfl) ?_
              refine zw_icmp_eq (tgt := 151) X (Nat.lt_trans (zp_sd_lt cb) (by decide)) (Nat.lt_trans cb (by decide)) dX0_ordersOf_58 (by decide) (fun c2 => ?_) (fun c2 => ?_)
              · have ht : S.testBit j = false := (zp_sd_eq S cb j d).mp c2
                refine lv_iinc (v := nI (j + 1)) (lv' := [(4, .int (nI (j + 1))), (5, .int (nI (zp_sd S (2 ^ j)))), (0, .ref h0), (1, .int (nI k)), (2, .int (nI (x 63))), (3, .int (nI S))]) X.1 X.2.1 dX0_ordersOf_151 hl (k := 5) rfl (zi_inc _) (by decide) rfl (fun ls hl => ?_)
                refine lv_goto (tgt := 38) X.1 X.2.1 dX0_ordersOf_154 (by decide) ?_
                exact ih2 (j + 1) y (by omega) (by rw [h1]; simp [zp_sm, ht]) h2 _ _ O ls (lv_sub hl [2, 3, 4, 5, 0] rfl)
              · have ht : S.testBit j = true := by
                  cases hh : S.testBit j
                  · exact absurd ((zp_sd_eq S cb j d).mpr hh) c2
                  · rfl
                have hlt := zp_sd_dn S cb j d ht
                refine lv_aload_n X.1 X.2.1 dX0_ordersOf_61 rfl (lv_at hl 1 rfl) ?_
                refine lv_iload_n X.1 X.2.1 dX0_ordersOf_62 rfl (lv_at hl 2 rfl) ?_
                refine lv_iload X.1 X.2.1 dX0_ordersOf_63 (lv_at hl 0 rfl) ?_
                refine lv_iload X.1 X.2.1 dX0_ordersOf_65 (lv_at hl 5 rfl) ?_
                refine zw_calli X O (zX_price l D dA h0 a g x y ah pl tr hg k (zp_sd S (2 ^ j)) j hk (zp_sd_lt cb) d) rfl 3 (lw_V q98 q100 qs5 q31 q101) rfl rfl (by decide +kernel) ⟨Nat.le_of_ble_eq_true rfl, Nat.le_of_ble_eq_true rfl⟩ rfl hl.1 rfl (Nat.le_of_ble_eq_true rfl) dX0_ordersOf_67 ⟨Nat.zero_le _, Nat.zero_le _⟩ (fun r fs' as' H locs hp O => ?_)
                obtain ⟨rfl, rfl, rfl⟩ := hp
                refine lv_istore (lv' := [(6, .int (nI (zp_pr g k (zp_sd S (2 ^ j)) j))), (5, .int (nI (zp_sd S (2 ^ j)))), (0, .ref h0), (1, .int (nI k)), (2, .int (nI (x 63))), (3, .int (nI S)), (4, .int (nI j))]) X.1 X.2.1 dX0_ordersOf_70 hl (by decide) rfl (fun ls hl => ?_)
                have b1 := zp_RC_le hC _ (zp_sd_lt (b := 2 ^ j) cb)
                have b2 := zp_pr_le g k (zp_sd S (2 ^ j)) j
                have b3 := zp_RC_le hC 63 (by decide)
                have b4 := zp_RC_le hC S cb
                have e4 : y (zp_sd S (2 ^ j)) = u (zp_sd S (2 ^ j)) := h2 _ (by omega)
                have JT : (zp_fit g k x S j = true) → ∀ (ls : Array Slot), lv_has ls 8 [(6, .int (nI (zp_pr g k (zp_sd S (2 ^ j)) j))), (5, .int (nI (zp_sd S (2 ^ j)))), (0, .ref h0), (1, .int (nI k)), (2, .int (nI (x 63))), (3, .int (nI S)), (4, .int (nI j))] → W p l e rX0_ordersOf s m args below meth c H locs 0 0 Q (F0 m 115 ls [.int (nI 1)]) := by
                  intro hf ls hl
                  refine lv_istore (lv' := [(7, .int (nI 1)), (6, .int (nI (zp_pr g k (zp_sd S (2 ^ j)) j))), (5, .int (nI (zp_sd S (2 ^ j)))), (0, .ref h0), (1, .int (nI k)), (2, .int (nI (x 63))), (3, .int (nI S)), (4, .int (nI j))]) X.1 X.2.1 dX0_ordersOf_115 hl (by decide) rfl (fun ls hl => ?_)
                  refine zx_f X O hl 3 rfl 2 (by decide) q43 rfl dX0_ordersOf_117 dX0_ordersOf_118 ?_
                  refine lv_iload_n X.1 X.2.1 dX0_ordersOf_121 rfl (lv_at hl 6 rfl) ?_
                  refine lv_iload X.1 X.2.1 dX0_ordersOf_122 (lv_at hl 0 rfl) ?_
                  refine zw_if_eq (tgt := 144) X (by decide) dX0_ordersOf_124 (by decide) (fun e5 => ?_) (fun e5 => ?_)
                  · exact absurd e5 (by decide)
                  · refine zx_f X O hl 3 rfl 2 (by decide) q43 rfl dX0_ordersOf_127 dX0_ordersOf_128 ?_
                    refine lv_iload_n X.1 X.2.1 dX0_ordersOf_131 rfl (lv_at hl 6 rfl) ?_
                    refine zw_ld X O 2 rfl cb (by decide) dX0_ordersOf_132 ?_
                    refine zx_f X O hl 3 rfl 2 (by decide) q43 rfl dX0_ordersOf_133 dX0_ordersOf_134 ?_
                    refine lv_iload X.1 X.2.1 dX0_ordersOf_137 (lv_at hl 2 rfl) ?_
                    refine zw_ld X O 2 rfl (zp_sd_lt cb) (by decide) dX0_ordersOf_139 ?_
                    refine zw_add X dX0_ordersOf_140 ?_
                    refine lv_goto (tgt := 150) X.1 X.2.1 dX0_ordersOf_141 (by decide) ?_
                    refine zw_st X O 2 rfl cb (by decide) dX0_ordersOf_150 (fun H locs O => ?_)
                    have O : zw_O D dA A s H locs 0 h0 (fX a) (sX a g x (va_up y S ((y S) + (y (zp_sd S (2 ^ j))))) ah pl tr) := O
                    refine lv_iinc (v := nI (j + 1)) (lv' := [(4, .int (nI (j + 1))), (7, .int (nI 1)), (6, .int (nI (zp_pr g k (zp_sd S (2 ^ j)) j))), (5, .int (nI (zp_sd S (2 ^ j)))), (0, .ref h0), (1, .int (nI k)), (2, .int (nI (x 63))), (3, .int (nI S))]) X.1 X.2.1 dX0_ordersOf_151 hl (k := 7) rfl (zi_inc _) (by decide) rfl (fun ls hl => ?_)
                    refine lv_goto (tgt := 38) X.1 X.2.1 dX0_ordersOf_154 (by decide) ?_
                    exact ih2 (j + 1) (va_up y S ((y S) + (y (zp_sd S (2 ^ j))))) (by omega) (by rw [zp_up_s, h1, e4]; simp [zp_sm, ht, hf]) (fun z hz => by rw [zp_up_n hz]; exact h2 z hz) _ _ O ls (lv_sub hl [4, 5, 6, 7, 0] rfl)
                have JF : (zp_fit g k x S j = false) → ∀ (ls : Array Slot), lv_has ls 8 [(6, .int (nI (zp_pr g k (zp_sd S (2 ^ j)) j))), (5, .int (nI (zp_sd S (2 ^ j)))), (0, .ref h0), (1, .int (nI k)), (2, .int (nI (x 63))), (3, .int (nI S)), (4, .int (nI j))] → W p l e rX0_ordersOf s m args below meth c H locs 0 0 Q (F0 m 115 ls [.int (nI 0)]) := by
                  intro hf ls hl
                  refine lv_istore (lv' := [(7, .int (nI 0)), (6, .int (nI (zp_pr g k (zp_sd S (2 ^ j)) j))), (5, .int (nI (zp_sd S (2 ^ j)))), (0, .ref h0), (1, .int (nI k)), (2, .int (nI (x 63))), (3, .int (nI S)), (4, .int (nI j))]) X.1 X.2.1 dX0_ordersOf_115 hl (by decide) rfl (fun ls hl => ?_)
                  refine zx_f X O hl 3 rfl 2 (by decide) q43 rfl dX0_ordersOf_117 dX0_ordersOf_118 ?_
                  refine lv_iload_n X.1 X.2.1 dX0_ordersOf_121 rfl (lv_at hl 6 rfl) ?_
                  refine lv_iload X.1 X.2.1 dX0_ordersOf_122 (lv_at hl 0 rfl) ?_
                  refine zw_if_eq (tgt := 144) X (by decide) dX0_ordersOf_124 (by decide) (fun e5 => ?_) (fun e5 => ?_)
                  · refine zx_f X O hl 3 rfl 2 (by decide) q43 rfl dX0_ordersOf_144 dX0_ordersOf_145 ?_
                    refine lv_iload_n X.1 X.2.1 dX0_ordersOf_148 rfl (lv_at hl 6 rfl) ?_
                    refine zw_ld X O 2 rfl cb (by decide) dX0_ordersOf_149 ?_
                    refine zw_st X O 2 rfl cb (by decide) dX0_ordersOf_150 (fun H locs O => ?_)
                    have O : zw_O D dA A s H locs 0 h0 (fX a) (sX a g x (va_up y S (y S)) ah pl tr) := O
                    refine lv_iinc (v := nI (j + 1)) (lv' := [(4, .int (nI (j + 1))), (7, .int (nI 0)), (6, .int (nI (zp_pr g k (zp_sd S (2 ^ j)) j))), (5, .int (nI (zp_sd S (2 ^ j)))), (0, .ref h0), (1, .int (nI k)), (2, .int (nI (x 63))), (3, .int (nI S))]) X.1 X.2.1 dX0_ordersOf_151 hl (k := 7) rfl (zi_inc _) (by decide) rfl (fun ls hl => ?_)
                    refine lv_goto (tgt := 38) X.1 X.2.1 dX0_ordersOf_154 (by decide) ?_
                    exact ih2 (j + 1) (va_up y S (y S)) (by omega) (by rw [zp_up_s, h1]; simp [zp_sm, hf]) (fun z hz => by rw [zp_up_n hz]; exact h2 z hz) _ _ O ls (lv_sub hl [4, 5, 6, 7, 0] rfl)
                  · exact absurd rfl e5
                refine lv_iload_n X.1 X.2.1 dX0_ordersOf_72 rfl (lv_at hl 3 rfl) ?_
                refine lv_iconst (v := nI 3) X.1 X.2.1 dX0_ordersOf_73 (by decide) ?_
                refine zw_icmp_lt (tgt := 104) X (by omega) (by decide) dX0_ordersOf_74 (by decide) (fun c3 => ?_) (fun c3 => ?_)
                · refine lv_iload X.1 X.2.1 dX0_ordersOf_104 (lv_at hl 0 rfl) ?_
                  refine lv_iload_n X.1 X.2.1 dX0_ordersOf_106 rfl (lv_at hl 4 rfl) ?_
                  refine zw_icmp_gt (tgt := 114) X (by omega) (by omega) dX0_ordersOf_107 (by decide) (fun c4 => ?_) (fun c4 => ?_)
                  · refine lv_iconst (v := nI 0) X.1 X.2.1 dX0_ordersOf_114 (by decide) ?_
                    exact JF (by unfold zp_fit; rw [if_neg (by omega)]; exact decide_eq_false (by omega)) ls hl
                  · refine lv_iconst (v := nI 1) X.1 X.2.1 dX0_ordersOf_110 (by decide) ?_
                    refine lv_goto (tgt := 115) X.1 X.2.1 dX0_ordersOf_111 (by decide) ?_
                    exact JT (by unfold zp_fit; rw [if_neg (by omega)]; exact decide_eq_true c4) ls hl
                · refine zx_f X O hl 2 rfl 1 (by decide) q42 rfl dX0_ordersOf_77 dX0_ordersOf_78 ?_
                  refine lv_iload X.1 X.2.1 dX0_ordersOf_81 (lv_at hl 1 rfl) ?_
                  refine zw_ld X O 1 rfl (zp_sd_lt cb) (by decide) dX0_ordersOf_83 ?_
                  refine lv_iload X.1 X.2.1 dX0_ordersOf_84 (lv_at hl 0 rfl) ?_
                  refine zw_add X dX0_ordersOf_86 ?_
                  refine zx_f X O hl 2 rfl 1 (by decide) q42 rfl dX0_ordersOf_87 dX0_ordersOf_88 ?_
                  refine lv_iload_n X.1 X.2.1 dX0_ordersOf_91 rfl (lv_at hl 5 rfl) ?_
                  refine zw_ld X O 1 rfl cb (by decide) dX0_ordersOf_92 ?_
                  refine zw_icmp_ne (tgt := 100) X (by omega) (by omega) dX0_ordersOf_93 (by decide) (fun c5 => ?_) (fun c5 => ?_)
                  · refine lv_iconst (v := nI 0) X.1 X.2.1 dX0_ordersOf_100 (by decide) ?_
                    refine lv_goto (tgt := 115) X.1 X.2.1 dX0_ordersOf_101 (by decide) ?_
                    exact JF (by unfold zp_fit; rw [if_pos c3]; exact decide_eq_false c5) ls hl
                  · refine lv_iconst (v := nI 1) X.1 X.2.1 dX0_ordersOf_96 (by decide) ?_
                    refine lv_goto (tgt := 115) X.1 X.2.1 dX0_ordersOf_97 (by decide) ?_
                    exact JT (by unfold zp_fit; rw [if_pos c3]; exact decide_eq_true c5) ls hl
        exact L38 6 0 (va_up u S 0) (by omega) (zp_up_s _ _ _) (fun z hz => zp_up_n hz) _ _ O ls (lv_sub hl [1, 2, 3, 4, 0] rfl)
  exact L22 63 1 (va_up wy 0 1) (by omega) (by omega) (zp_RW_0 g k x wy) _ _ O ls (lv_sub hl [2, 3, 1, 0] rfl)
abbrev rX0_orderAt : Room := { frames := 4, cells := 0, slots := 0, locals := 103 }
set_option maxHeartbeats 4000000 in
set_option maxRecDepth 100000 in
/-- the point at a place of the first order with the least cost -/
theorem zX_orderAt (l : Launch) (D : va_G) (dA : ClassId) (h0 : Nat) (a : Nat → Nat) (g co wy ah pl tr : Nat → Nat) (hg : ∀ p, p < 6 → g p < 64) (k d : Nat) (hk : k < 5) (hd : d < 6) (o : Nat → Nat) (hG : ∀ x, zp_RA g k x 0 → zp_Gr g k x o) : zw_Ci l D dA yX0_orderAt cX0_orderAt 12 (some .int) rX0_orderAt 0 h0 [.int (nI k), .int (nI d)] (fX a) (sX a g co wy ah pl tr) (fun r fs as => ∃ x, r = nI (o d) ∧ fs = fX a ∧ as = sX a g co wy x pl tr) := by
  refine zw_Ci.mk (ty := .int) (own := RX0) (lv0 := [(0, .ref h0), (1, .int (nI k)), (2, .int (nI d))]) rfl rfl (by decide +kernel) (Nat.le_of_ble_eq_true rfl) rfl ?_
  intro p e s m args below meth c A Q X RET ls hl O
  refine lv_aload_n X.1 X.2.1 dX0_orderAt_0 rfl (lv_at hl 0 rfl) ?_
  refine lv_iload_n X.1 X.2.1 dX0_orderAt_1 rfl (lv_at hl 1 rfl) ?_
  refine zw_callv X O (zX_fillAhead l D dA h0 a g co wy ah pl tr hg k hk) rfl 1 (lw_V q174 q176 qs15 q31 q177) rfl rfl (by decide +kernel) ⟨Nat.le_of_ble_eq_true rfl, Nat.le_of_ble_eq_true rfl⟩ rfl hl.1 rfl (Nat.le_of_ble_eq_true rfl) dX0_orderAt_2 ⟨Nat.zero_le _, Nat.zero_le _⟩ (fun fs' as' H locs hp O => ?_)
  obtain ⟨x, hA, rfl, rfl⟩ := hp
  obtain ⟨Sq, ac, hS0, hc0, hGr⟩ := hG x hA
  refine lv_iconst (v := nI 0) X.1 X.2.1 dX0_orderAt_5 (by decide) ?_
  refine lv_istore_n (lv' := [(3, .int (nI 0)), (0, .ref h0), (1, .int (nI k)), (2, .int (nI d))]) X.1 X.2.1 dX0_orderAt_6 rfl hl (by decide) rfl (fun ls hl => ?_)
  refine lv_iconst (v := nI 0) X.1 X.2.1 dX0_orderAt_7 (by decide) ?_
  refine lv_istore (lv' := [(4, .int (nI 0)), (3, .int (nI 0)), (0, .ref h0), (1, .int (nI k)), (2, .int (nI d))]) X.1 X.2.1 dX0_orderAt_8 hl (by decide) rfl (fun ls hl => ?_)
  refine lv_bipush (v := -4) X.1 X.2.1 dX0_orderAt_10 (by decide) ?_
  refine lv_istore (lv' := [(5, .int (-4)), (4, .int (nI 0)), (3, .int (nI 0)), (0, .ref h0), (1, .int (nI k)), (2, .int (nI d))]) X.1 X.2.1 dX0_orderAt_12 hl (by decide) rfl (fun ls hl => ?_)
  refine lv_iconst (v := nI 0) X.1 X.2.1 dX0_orderAt_14 (by decide) ?_
  refine lv_istore (lv' := [(6, .int (nI 0)), (5, .int (-4)), (4, .int (nI 0)), (3, .int (nI 0)), (0, .ref h0), (1, .int (nI k)), (2, .int (nI d))]) X.1 X.2.1 dX0_orderAt_15 hl (by decide) rfl (fun ls hl => ?_)
  have L17 : ∀ (n : Nat) (i : Nat) (fd : Int32), (i + n = d + 1) → (0 < i → fd = nI (o (i - 1))) → ∀ (H : Heap) (locs : List Loc), zw_O D dA A s H locs 0 h0 (fX a) (sX a g co wy x pl tr) → ∀ (ls : Array Slot), lv_has ls 12 [(0, .ref h0), (1, .int (nI k)), (2, .int (nI d)), (3, .int (nI (Sq i))), (4, .int (nI (ac i))), (5, .int fd), (6, .int (nI i))] → W p l e rX0_orderAt s m args below meth c H locs 0 0 Q (F0 m 17 ls []) := by
    intro n
    induction n with
    | zero =>
      intro i fd hi hf H locs O ls hl
      refine lv_iload X.1 X.2.1 dX0_orderAt_17 (lv_at hl 6 rfl) ?_
      refine lv_iload_n X.1 X.2.1 dX0_orderAt_19 rfl (lv_at hl 2 rfl) ?_
      refine zw_icmp_gt (tgt := 126) X (by omega) (by omega) dX0_orderAt_20 (by decide) (fun cb => ?_) (fun cb => ?_)
      · refine lv_iload X.1 X.2.1 dX0_orderAt_126 (lv_at hl 5 rfl) ?_
        exact RET _ _ _ _ _ _ _ O ⟨x, by rw [hf (by omega), show i - 1 = d by omega], rfl, rfl⟩ rfl dX0_orderAt_128
      · exact absurd cb (by omega)
    | succ n ih =>
      intro i fd hi hf H locs O ls hl
      refine lv_iload X.1 X.2.1 dX0_orderAt_17 (lv_at hl 6 rfl) ?_
      refine lv_iload_n X.1 X.2.1 dX0_orderAt_19 rfl (lv_at hl 2 rfl) ?_
      refine zw_icmp_gt (tgt := 126) X (by omega) (by omega) dX0_orderAt_20 (by decide) (fun cb => ?_) (fun cb => ?_)
      · exact absurd cb (by omega)
      · obtain ⟨g1, g2, g3, g4, g5, g6, g7⟩ := hGr i (by omega)
        refine lv_iconst (v := nI 0) X.1 X.2.1 dX0_orderAt_23 (by decide) ?_
        refine lv_istore (lv' := [(7, .int (nI 0)), (0, .ref h0), (1, .int (nI k)), (2, .int (nI d)), (3, .int (nI (Sq i))), (4, .int (nI (ac i))), (5, .int fd), (6, .int (nI i))]) X.1 X.2.1 dX0_orderAt_24 hl (by decide) rfl (fun ls hl => ?_)
        refine lv_iconst (v := nI 5) X.1 X.2.1 dX0_orderAt_26 (by decide) ?_
        refine zw_top (y := nI 6 - 1) (by decide) ?_
        refine lv_istore (lv' := [(8, .int (nI 6 - 1)), (7, .int (nI 0)), (0, .ref h0), (1, .int (nI k)), (2, .int (nI d)), (3, .int (nI (Sq i))), (4, .int (nI (ac i))), (5, .int fd), (6, .int (nI i))]) X.1 X.2.1 dX0_orderAt_27 hl (by decide) rfl (fun ls hl => ?_)
        have L29 : ∀ (q : Nat) (fe : Int32) (nx : Nat), (q ≤ 6) → (q ≤ o i → fe = nI (o i) ∧ nx = zp_jn k (ac i) (zp_pr g k (Sq i) (o i))) → ∀ (H : Heap) (locs : List Loc), zw_O D dA A s H locs 0 h0 (fX a) (sX a g co wy x pl tr) → ∀ (ls : Array Slot), lv_has ls 12 [(0, .ref h0), (1, .int (nI k)), (2, .int (nI d)), (3, .int (nI (Sq i))), (4, .int (nI (ac i))), (5, .int fe), (6, .int (nI i)), (7, .int (nI nx)), (8, .int (nI q - 1))] → W p l e rX0_orderAt s m args below meth c H locs 0 0 Q (F0 m 29 ls []) := by
          intro q
          induction q with
          | zero =>
            intro fe nx hq hn H locs O ls hl
            refine lv_iload X.1 X.2.1 dX0_orderAt_29 (lv_at hl 8 rfl) ?_
            refine zw_down0 (tgt := 109) X dX0_orderAt_31 (by decide) ?_
            obtain ⟨e5, e7⟩ := hn (Nat.zero_le _)
            rw [e5, e7] at hl
            refine lv_iload X.1 X.2.1 dX0_orderAt_109 (lv_at hl 7 rfl) ?_
            refine lv_istore (lv' := [(4, .int (nI (zp_jn k (ac i) (zp_pr g k (Sq i) (o i))))), (0, .ref h0), (1, .int (nI k)), (2, .int (nI d)), (3, .int (nI (Sq i))), (5, .int (nI (o i))), (6, .int (nI i)), (7, .int (nI (zp_jn k (ac i) (zp_pr g k (Sq i) (o i))))), (8, .int (nI 0 - 1))]) X.1 X.2.1 dX0_orderAt_111 hl (by decide) rfl (fun ls hl => ?_)
            refine lv_iload_n X.1 X.2.1 dX0_orderAt_113 rfl (lv_at hl 4 rfl) ?_
            refine lv_iconst (v := nI 1) X.1 X.2.1 dX0_orderAt_114 (by decide) ?_
            refine lv_iload X.1 X.2.1 dX0_orderAt_115 (lv_at hl 5 rfl) ?_
            refine zw_shl X g3 dX0_orderAt_117 ?_
            refine zw_or X dX0_orderAt_118 ?_
            refine lv_istore_n (lv' := [(3, .int (nI ((Sq i) ||| (2 ^ (o i))))), (4, .int (nI (zp_jn k (ac i) (zp_pr g k (Sq i) (o i))))), (0, .ref h0), (1, .int (nI k)), (2, .int (nI d)), (5, .int (nI (o i))), (6, .int (nI i)), (7, .int (nI (zp_jn k (ac i) (zp_pr g k (Sq i) (o i))))), (8, .int (nI 0 - 1))]) X.1 X.2.1 dX0_orderAt_119 rfl hl (by decide) rfl (fun ls hl => ?_)
            refine lv_iinc (v := nI (i + 1)) (lv' := [(6, .int (nI (i + 1))), (3, .int (nI ((Sq i) ||| (2 ^ (o i))))), (4, .int (nI (zp_jn k (ac i) (zp_pr g k (Sq i) (o i))))), (0, .ref h0), (1, .int (nI k)), (2, .int (nI d)), (5, .int (nI (o i))), (7, .int (nI (zp_jn k (ac i) (zp_pr g k (Sq i) (o i))))), (8, .int (nI 0 - 1))]) X.1 X.2.1 dX0_orderAt_120 hl (k := 6) rfl (zi_inc _) (by decide) rfl (fun ls hl => ?_)
            refine lv_goto (tgt := 17) X.1 X.2.1 dX0_orderAt_123 (by decide) ?_
            rw [← g6, ← g7] at hl
            exact ih (i + 1) (nI (o i)) (by omega) (fun _ => rfl) _ _ O ls (lv_sub hl [3, 4, 5, 1, 2, 6, 0] rfl)
          | succ q ih =>
            intro fe nx hq hn H locs O ls hl
            have ih2 := ih
            rw [nI_pred] at hl
            have hq6 : q < 6 := by omega
            refine lv_iload X.1 X.2.1 dX0_orderAt_29 (lv_at hl 8 rfl) ?_
            refine zw_if_lt (tgt := 109) X (by omega) dX0_orderAt_31 (by decide) ?_
            refine lv_iload_n X.1 X.2.1 dX0_orderAt_34 rfl (lv_at hl 3 rfl) ?_
            refine lv_iload X.1 X.2.1 dX0_orderAt_35 (lv_at hl 8 rfl) ?_
            refine zw_bit X g1 hq6 dX0_orderAt_37 dX0_orderAt_38 dX0_orderAt_39 ?_
            refine zw_tbif (tgt := 103) X dX0_orderAt_40 (by decide) (fun c2 => ?_) (fun c2 => ?_)
            · refine lv_iinc (v := nI q - 1) (lv' := [(8, .int (nI q - 1)), (0, .ref h0), (1, .int (nI k)), (2, .int (nI d)), (3, .int (nI (Sq i))), (4, .int (nI (ac i))), (5, .int fe), (6, .int (nI i)), (7, .int (nI nx))]) X.1 X.2.1 dX0_orderAt_103 hl (k := 8) rfl (zi_down _) (by decide) rfl (fun ls hl => ?_)
              refine lv_goto (tgt := 29) X.1 X.2.1 dX0_orderAt_106 (by decide) ?_
              exact ih2 fe nx (by omega) (fun h => hn (Nat.lt_of_le_of_ne h (fun e9 => by have := g4.1; rw [← e9, c2] at this; exact absurd this (by decide)))) _ _ O ls (lv_sub hl [1, 2, 3, 4, 5, 6, 7, 8, 0] rfl)
            · refine lv_aload_n X.1 X.2.1 dX0_orderAt_43 rfl (lv_at hl 0 rfl) ?_
              refine lv_iload_n X.1 X.2.1 dX0_orderAt_44 rfl (lv_at hl 1 rfl) ?_
              refine lv_iload_n X.1 X.2.1 dX0_orderAt_45 rfl (lv_at hl 3 rfl) ?_
              refine lv_iload X.1 X.2.1 dX0_orderAt_46 (lv_at hl 8 rfl) ?_
              refine zw_calli X O (zX_price l D dA h0 a g co wy x pl tr hg k (Sq i) q hk g1 hq6) rfl 3 (lw_V q98 q100 qs5 q31 q101) rfl rfl (by decide +kernel) ⟨Nat.le_of_ble_eq_true rfl, Nat.le_of_ble_eq_true rfl⟩ rfl hl.1 rfl (Nat.le_of_ble_eq_true rfl) dX0_orderAt_48 ⟨Nat.zero_le _, Nat.zero_le _⟩ (fun r fs' as' H locs hp O => ?_)
              obtain ⟨rfl, rfl, rfl⟩ := hp
              have b2 := zp_pr_le g k (Sq i) q
              have b5 : Sq i ||| 2 ^ q < 64 := zp_or_lt g1 (zp_pw_lt q hq6)
              have b1 := zp_RA_le hA _ (Nat.zero_le _) b5
              have b0 := zp_RA_le hA 0 (Nat.zero_le _) (by decide)
              refine lv_istore (lv' := [(9, .int (nI (zp_pr g k (Sq i) q))), (0, .ref h0), (1, .int (nI k)), (2, .int (nI d)), (3, .int (nI (Sq i))), (4, .int (nI (ac i))), (5, .int fe), (6, .int (nI i)), (7, .int (nI nx)), (8, .int (nI q))]) X.1 X.2.1 dX0_orderAt_51 hl (by decide) rfl (fun ls hl => ?_)
              refine lv_aload_n X.1 X.2.1 dX0_orderAt_53 rfl (lv_at hl 1 rfl) ?_
              refine lv_iload_n X.1 X.2.1 dX0_orderAt_54 rfl (lv_at hl 2 rfl) ?_
              refine lv_iload X.1 X.2.1 dX0_orderAt_55 (lv_at hl 5 rfl) ?_
              refine lv_iload X.1 X.2.1 dX0_orderAt_57 (lv_at hl 0 rfl) ?_
              refine zw_calli X O (zX_joined l D dA h0 a g co wy x pl tr k (ac i) (zp_pr g k (Sq i) q) hk (by omega) (by omega)) rfl 3 (lw_V q118 q120 qs10 q31 q121) rfl rfl (by decide +kernel) ⟨Nat.le_of_ble_eq_true rfl, Nat.le_of_ble_eq_true rfl⟩ rfl hl.1 rfl (Nat.le_of_ble_eq_true rfl) dX0_orderAt_59 ⟨Nat.zero_le _, Nat.zero_le _⟩ (fun r fs' as' H locs hp O => ?_)
              obtain ⟨rfl, rfl, rfl⟩ := hp
              have b3 := zp_jn_le (k := k) g2 (Nat.le_trans b2 (by decide))
              refine lv_istore (lv' := [(10, .int (nI (zp_jn k (ac i) (zp_pr g k (Sq i) q)))), (9, .int (nI (zp_pr g k (Sq i) q))), (0, .ref h0), (1, .int (nI k)), (2, .int (nI d)), (3, .int (nI (Sq i))), (4, .int (nI (ac i))), (5, .int fe), (6, .int (nI i)), (7, .int (nI nx)), (8, .int (nI q))]) X.1 X.2.1 dX0_orderAt_62 hl (by decide) rfl (fun ls hl => ?_)
              refine lv_aload_n X.1 X.2.1 dX0_orderAt_64 rfl (lv_at hl 2 rfl) ?_
              refine lv_iload_n X.1 X.2.1 dX0_orderAt_65 rfl (lv_at hl 3 rfl) ?_
              refine lv_iload X.1 X.2.1 dX0_orderAt_66 (lv_at hl 0 rfl) ?_
              refine zx_f X O hl 2 rfl 3 (by decide) q44 rfl dX0_orderAt_68 dX0_orderAt_69 ?_
              refine lv_iload_n X.1 X.2.1 dX0_orderAt_72 rfl (lv_at hl 5 rfl) ?_
              refine lv_iconst (v := nI 1) X.1 X.2.1 dX0_orderAt_73 (by decide) ?_
              refine lv_iload X.1 X.2.1 dX0_orderAt_74 (lv_at hl 10 rfl) ?_
              refine zw_shl X hq6 dX0_orderAt_76 ?_
              refine zw_or X dX0_orderAt_77 ?_
              refine zw_ld X O 3 rfl (zp_or_lt g1 (zp_pw_lt _ hq6)) (by decide) dX0_orderAt_78 ?_
              refine zw_calli X O (zX_joined l D dA h0 a g co wy x pl tr k (zp_jn k (ac i) (zp_pr g k (Sq i) q)) (x (Sq i ||| 2 ^ q)) hk (by omega) (by omega)) rfl 3 (lw_V q118 q120 qs10 q31 q121) rfl rfl (by decide +kernel) ⟨Nat.le_of_ble_eq_true rfl, Nat.le_of_ble_eq_true rfl⟩ rfl hl.1 rfl (Nat.le_of_ble_eq_true rfl) dX0_orderAt_79 ⟨Nat.zero_le _, Nat.zero_le _⟩ (fun r fs' as' H locs hp O => ?_)
              obtain ⟨rfl, rfl, rfl⟩ := hp
              have b4 := zp_jn_le (k := k) b3 (Nat.le_trans b1 (by decide))
              refine lv_istore (lv' := [(11, .int (nI (zp_jn k (zp_jn k (ac i) (zp_pr g k (Sq i) q)) (x (Sq i ||| 2 ^ q))))), (10, .int (nI (zp_jn k (ac i) (zp_pr g k (Sq i) q)))), (9, .int (nI (zp_pr g k (Sq i) q))), (0, .ref h0), (1, .int (nI k)), (2, .int (nI d)), (3, .int (nI (Sq i))), (4, .int (nI (ac i))), (5, .int fe), (6, .int (nI i)), (7, .int (nI nx)), (8, .int (nI q))]) X.1 X.2.1 dX0_orderAt_82 hl (by decide) rfl (fun ls hl => ?_)
              refine lv_iload X.1 X.2.1 dX0_orderAt_84 (lv_at hl 0 rfl) ?_
              refine zx_f X O hl 3 rfl 3 (by decide) q44 rfl dX0_orderAt_86 dX0_orderAt_87 ?_
              refine lv_iconst (v := nI 0) X.1 X.2.1 dX0_orderAt_90 (by decide) ?_
              refine zw_ld X O 3 rfl (by decide) (by decide) dX0_orderAt_91 ?_
              refine zw_icmp_ne (tgt := 103) X (by omega) (by omega) dX0_orderAt_92 (by decide) (fun c3 => ?_) (fun c3 => ?_)
              · refine lv_iinc (v := nI q - 1) (lv' := [(8, .int (nI q - 1)), (11, .int (nI (zp_jn k (zp_jn k (ac i) (zp_pr g k (Sq i) q)) (x (Sq i ||| 2 ^ q))))), (10, .int (nI (zp_jn k (ac i) (zp_pr g k (Sq i) q)))), (9, .int (nI (zp_pr g k (Sq i) q))), (0, .ref h0), (1, .int (nI k)), (2, .int (nI d)), (3, .int (nI (Sq i))), (4, .int (nI (ac i))), (5, .int fe), (6, .int (nI i)), (7, .int (nI nx))]) X.1 X.2.1 dX0_orderAt_103 hl (k := 11) rfl (zi_down _) (by decide) rfl (fun ls hl => ?_)
                refine lv_goto (tgt := 29) X.1 X.2.1 dX0_orderAt_106 (by decide) ?_
                exact ih2 fe nx (by omega) (fun h => hn (Nat.lt_of_le_of_ne h (fun e9 => by have := g4.2; rw [← e9] at this; exact c3 this))) _ _ O ls (lv_sub hl [4, 5, 6, 7, 8, 9, 10, 11, 0] rfl)
              · refine lv_iload X.1 X.2.1 dX0_orderAt_95 (lv_at hl 11 rfl) ?_
                refine lv_istore (lv' := [(5, .int (nI q)), (11, .int (nI (zp_jn k (zp_jn k (ac i) (zp_pr g k (Sq i) q)) (x (Sq i ||| 2 ^ q))))), (10, .int (nI (zp_jn k (ac i) (zp_pr g k (Sq i) q)))), (9, .int (nI (zp_pr g k (Sq i) q))), (0, .ref h0), (1, .int (nI k)), (2, .int (nI d)), (3, .int (nI (Sq i))), (4, .int (nI (ac i))), (6, .int (nI i)), (7, .int (nI nx)), (8, .int (nI q))]) X.1 X.2.1 dX0_orderAt_97 hl (by decide) rfl (fun ls hl => ?_)
                refine lv_iload X.1 X.2.1 dX0_orderAt_99 (lv_at hl 2 rfl) ?_
                refine lv_istore (lv' := [(7, .int (nI (zp_jn k (ac i) (zp_pr g k (Sq i) q)))), (5, .int (nI q)), (11, .int (nI (zp_jn k (zp_jn k (ac i) (zp_pr g k (Sq i) q)) (x (Sq i ||| 2 ^ q))))), (10, .int (nI (zp_jn k (ac i) (zp_pr g k (Sq i) q)))), (9, .int (nI (zp_pr g k (Sq i) q))), (0, .ref h0), (1, .int (nI k)), (2, .int (nI d)), (3, .int (nI (Sq i))), (4, .int (nI (ac i))), (6, .int (nI i)), (8, .int (nI q))]) X.1 X.2.1 dX0_orderAt_101 hl (by decide) rfl (fun ls hl => ?_)
                refine lv_iinc (v := nI q - 1) (lv' := [(8, .int (nI q - 1)), (7, .int (nI (zp_jn k (ac i) (zp_pr g k (Sq i) q)))), (5, .int (nI q)), (11, .int (nI (zp_jn k (zp_jn k (ac i) (zp_pr g k (Sq i) q)) (x (Sq i ||| 2 ^ q))))), (10, .int (nI (zp_jn k (ac i) (zp_pr g k (Sq i) q)))), (9, .int (nI (zp_pr g k (Sq i) q))), (0, .ref h0), (1, .int (nI k)), (2, .int (nI d)), (3, .int (nI (Sq i))), (4, .int (nI (ac i))), (6, .int (nI i))]) X.1 X.2.1 dX0_orderAt_103 hl (k := 11) rfl (zi_down _) (by decide) rfl (fun ls hl => ?_)
                refine lv_goto (tgt := 29) X.1 X.2.1 dX0_orderAt_106 (by decide) ?_
                exact ih2 (nI q) (zp_jn k (ac i) (zp_pr g k (Sq i) q)) (by omega) (fun h => by
                  have e9 : q = o i := by
                    rcases Nat.lt_or_ge q (o i) with h8 | h8
                    · exact absurd ⟨c2, c3⟩ (g5 q h8)
                    · exact Nat.le_antisymm h h8
                  rw [e9]; exact ⟨rfl, rfl⟩) _ _ O ls (lv_sub hl [6, 7, 8, 9, 10, 2, 11, 1, 0] rfl)
        exact L29 6 fd 0 (Nat.le_refl _) (fun h => absurd h (by omega)) _ _ O ls (lv_sub hl [2, 3, 4, 5, 6, 7, 8, 1, 0] rfl)
  have hl : lv_has ls 12 [(6, .int (nI 0)), (5, .int (-4)), (4, .int (nI (ac 0))), (3, .int (nI (Sq 0))), (0, .ref h0), (1, .int (nI k)), (2, .int (nI d))] := by rw [hS0, hc0]; exact hl
  exact L17 (d + 1) 0 (-4) (by omega) (fun h => absurd h (by omega)) _ _ O ls (lv_sub hl [4, 5, 6, 3, 2, 1, 0] rfl)
end
section
/-! HELP 2: an array is what it holds below its length; bad arguments; lines turned -/
theorem zw_O_ext {D : va_G} {dA : ClassId} {A : Nat → Prop} {s : State} {H : Heap} {locs : List Loc} {ci h0 : Nat} {fs : List Value} {as : zw_L} (O : zw_O D dA A s H locs ci h0 fs as) (j : Nat) {b n : Nat} {y : Nat → Nat} (ha : as[j]? = some (b, n, y)) (y' : Nat → Nat) (h : ∀ x, x < n → y x = y' x) : zw_O D dA A s H locs ci h0 fs (as.set j (b, n, y')) := by
  have hj : j < as.length := (List.getElem?_eq_some_iff.mp ha).1
  have key : ∀ (k : Nat) (q : Nat × va_E), (zw_ow dA ci h0 fs (as.set j (b, n, y')))[k]? = some q → (k = j + 1 ∧ q = zw_cell dA (b, n, y')) ∨ (k ≠ j + 1 ∧ (zw_ow dA ci h0 fs as)[k]? = some q) := by
    intro k q hq
    cases k with
    | zero => exact Or.inr ⟨by omega, hq⟩
    | succ i =>
      unfold zw_ow at hq ⊢
      rw [List.getElem?_cons_succ, List.getElem?_map] at hq
      by_cases e : i = j
      · subst e
        rw [List.getElem?_set_self hj] at hq
        exact Or.inl ⟨rfl, (Option.some.inj hq).symm⟩
      · rw [List.getElem?_set_ne (fun z => e z.symm)] at hq
        refine Or.inr ⟨by omega, ?_⟩
        rw [List.getElem?_cons_succ, List.getElem?_map]
        exact hq
  have hold : (zw_ow dA ci h0 fs as)[j + 1]? = some (zw_cell dA (b, n, y)) := zw_at ha
  refine ⟨O.1, ?_, ⟨?_, ?_⟩, O.2.2.2.1, O.2.2.2.2⟩
  · intro k q hq
    rcases key k q hq with ⟨-, e⟩ | ⟨-, e⟩
    · subst e
      have h1 := O.2.1 _ _ hold
      have h2 : H[b]? = some (arrV dA n (fun i => .int (nI (y i)))) := h1
      have h3 : arrV dA n (fun i => .int (nI (y i))) = arrV dA n (fun i => .int (nI (y' i))) := by
        unfold arrV
        congr 1
        congr 1
        funext i
        show Value.int (nI (y i.val)) = Value.int (nI (y' i.val))
        rw [h i.val i.isLt]
      show H[b]? = some (arrV dA n (fun i => .int (nI (y' i))))
      rw [← h3]
      exact h2
    · exact O.2.1 k q e
  · intro i k x z hi hk hxz
    rcases key i x hi with ⟨e1, e2⟩ | ⟨e1, e2⟩ <;> rcases key k z hk with ⟨f1, f2⟩ | ⟨f1, f2⟩
    · omega
    · subst e2
      have := O.2.2.1.1 (j + 1) k _ z hold f2 hxz
      omega
    · subst f2
      have := O.2.2.1.1 i (j + 1) x _ e2 hold hxz
      omega
    · exact O.2.2.1.1 i k x z e2 f2 hxz
  · intro k q hq
    rcases key k q hq with ⟨-, e⟩ | ⟨-, e⟩
    · subst e
      have h9 := O.2.2.1.2 _ _ hold
      exact h9
    · exact O.2.2.1.2 k q e
def zp_bad (x : Int32) : Nat := if x < 0 ∨ nI 6 ≤ x then 1 else 0
theorem zp_bad_le (x : Int32) : zp_bad x ≤ 1 := by unfold zp_bad; split <;> decide
theorem zp_bad_ok : ∀ i, i < 6 → zp_bad (nI i) = 0 := by decide
theorem zp_bad_of {x : Int32} (h : zp_bad x = 0) : ∃ i, i < 6 ∧ x = nI i := by
  unfold zp_bad at h
  rcases pk_ix x (n := 6) (by decide) with q | q | q
  · rw [if_pos (Or.inl q)] at h; exact absurd h (by decide)
  · rw [if_pos (Or.inr q)] at h; exact absurd h (by decide)
  · exact q
theorem zp_bad_1 {x : Int32} (h : ¬ zp_bad x = 0) : zp_bad x = 1 := by have := zp_bad_le x; omega
def zp_tn (g : Nat → Nat) (i j : Nat) : Nat → Nat := va_up (va_up g i ((g i) ^^^ (2 ^ j))) j ((va_up g i ((g i) ^^^ (2 ^ j)) j) ^^^ (2 ^ i))
theorem zp_tn_at {g : Nat → Nat} {i j : Nat} (h : i ≠ j) (x : Nat) : zp_tn g i j x = if x = i then g i ^^^ 2 ^ j else if x = j then g j ^^^ 2 ^ i else g x := by
  unfold zp_tn
  by_cases e : x = j
  · subst e
    rw [zp_up_s, zp_up_n (fun z => h z.symm), if_neg (fun z => h z.symm), if_pos rfl]
  · rw [zp_up_n e]
    by_cases f : x = i
    · subst f
      rw [zp_up_s, if_pos rfl]
    · rw [zp_up_n f, if_neg f, if_neg e]
theorem zp_tn_lt {g : Nat → Nat} {i j : Nat} (hg : ∀ p, p < 6 → g p < 64) (hi : i < 6) (hj : j < 6) (h : i ≠ j) : ∀ p, p < 6 → zp_tn g i j p < 64 := by
  intro p hp
  rw [zp_tn_at h]
  split
  · exact zp_xor_lt (hg i hi) (zp_pw_lt j hj)
  · split
    · exact zp_xor_lt (hg j hj) (zp_pw_lt i hi)
    · exact hg p hp
theorem zp_tn_tn {g : Nat → Nat} {i j : Nat} (h : i ≠ j) (x : Nat) : zp_tn (zp_tn g i j) i j x = g x := by
  rw [zp_tn_at h, zp_tn_at h, zp_tn_at h, zp_tn_at h]
  by_cases e : x = i
  · subst e
    rw [if_pos rfl, if_pos rfl, Nat.xor_assoc, Nat.xor_self, Nat.xor_zero]
  · rw [if_neg e]
    by_cases f : x = j
    · subst f
      rw [if_pos rfl, if_neg e, if_pos rfl, Nat.xor_assoc, Nat.xor_self, Nat.xor_zero]
    · rw [if_neg f, if_neg e, if_neg f]
theorem zp_ok_t {g pl : Nat → Nat} {u d far : Nat} (h : ∀ x, x < d - far → (g u).testBit (pl x) = false) : zp_ok g pl u d far = true := by
  unfold zp_ok
  rw [List.all_eq_true]
  intro x hx
  rw [h x (List.mem_range.mp hx)]
  rfl
theorem zp_ok_f {g pl : Nat → Nat} {u d far x : Nat} (hx : x < d - far) (h : (g u).testBit (pl x) = true) : zp_ok g pl u d far = false := by
  cases hh : zp_ok g pl u d far
  · rfl
  · unfold zp_ok at hh
    rw [List.all_eq_true] at hh
    have := hh x (List.mem_range.mpr hx)
    rw [h] at this
    exact absurd this (by decide)
theorem zi_low0 : ∀ S, S < 64 → 0 < S → nI S &&& -(nI S) = nI (2 ^ zp_low S) := by decide +kernel
theorem zi_low (S : Nat) (h0 : 0 < S) (h : S < 64) : nI S &&& -(nI S) = nI (2 ^ zp_low S) := zi_low0 S h h0
theorem zp_low_lt (S : Nat) : zp_low S < 6 := by unfold zp_low; repeat (first | decide | split)
theorem zp_pw_eq : ∀ a, a < 6 → ∀ b, b < 6 → (2 ^ a = 2 ^ b ↔ a = b) := by decide
theorem zp_rest0 : ∀ S, S < 64 → 0 < S → S &&& (S - 1) = zp_sd S (2 ^ zp_low S) ∧ zp_sd S (2 ^ zp_low S) < S := by decide +kernel
theorem zp_rest (S : Nat) (h0 : 0 < S) (h : S < 64) : S &&& (S - 1) = zp_sd S (2 ^ zp_low S) := (zp_rest0 S h h0).1
theorem zp_rest_lt (S : Nat) (h0 : 0 < S) (h : S < 64) : zp_sd S (2 ^ zp_low S) < S := (zp_rest0 S h h0).2
theorem zp_bst_s (w : Nat → Nat) {S : Nat} (h : 0 < S) : zp_bst w (S + 1) = if w S = 1 ∧ zp_bst w S < zp_pop S then zp_pop S else zp_bst w S := by
  cases S with
  | zero => exact absurd h (by decide)
  | succ n => rfl
theorem zp_bst_le (w : Nat → Nat) : ∀ n, zp_bst w n ≤ 6
  | 0 => by simp [zp_bst]
  | 1 => by simp [zp_bst]
  | n + 2 => by
    rw [zp_bst_s w (Nat.succ_pos n)]
    split
    · exact zp_pop_le _
    · exact zp_bst_le w (n + 1)
theorem zp_bst_congr {w w' : Nat → Nat} : ∀ n, (∀ x, x < n → w x = w' x) → zp_bst w n = zp_bst w' n
  | 0, _ => rfl
  | 1, _ => rfl
  | n + 2, h => by
    rw [zp_bst_s w (Nat.succ_pos n), zp_bst_s w' (Nat.succ_pos n), zp_bst_congr (n + 1) (fun x hx => h x (by omega)), h (n + 1) (by omega)]
theorem zp_RQ_0 (g w : Nat → Nat) : zp_RQ g (va_up w 0 1) 1 := ⟨zp_up_s _ _ _, fun S h1 h2 => by omega⟩
theorem zp_RQ_s {g w : Nat → Nat} {S v : Nat} (h0 : 0 < S) (hS : S < 64) (h : zp_RQ g w S) (hv : v = if w (zp_sd S (2 ^ zp_low S)) = 1 ∧ zp_sd (zp_sd S (2 ^ zp_low S)) (g (zp_low S)) = 0 then 1 else 0) : zp_RQ g (va_up w S v) (S + 1) := by
  refine ⟨by rw [zp_up_n (by omega)]; exact h.1, fun T hT0 hT => ?_⟩
  have h1 := zp_rest_lt T hT0 (by omega)
  by_cases e : T = S
  · subst e
    rw [zp_up_s, zp_up_n (by omega)]
    exact hv
  · rw [zp_up_n e, zp_up_n (by omega)]
    exact h.2 T hT0 (by omega)
section
variable {p : Program} {l : Launch} {e : Env} {R : Room} {s : State} {m : MethodId} {args : Array Value} {below : List Frame} {meth : Method} {c : Code} {H : Heap} {locs : List Loc} {cells slots : Nat} {Q : State → Prop}
variable {cc : ByteArray} {pc : Nat} {ls : Array Slot} {rest : List Value} {nL : Nat} {own : String} {a b d : Nat}
/-- i >= d - far -/
theorem zw_cmpsub {tgt : Nat} {off : Int} (X : CallFix p m c cc nL s args lw_all own) (ha : a < 1000) (hb : b < 1000) (hdd : d < 1000) (hd0 : decode cc pc = .ok (.isub, 1)) (hd : decode cc (pc + 1) = .ok (.if_icmp .ge off, 3)) (ht : ((pc + 1 : Nat) : Int) + off = (tgt : Int)) (kt : d ≤ a + b → W p l e R s m args below meth c H locs cells slots Q (F0 m tgt ls rest)) (kf : a + b < d → W p l e R s m args below meth c H locs cells slots Q (F0 m (pc + 1 + 3) ls rest)) : W p l e R s m args below meth c H locs cells slots Q (F0 m pc ls (.int (nI b) :: .int (nI d) :: .int (nI a) :: rest)) := by
  have h1 : (nI d - nI b).toInt = (d : Int) - b := pk_sub_toInt (by omega) (by omega)
  have h2 : (nI a).toInt = (a : Int) := nI_toInt (by omega)
  refine lv_isub X.1 X.2.1 hd0 ?_
  refine lv_icmp_ge (tgt := tgt) X.1 X.2.1 hd ht (fun h => kt ?_) (fun h => kf ?_)
  · have h3 := Int32.le_iff_toInt_le.mp h
    rw [h1, h2] at h3
    omega
  · have h3 : ¬ (nI d - nI b).toInt ≤ (nI a).toInt := fun q => h (Int32.le_iff_toInt_le.mpr q)
    rw [h1, h2] at h3
    omega
theorem zw_low (X : CallFix p m c cc nL s args lw_all own) (h0 : 0 < a) (ha : a < 64) (hd1 : decode cc pc = .ok (.ineg, 1)) (hd2 : decode cc (pc + 1) = .ok (.iand, 1)) (k : W p l e R s m args below meth c H locs cells slots Q (F0 m (pc + 1 + 1) ls (.int (nI (2 ^ zp_low a)) :: rest))) : W p l e R s m args below meth c H locs cells slots Q (F0 m pc ls (.int (nI a) :: .int (nI a) :: rest)) := by
  refine lv_ineg X.1 X.2.1 hd1 ?_
  refine lv_iand X.1 X.2.1 hd2 ?_
  rw [zi_low a h0 ha]
  exact k
end
end
section
/-! LayoutWidths: contracts, the rest (written by gen/x4.py) -/
abbrev rX0_bad : Room := { frames := 0, cells := 0, slots := 0, locals := 0 }
set_option maxHeartbeats 4000000 in
set_option maxRecDepth 100000 in
/-- whether no point has this number -/
theorem zX_bad (l : Launch) (D : va_G) (dA : ClassId) (h0 : Nat) (a : Nat → Nat) (g co wy ah pl tr : Nat → Nat) (x : Int32) : zw_Ci l D dA yX0_bad cX0_bad 2 (some .boolean) rX0_bad 0 h0 [.int x] (fX a) (sX a g co wy ah pl tr) (fun r fs as => r = nI (zp_bad x) ∧ fs = fX a ∧ as = sX a g co wy ah pl tr) := by
  refine zw_Ci.mk (ty := .boolean) (own := RX0) (lv0 := [(0, .ref h0), (1, .int x)]) rfl rfl (by decide +kernel) (Nat.le_of_ble_eq_true rfl) rfl ?_
  intro p e s m args below meth c A Q X RET ls hl O
  refine lv_iload_n X.1 X.2.1 dX0_bad_0 rfl (lv_at hl 1 rfl) ?_
  refine lv_if_lt (tgt := 10) X.1 X.2.1 dX0_bad_1 (by decide) (fun c1 => ?_) (fun c1 => ?_)
  · refine lv_iconst (v := nI 1) X.1 X.2.1 dX0_bad_10 (by decide) ?_
    refine lv_goto (tgt := 15) X.1 X.2.1 dX0_bad_11 (by decide) ?_
    exact RET _ _ _ _ _ _ _ O ⟨by unfold zp_bad; rw [if_pos (Or.inl c1)], rfl, rfl⟩ rfl dX0_bad_15
  · refine lv_iload_n X.1 X.2.1 dX0_bad_4 rfl (lv_at hl 1 rfl) ?_
    refine lv_bipush (v := nI 6) X.1 X.2.1 dX0_bad_5 (by decide) ?_
    refine lv_icmp_lt (tgt := 14) X.1 X.2.1 dX0_bad_7 (by decide) (fun c2 => ?_) (fun c2 => ?_)
    · refine lv_iconst (v := nI 0) X.1 X.2.1 dX0_bad_14 (by decide) ?_
      exact RET _ _ _ _ _ _ _ O ⟨by unfold zp_bad; rw [if_neg (fun q => by rcases q with q | q; exact c1 q; exact Int32.not_lt.mpr q c2)], rfl, rfl⟩ rfl dX0_bad_15
    · refine lv_iconst (v := nI 1) X.1 X.2.1 dX0_bad_10 (by decide) ?_
      refine lv_goto (tgt := 15) X.1 X.2.1 dX0_bad_11 (by decide) ?_
      exact RET _ _ _ _ _ _ _ O ⟨by unfold zp_bad; rw [if_pos (Or.inr (Int32.not_lt.mp c2))], rfl, rfl⟩ rfl dX0_bad_15
abbrev rX0_turn : Room := { frames := 0, cells := 0, slots := 0, locals := 0 }
set_option maxHeartbeats 4000000 in
set_option maxRecDepth 100000 in
/-- a line put in or taken out -/
theorem zX_turn (l : Launch) (D : va_G) (dA : ClassId) (h0 : Nat) (a : Nat → Nat) (g co wy ah pl tr : Nat → Nat) (i j : Nat) (hi : i < 6) (hj : j < 6) : zw_Cv l D dA yX0_turn cX0_turn 3 rX0_turn 0 h0 [.int (nI i), .int (nI j)] (fX a) (sX a g co wy ah pl tr) (fun fs as => fs = fX a ∧ as = sX a (zp_tn g i j) co wy ah pl tr) := by
  refine zw_Cv.mk (own := RX0) (lv0 := [(0, .ref h0), (1, .int (nI i)), (2, .int (nI j))]) rfl (by decide +kernel) (Nat.le_of_ble_eq_true rfl) rfl ?_
  intro p e s m args below meth c A Q X RET ls hl O
  refine zx_f X O hl 0 rfl 0 (by decide) q41 rfl dX0_turn_0 dX0_turn_1 ?_
  refine lv_iload_n X.1 X.2.1 dX0_turn_4 rfl (lv_at hl 1 rfl) ?_
  refine zx_f X O hl 0 rfl 0 (by decide) q41 rfl dX0_turn_5 dX0_turn_6 ?_
  refine lv_iload_n X.1 X.2.1 dX0_turn_9 rfl (lv_at hl 1 rfl) ?_
  refine zw_ld X O 0 rfl hi (by decide) dX0_turn_10 ?_
  refine lv_iconst (v := nI 1) X.1 X.2.1 dX0_turn_11 (by decide) ?_
  refine lv_iload_n X.1 X.2.1 dX0_turn_12 rfl (lv_at hl 2 rfl) ?_
  refine zw_shl X hj dX0_turn_13 ?_
  refine zw_xor X dX0_turn_14 ?_
  refine zw_st X O 0 rfl hi (by decide) dX0_turn_15 (fun H locs O => ?_)
  have O : zw_O D dA A s H locs 0 h0 (fX a) (sX a (va_up g i ((g i) ^^^ (2 ^ j))) co wy ah pl tr) := O
  refine zx_f X O hl 0 rfl 0 (by decide) q41 rfl dX0_turn_16 dX0_turn_17 ?_
  refine lv_iload_n X.1 X.2.1 dX0_turn_20 rfl (lv_at hl 2 rfl) ?_
  refine zx_f X O hl 0 rfl 0 (by decide) q41 rfl dX0_turn_21 dX0_turn_22 ?_
  refine lv_iload_n X.1 X.2.1 dX0_turn_25 rfl (lv_at hl 2 rfl) ?_
  refine zw_ld X O 0 rfl hj (by decide) dX0_turn_26 ?_
  refine lv_iconst (v := nI 1) X.1 X.2.1 dX0_turn_27 (by decide) ?_
  refine lv_iload_n X.1 X.2.1 dX0_turn_28 rfl (lv_at hl 1 rfl) ?_
  refine zw_shl X hi dX0_turn_29 ?_
  refine zw_xor X dX0_turn_30 ?_
  refine zw_st X O 0 rfl hj (by decide) dX0_turn_31 (fun H locs O => ?_)
  have O : zw_O D dA A s H locs 0 h0 (fX a) (sX a (va_up (va_up g i ((g i) ^^^ (2 ^ j))) j (((va_up g i ((g i) ^^^ (2 ^ j))) j) ^^^ (2 ^ i))) co wy ah pl tr) := O
  exact RET _ _ _ _ _ _ O ⟨rfl, rfl⟩ dX0_turn_32
abbrev rX0_line : Room := { frames := 1, cells := 0, slots := 0, locals := 22 }
set_option maxHeartbeats 4000000 in
set_option maxRecDepth 100000 in
/-- line(i, j) of two points -/
theorem zX_line (l : Launch) (D : va_G) (dA : ClassId) (h0 : Nat) (a : Nat → Nat) (g co wy ah pl tr : Nat → Nat) (hg : ∀ p, p < 6 → g p < 64) (i j : Nat) (hi : i < 6) (hj : j < 6) (hij : i ≠ j) : zw_Ci l D dA yX0_line cX0_line 3 (some .int) rX0_line 0 h0 [.int (nI i), .int (nI j)] (fX a) (sX a g co wy ah pl tr) (fun r fs as => r = nI (zp_tb (zp_tn g i j i) j) ∧ fs = fX a ∧ as = sX a (zp_tn g i j) co wy ah pl tr) := by
  refine zw_Ci.mk (ty := .int) (own := RX0) (lv0 := [(0, .ref h0), (1, .int (nI i)), (2, .int (nI j))]) rfl rfl (by decide +kernel) (Nat.le_of_ble_eq_true rfl) rfl ?_
  intro p e s m args below meth c A Q X RET ls hl O
  refine lv_aload_n X.1 X.2.1 dX0_line_0 rfl (lv_at hl 0 rfl) ?_
  refine lv_iload_n X.1 X.2.1 dX0_line_1 rfl (lv_at hl 1 rfl) ?_
  refine zw_calli X O (zX_bad l D dA h0 a g co wy ah pl tr (nI i)) rfl 1 (lw_V q65 q67 qs0 q31 q68) rfl rfl (by decide +kernel) ⟨Nat.le_of_ble_eq_true rfl, Nat.le_of_ble_eq_true rfl⟩ rfl hl.1 rfl (Nat.le_of_ble_eq_true rfl) dX0_line_2 ⟨Nat.zero_le _, Nat.zero_le _⟩ (fun r fs' as' H locs hp O => ?_)
  obtain ⟨rfl, rfl, rfl⟩ := hp
  refine zw_topn (0) (zp_bad_ok i hi) ?_
  refine zw_if_ne (tgt := 21) X (by decide) dX0_line_5 (by decide) (fun c1 => ?_) (fun c1 => ?_)
  · exact absurd rfl c1
  · refine lv_aload_n X.1 X.2.1 dX0_line_8 rfl (lv_at hl 0 rfl) ?_
    refine lv_iload_n X.1 X.2.1 dX0_line_9 rfl (lv_at hl 2 rfl) ?_
    refine zw_calli X O (zX_bad l D dA h0 a g co wy ah pl tr (nI j)) rfl 1 (lw_V q65 q67 qs0 q31 q68) rfl rfl (by decide +kernel) ⟨Nat.le_of_ble_eq_true rfl, Nat.le_of_ble_eq_true rfl⟩ rfl hl.1 rfl (Nat.le_of_ble_eq_true rfl) dX0_line_10 ⟨Nat.zero_le _, Nat.zero_le _⟩ (fun r fs' as' H locs hp O => ?_)
    obtain ⟨rfl, rfl, rfl⟩ := hp
    refine zw_topn (0) (zp_bad_ok j hj) ?_
    refine zw_if_ne (tgt := 21) X (by decide) dX0_line_13 (by decide) (fun c2 => ?_) (fun c2 => ?_)
    · exact absurd rfl c2
    · refine lv_iload_n X.1 X.2.1 dX0_line_16 rfl (lv_at hl 1 rfl) ?_
      refine lv_iload_n X.1 X.2.1 dX0_line_17 rfl (lv_at hl 2 rfl) ?_
      refine zw_icmp_ne (tgt := 23) X (Nat.lt_trans hi (by decide)) (Nat.lt_trans hj (by decide)) dX0_line_18 (by decide) (fun c3 => ?_) (fun c3 => ?_)
      · refine lv_aload_n X.1 X.2.1 dX0_line_23 rfl (lv_at hl 0 rfl) ?_
        refine lv_iload_n X.1 X.2.1 dX0_line_24 rfl (lv_at hl 1 rfl) ?_
        refine lv_iload_n X.1 X.2.1 dX0_line_25 rfl (lv_at hl 2 rfl) ?_
        refine zw_callv X O (zX_turn l D dA h0 a g co wy ah pl tr i j hi hj) rfl 2 (lw_V q69 q71 qs1 q31 q72) rfl rfl (by decide +kernel) ⟨Nat.le_of_ble_eq_true rfl, Nat.le_of_ble_eq_true rfl⟩ rfl hl.1 rfl (Nat.le_of_ble_eq_true rfl) dX0_line_26 ⟨Nat.zero_le _, Nat.zero_le _⟩ (fun fs' as' H locs hp O => ?_)
        obtain ⟨rfl, rfl⟩ := hp
        refine zx_f X O hl 0 rfl 0 (by decide) q41 rfl dX0_line_29 dX0_line_30 ?_
        refine lv_iload_n X.1 X.2.1 dX0_line_33 rfl (lv_at hl 1 rfl) ?_
        refine zw_ld X O 0 rfl hi (by decide) dX0_line_34 ?_
        refine lv_iload_n X.1 X.2.1 dX0_line_35 rfl (lv_at hl 2 rfl) ?_
        refine zw_bit X (zp_tn_lt hg hi hj hij i hi) hj dX0_line_36 dX0_line_37 dX0_line_38 ?_
        exact RET _ _ _ _ _ _ _ O ⟨rfl, rfl, rfl⟩ rfl dX0_line_39
      · exact absurd c3 hij
set_option maxHeartbeats 4000000 in
set_option maxRecDepth 100000 in
/-- line of no two points -/
theorem zX_lineB (l : Launch) (D : va_G) (dA : ClassId) (h0 : Nat) (a : Nat → Nat) (g co wy ah pl tr : Nat → Nat) (x y : Int32) (hb : zp_bad x = 1 ∨ zp_bad y = 1 ∨ x = y) : zw_Ci l D dA yX0_line cX0_line 3 (some .int) rX0_line 0 h0 [.int x, .int y] (fX a) (sX a g co wy ah pl tr) (fun r fs as => r = -1 ∧ fs = fX a ∧ as = sX a g co wy ah pl tr) := by
  refine zw_Ci.mk (ty := .int) (own := RX0) (lv0 := [(0, .ref h0), (1, .int x), (2, .int y)]) rfl rfl (by decide +kernel) (Nat.le_of_ble_eq_true rfl) rfl ?_
  intro p e s m args below meth c A Q X RET ls hl O
  refine lv_aload_n X.1 X.2.1 dX0_line_0 rfl (lv_at hl 0 rfl) ?_
  refine lv_iload_n X.1 X.2.1 dX0_line_1 rfl (lv_at hl 1 rfl) ?_
  refine zw_calli X O (zX_bad l D dA h0 a g co wy ah pl tr x) rfl 1 (lw_V q65 q67 qs0 q31 q68) rfl rfl (by decide +kernel) ⟨Nat.le_of_ble_eq_true rfl, Nat.le_of_ble_eq_true rfl⟩ rfl hl.1 rfl (Nat.le_of_ble_eq_true rfl) dX0_line_2 ⟨Nat.zero_le _, Nat.zero_le _⟩ (fun r fs' as' H locs hp O => ?_)
  obtain ⟨rfl, rfl, rfl⟩ := hp
  refine zw_if_ne (tgt := 21) X (Nat.lt_of_le_of_lt (zp_bad_le _) (by decide)) dX0_line_5 (by decide) (fun c1 => ?_) (fun c1 => ?_)
  · refine lv_iconst (v := -1) X.1 X.2.1 dX0_line_21 (by decide) ?_
    exact RET _ _ _ _ _ _ _ O ⟨rfl, rfl, rfl⟩ rfl dX0_line_22
  · refine lv_aload_n X.1 X.2.1 dX0_line_8 rfl (lv_at hl 0 rfl) ?_
    refine lv_iload_n X.1 X.2.1 dX0_line_9 rfl (lv_at hl 2 rfl) ?_
    refine zw_calli X O (zX_bad l D dA h0 a g co wy ah pl tr y) rfl 1 (lw_V q65 q67 qs0 q31 q68) rfl rfl (by decide +kernel) ⟨Nat.le_of_ble_eq_true rfl, Nat.le_of_ble_eq_true rfl⟩ rfl hl.1 rfl (Nat.le_of_ble_eq_true rfl) dX0_line_10 ⟨Nat.zero_le _, Nat.zero_le _⟩ (fun r fs' as' H locs hp O => ?_)
    obtain ⟨rfl, rfl, rfl⟩ := hp
    refine zw_if_ne (tgt := 21) X (Nat.lt_of_le_of_lt (zp_bad_le _) (by decide)) dX0_line_13 (by decide) (fun c2 => ?_) (fun c2 => ?_)
    · refine lv_iconst (v := -1) X.1 X.2.1 dX0_line_21 (by decide) ?_
      exact RET _ _ _ _ _ _ _ O ⟨rfl, rfl, rfl⟩ rfl dX0_line_22
    · refine lv_iload_n X.1 X.2.1 dX0_line_16 rfl (lv_at hl 1 rfl) ?_
      refine lv_iload_n X.1 X.2.1 dX0_line_17 rfl (lv_at hl 2 rfl) ?_
      refine lv_icmp_ne (tgt := 23) X.1 X.2.1 dX0_line_18 (by decide) (fun c3 => ?_) (fun c3 => ?_)
      · rcases hb with q | q | q
        · exact absurd c1 (by rw [q]; decide)
        · exact absurd c2 (by rw [q]; decide)
        · exact absurd q c3
      · refine lv_iconst (v := -1) X.1 X.2.1 dX0_line_21 (by decide) ?_
        exact RET _ _ _ _ _ _ _ O ⟨rfl, rfl, rfl⟩ rfl dX0_line_22
abbrev rX0_lines : Room := { frames := 1, cells := 0, slots := 0, locals := 23 }
set_option maxHeartbeats 4000000 in
set_option maxRecDepth 100000 in
/-- how many lines -/
theorem zX_lines (l : Launch) (D : va_G) (dA : ClassId) (h0 : Nat) (a : Nat → Nat) (g co wy ah pl tr : Nat → Nat) (hg : ∀ p, p < 6 → g p < 64)  : zw_Ci l D dA yX0_lines cX0_lines 4 (some .int) rX0_lines 0 h0 [] (fX a) (sX a g co wy ah pl tr) (fun r fs as => r = nI (zp_lns g) ∧ fs = fX a ∧ as = sX a g co wy ah pl tr) := by
  refine zw_Ci.mk (ty := .int) (own := RX0) (lv0 := [(0, .ref h0)]) rfl rfl (by decide +kernel) (Nat.le_of_ble_eq_true rfl) rfl ?_
  intro p e s m args below meth c A Q X RET ls hl O
  refine lv_iconst (v := nI 0) X.1 X.2.1 dX0_lines_0 (by decide) ?_
  refine lv_istore_n (lv' := [(1, .int (nI 0)), (0, .ref h0)]) X.1 X.2.1 dX0_lines_1 rfl hl (by decide) rfl (fun ls hl => ?_)
  refine lv_iconst (v := nI 0) X.1 X.2.1 dX0_lines_2 (by decide) ?_
  refine lv_istore_n (lv' := [(2, .int (nI 0)), (1, .int (nI 0)), (0, .ref h0)]) X.1 X.2.1 dX0_lines_3 rfl hl (by decide) rfl (fun ls hl => ?_)
  have L4 : ∀ (n : Nat) (i : Nat), (i + n = 6) → ∀ (H : Heap) (locs : List Loc), zw_O D dA A s H locs 0 h0 (fX a) (sX a g co wy ah pl tr) → ∀ (ls : Array Slot), lv_has ls 4 [(0, .ref h0), (1, .int (nI (zp_sm (fun p => zp_pop (g p)) i))), (2, .int (nI i))] → W p l e rX0_lines s m args below meth c H locs 0 0 Q (F0 m 4 ls []) := by
    intro n
    induction n with
    | zero =>
      intro i hi H locs O ls hl
      refine lv_iload_n X.1 X.2.1 dX0_lines_4 rfl (lv_at hl 2 rfl) ?_
      refine lv_bipush (v := nI 6) X.1 X.2.1 dX0_lines_5 (by decide) ?_
      refine zw_icmp_ge (tgt := 31) X (by omega) (by decide) dX0_lines_7 (by decide) (fun cb => ?_) (fun cb => ?_)
      · have hb : zp_sm (fun p => zp_pop (g p)) i < 2147483648 := by
          have := zp_sm_le (f := (fun p => zp_pop (g p))) (b := 6) i (fun q _ => zp_pop_le _)
          omega
        refine lv_iload_n X.1 X.2.1 dX0_lines_31 rfl (lv_at hl 1 rfl) ?_
        refine lv_iconst (v := nI 2) X.1 X.2.1 dX0_lines_32 (by decide) ?_
        refine zw_div X hb (by omega) (by decide) dX0_lines_33 ?_
        exact RET _ _ _ _ _ _ _ O ⟨by rw [show i = 6 by omega]; rfl, rfl, rfl⟩ rfl dX0_lines_34
      · exact absurd cb (by omega)
    | succ n ih =>
      intro i hi H locs O ls hl
      refine lv_iload_n X.1 X.2.1 dX0_lines_4 rfl (lv_at hl 2 rfl) ?_
      refine lv_bipush (v := nI 6) X.1 X.2.1 dX0_lines_5 (by decide) ?_
      refine zw_icmp_ge (tgt := 31) X (by omega) (by decide) dX0_lines_7 (by decide) (fun cb => ?_) (fun cb => ?_)
      · exact absurd cb (by omega)
      · refine lv_aload_n X.1 X.2.1 dX0_lines_10 rfl (lv_at hl 0 rfl) ?_
        refine zx_f X O hl 0 rfl 0 (by decide) q41 rfl dX0_lines_11 dX0_lines_12 ?_
        refine lv_iload_n X.1 X.2.1 dX0_lines_15 rfl (lv_at hl 2 rfl) ?_
        refine zw_ld X O 0 rfl (by omega) (by decide) dX0_lines_16 ?_
        refine zw_calli X O (zX_sizeOf l D dA h0 a g co wy ah pl tr (g i) (hg i cb)) rfl 1 (lw_V q81 q83 qs2 q31 q84) rfl rfl (by decide +kernel) ⟨Nat.le_of_ble_eq_true rfl, Nat.le_of_ble_eq_true rfl⟩ rfl hl.1 rfl (Nat.le_of_ble_eq_true rfl) dX0_lines_17 ⟨Nat.zero_le _, Nat.zero_le _⟩ (fun r fs' as' H locs hp O => ?_)
        obtain ⟨rfl, rfl, rfl⟩ := hp
        refine lv_istore_n (lv' := [(3, .int (nI (zp_pop (g i)))), (0, .ref h0), (1, .int (nI (zp_sm (fun p => zp_pop (g p)) i))), (2, .int (nI i))]) X.1 X.2.1 dX0_lines_20 rfl hl (by decide) rfl (fun ls hl => ?_)
        refine lv_iload_n X.1 X.2.1 dX0_lines_21 rfl (lv_at hl 2 rfl) ?_
        refine lv_iload_n X.1 X.2.1 dX0_lines_22 rfl (lv_at hl 0 rfl) ?_
        refine zw_add X dX0_lines_23 ?_
        refine lv_istore_n (lv' := [(1, .int (nI ((zp_sm (fun p => zp_pop (g p)) i) + (zp_pop (g i))))), (3, .int (nI (zp_pop (g i)))), (0, .ref h0), (2, .int (nI i))]) X.1 X.2.1 dX0_lines_24 rfl hl (by decide) rfl (fun ls hl => ?_)
        refine lv_iinc (v := nI (i + 1)) (lv' := [(2, .int (nI (i + 1))), (1, .int (nI ((zp_sm (fun p => zp_pop (g p)) i) + (zp_pop (g i))))), (3, .int (nI (zp_pop (g i)))), (0, .ref h0)]) X.1 X.2.1 dX0_lines_25 hl (k := 3) rfl (zi_inc _) (by decide) rfl (fun ls hl => ?_)
        refine lv_goto (tgt := 4) X.1 X.2.1 dX0_lines_28 (by decide) ?_
        exact ih (i + 1) (by omega) _ _ O ls (lv_sub hl [3, 1, 0] rfl)
  exact L4 6 0 (by omega) _ _ O ls (lv_sub hl [2, 1, 0] rfl)
abbrev rX0_clear : Room := { frames := 2, cells := 0, slots := 0, locals := 46 }
set_option maxHeartbeats 4000000 in
set_option maxRecDepth 100000 in
/-- all lines taken out -/
theorem zX_clear (l : Launch) (D : va_G) (dA : ClassId) (h0 : Nat) (a : Nat → Nat) (g co wy ah pl tr : Nat → Nat) (hg : ∀ p, p < 6 → g p < 64)  : zw_Ci l D dA yX0_clear cX0_clear 3 (some .int) rX0_clear 0 h0 [] (fX a) (sX a g co wy ah pl tr) (fun r fs as => r = nI (zp_lns g) ∧ fs = fX a ∧ as = sX a (fun _ => 0) co wy ah pl tr) := by
  refine zw_Ci.mk (ty := .int) (own := RX0) (lv0 := [(0, .ref h0)]) rfl rfl (by decide +kernel) (Nat.le_of_ble_eq_true rfl) rfl ?_
  intro p e s m args below meth c A Q X RET ls hl O
  refine lv_aload_n X.1 X.2.1 dX0_clear_0 rfl (lv_at hl 0 rfl) ?_
  refine zw_calli X O (zX_lines l D dA h0 a g co wy ah pl tr hg) rfl 0 (lw_V q77 q78 q79 q31 q80) rfl rfl (by decide +kernel) ⟨Nat.le_of_ble_eq_true rfl, Nat.le_of_ble_eq_true rfl⟩ rfl hl.1 rfl (Nat.le_of_ble_eq_true rfl) dX0_clear_1 ⟨Nat.zero_le _, Nat.zero_le _⟩ (fun r fs' as' H locs hp O => ?_)
  obtain ⟨rfl, rfl, rfl⟩ := hp
  refine lv_istore_n (lv' := [(1, .int (nI (zp_lns g))), (0, .ref h0)]) X.1 X.2.1 dX0_clear_4 rfl hl (by decide) rfl (fun ls hl => ?_)
  refine lv_iconst (v := nI 0) X.1 X.2.1 dX0_clear_5 (by decide) ?_
  refine lv_istore_n (lv' := [(2, .int (nI 0)), (1, .int (nI (zp_lns g))), (0, .ref h0)]) X.1 X.2.1 dX0_clear_6 rfl hl (by decide) rfl (fun ls hl => ?_)
  have L7 : ∀ (n : Nat) (i : Nat) (y : Nat → Nat), (i + n = 6) → (∀ q, q < i → y q = 0) → ∀ (H : Heap) (locs : List Loc), zw_O D dA A s H locs 0 h0 (fX a) (sX a y co wy ah pl tr) → ∀ (ls : Array Slot), lv_has ls 3 [(0, .ref h0), (1, .int (nI (zp_lns g))), (2, .int (nI i))] → W p l e rX0_clear s m args below meth c H locs 0 0 Q (F0 m 7 ls []) := by
    intro n
    induction n with
    | zero =>
      intro i y hi hy H locs O ls hl
      refine lv_iload_n X.1 X.2.1 dX0_clear_7 rfl (lv_at hl 2 rfl) ?_
      refine lv_bipush (v := nI 6) X.1 X.2.1 dX0_clear_8 (by decide) ?_
      refine zw_icmp_ge (tgt := 26) X (by omega) (by decide) dX0_clear_10 (by decide) (fun cb => ?_) (fun cb => ?_)
      · have O := zw_O_ext O 0 rfl (fun _ => 0) (fun q hq => hy q (by omega))
        refine lv_iload_n X.1 X.2.1 dX0_clear_26 rfl (lv_at hl 1 rfl) ?_
        exact RET _ _ _ _ _ _ _ O ⟨rfl, rfl, rfl⟩ rfl dX0_clear_27
      · exact absurd cb (by omega)
    | succ n ih =>
      intro i y hi hy H locs O ls hl
      refine lv_iload_n X.1 X.2.1 dX0_clear_7 rfl (lv_at hl 2 rfl) ?_
      refine lv_bipush (v := nI 6) X.1 X.2.1 dX0_clear_8 (by decide) ?_
      refine zw_icmp_ge (tgt := 26) X (by omega) (by decide) dX0_clear_10 (by decide) (fun cb => ?_) (fun cb => ?_)
      · exact absurd cb (by omega)
      · refine zx_f X O hl 0 rfl 0 (by decide) q41 rfl dX0_clear_13 dX0_clear_14 ?_
        refine lv_iload_n X.1 X.2.1 dX0_clear_17 rfl (lv_at hl 2 rfl) ?_
        refine lv_iconst (v := nI 0) X.1 X.2.1 dX0_clear_18 (by decide) ?_
        refine zw_st X O 0 rfl (by omega) (by decide) dX0_clear_19 (fun H locs O => ?_)
        have O : zw_O D dA A s H locs 0 h0 (fX a) (sX a (va_up y i 0) co wy ah pl tr) := O
        refine lv_iinc (v := nI (i + 1)) (lv' := [(2, .int (nI (i + 1))), (0, .ref h0), (1, .int (nI (zp_lns g)))]) X.1 X.2.1 dX0_clear_20 hl (k := 2) rfl (zi_inc _) (by decide) rfl (fun ls hl => ?_)
        refine lv_goto (tgt := 7) X.1 X.2.1 dX0_clear_23 (by decide) ?_
        exact ih (i + 1) (va_up y i 0) (by omega) (fun q hq => by
          by_cases e : q = i
          · rw [e, zp_up_s]
          · rw [zp_up_n e]; exact hy q (by omega)) _ _ O ls (lv_sub hl [1, 2, 0] rfl)
  exact L7 6 0 g (by omega) (fun q hq => absurd hq (by omega)) _ _ O ls (lv_sub hl [2, 1, 0] rfl)
abbrev rX0_reaches : Room := { frames := 0, cells := 0, slots := 0, locals := 0 }
set_option maxHeartbeats 4000000 in
set_option maxRecDepth 100000 in
/-- whether u can stand at place d -/
theorem zX_reaches (l : Launch) (D : va_G) (dA : ClassId) (h0 : Nat) (a : Nat → Nat) (g co wy ah pl tr : Nat → Nat) (hg : ∀ p, p < 6 → g p < 64) (u d far : Nat) (hu : u < 6) (hd : d < 6) (hf : far < 6) (hp : ∀ q, q < d → pl q < 6) : zw_Ci l D dA yX0_reaches cX0_reaches 5 (some .boolean) rX0_reaches 0 h0 [.int (nI u), .int (nI d), .int (nI far)] (fX a) (sX a g co wy ah pl tr) (fun r fs as => r = nI (zp_ok g pl u d far).toNat ∧ fs = fX a ∧ as = sX a g co wy ah pl tr) := by
  refine zw_Ci.mk (ty := .boolean) (own := RX0) (lv0 := [(0, .ref h0), (1, .int (nI u)), (2, .int (nI d)), (3, .int (nI far))]) rfl rfl (by decide +kernel) (Nat.le_of_ble_eq_true rfl) rfl ?_
  intro p e s m args below meth c A Q X RET ls hl O
  refine lv_iconst (v := nI 0) X.1 X.2.1 dX0_reaches_0 (by decide) ?_
  refine lv_istore (lv' := [(4, .int (nI 0)), (0, .ref h0), (1, .int (nI u)), (2, .int (nI d)), (3, .int (nI far))]) X.1 X.2.1 dX0_reaches_1 hl (by decide) rfl (fun ls hl => ?_)
  have L3 : ∀ (n : Nat) (i : Nat), (i + n = d - far) → (∀ q, q < i → (g u).testBit (pl q) = false) → ∀ (H : Heap) (locs : List Loc), zw_O D dA A s H locs 0 h0 (fX a) (sX a g co wy ah pl tr) → ∀ (ls : Array Slot), lv_has ls 5 [(0, .ref h0), (1, .int (nI u)), (2, .int (nI d)), (3, .int (nI far)), (4, .int (nI i))] → W p l e rX0_reaches s m args below meth c H locs 0 0 Q (F0 m 3 ls []) := by
    intro n
    induction n with
    | zero =>
      intro i hi hA H locs O ls hl
      refine lv_iload X.1 X.2.1 dX0_reaches_3 (lv_at hl 4 rfl) ?_
      refine lv_iload_n X.1 X.2.1 dX0_reaches_5 rfl (lv_at hl 2 rfl) ?_
      refine lv_iload_n X.1 X.2.1 dX0_reaches_6 rfl (lv_at hl 3 rfl) ?_
      refine zw_cmpsub (tgt := 39) X (by omega) (by omega) (by omega) dX0_reaches_7 dX0_reaches_8 (by decide) (fun cb => ?_) (fun cb => ?_)
      · refine lv_iconst (v := nI 1) X.1 X.2.1 dX0_reaches_39 (by decide) ?_
        exact RET _ _ _ _ _ _ _ O ⟨by rw [zp_ok_t (fun q hq => hA q (by omega))]; rfl, rfl, rfl⟩ rfl dX0_reaches_40
      · exact absurd cb (by omega)
    | succ n ih =>
      intro i hi hA H locs O ls hl
      refine lv_iload X.1 X.2.1 dX0_reaches_3 (lv_at hl 4 rfl) ?_
      refine lv_iload_n X.1 X.2.1 dX0_reaches_5 rfl (lv_at hl 2 rfl) ?_
      refine lv_iload_n X.1 X.2.1 dX0_reaches_6 rfl (lv_at hl 3 rfl) ?_
      refine zw_cmpsub (tgt := 39) X (by omega) (by omega) (by omega) dX0_reaches_7 dX0_reaches_8 (by decide) (fun cb => ?_) (fun cb => ?_)
      · exact absurd cb (by omega)
      · refine zx_f X O hl 0 rfl 0 (by decide) q41 rfl dX0_reaches_11 dX0_reaches_12 ?_
        refine lv_iload_n X.1 X.2.1 dX0_reaches_15 rfl (lv_at hl 1 rfl) ?_
        refine zw_ld X O 0 rfl hu (by decide) dX0_reaches_16 ?_
        refine zx_f X O hl 0 rfl 4 (by decide) q45 rfl dX0_reaches_17 dX0_reaches_18 ?_
        refine lv_iload X.1 X.2.1 dX0_reaches_21 (lv_at hl 4 rfl) ?_
        refine zw_ld X O 4 rfl (by omega) (by decide) dX0_reaches_23 ?_
        refine zw_bit X (hg _ hu) (hp i (by omega)) dX0_reaches_24 dX0_reaches_25 dX0_reaches_26 ?_
        refine zw_tbne (tgt := 33) X dX0_reaches_27 dX0_reaches_28 (by decide) (fun c2 => ?_) (fun c2 => ?_)
        · refine lv_iinc (v := nI (i + 1)) (lv' := [(4, .int (nI (i + 1))), (0, .ref h0), (1, .int (nI u)), (2, .int (nI d)), (3, .int (nI far))]) X.1 X.2.1 dX0_reaches_33 hl (k := 4) rfl (zi_inc _) (by decide) rfl (fun ls hl => ?_)
          refine lv_goto (tgt := 3) X.1 X.2.1 dX0_reaches_36 (by decide) ?_
          exact ih (i + 1) (by omega) (fun q hq => by
            by_cases e : q = i
            · rw [e]; exact c2
            · exact hA q (by omega)) _ _ O ls (lv_sub hl [1, 2, 3, 4, 0] rfl)
        · refine lv_iconst (v := nI 0) X.1 X.2.1 dX0_reaches_31 (by decide) ?_
          exact RET _ _ _ _ _ _ _ O ⟨by rw [zp_ok_f (x := i) (by omega) c2]; rfl, rfl, rfl⟩ rfl dX0_reaches_32
  exact L3 (d - far) 0 (by omega) (fun q hq => absurd hq (by omega)) _ _ O ls (lv_sub hl [1, 2, 3, 4, 0] rfl)
abbrev rX0_fits : Room := { frames := 1, cells := 0, slots := 0, locals := 24 }
set_option maxHeartbeats 4000000 in
set_option maxRecDepth 100000 in
/-- whether there is an order with at most this stretch -/
theorem zX_fits (l : Launch) (D : va_G) (dA : ClassId) (h0 : Nat) (a : Nat → Nat) (g co wy ah pl tr : Nat → Nat) (hg : ∀ p, p < 6 → g p < 64) (far : Nat) (hf : far < 6) (b : Bool) (hF0 : zp_dfs g far 20000 0 0 pl (va_up tr 0 0) = b) : zw_Ci l D dA yX0_fits cX0_fits 6 (some .boolean) rX0_fits 0 h0 [.int (nI far)] (fX a) (sX a g co wy ah pl tr) (fun r fs as => ∃ P T, r = nI b.toNat ∧ fs = fX a ∧ as = sX a g co wy ah P T) := by
  refine zw_Ci.mk (ty := .boolean) (own := RX0) (lv0 := [(0, .ref h0), (1, .int (nI far))]) rfl rfl (by decide +kernel) (Nat.le_of_ble_eq_true rfl) rfl ?_
  intro p e s m args below meth c A Q X RET ls hl O
  refine lv_iconst (v := nI 0) X.1 X.2.1 dX0_fits_0 (by decide) ?_
  refine lv_istore_n (lv' := [(2, .int (nI 0)), (0, .ref h0), (1, .int (nI far))]) X.1 X.2.1 dX0_fits_1 rfl hl (by decide) rfl (fun ls hl => ?_)
  refine lv_iconst (v := nI 0) X.1 X.2.1 dX0_fits_2 (by decide) ?_
  refine lv_istore_n (lv' := [(3, .int (nI 0)), (2, .int (nI 0)), (0, .ref h0), (1, .int (nI far))]) X.1 X.2.1 dX0_fits_3 rfl hl (by decide) rfl (fun ls hl => ?_)
  refine zx_f X O hl 2 rfl 5 (by decide) q46 rfl dX0_fits_4 dX0_fits_5 ?_
  refine lv_iconst (v := nI 0) X.1 X.2.1 dX0_fits_8 (by decide) ?_
  refine lv_iconst (v := nI 0) X.1 X.2.1 dX0_fits_9 (by decide) ?_
  refine zw_st X O 5 rfl (by decide) (by decide) dX0_fits_10 (fun H locs O => ?_)
  have O : zw_O D dA A s H locs 0 h0 (fX a) (sX a g co wy ah pl (va_up tr 0 0)) := O
  refine lv_iconst (v := nI 0) X.1 X.2.1 dX0_fits_11 (by decide) ?_
  refine lv_istore (lv' := [(4, .int (nI 0)), (3, .int (nI 0)), (2, .int (nI 0)), (0, .ref h0), (1, .int (nI far))]) X.1 X.2.1 dX0_fits_12 hl (by decide) rfl (fun ls hl => ?_)
  have L14 : ∀ (n : Nat) (i : Nat) (d : Nat) (S : Nat) (P : Nat → Nat) (T : Nat → Nat), (i + n = 20000) → (d ≤ 6) → (S < 64) → (∀ q, q < d → P q < 6) → (d < 6 → T d ≤ 6) → (∀ q, q < d → T q ≤ 6) → (zp_dfs g far n d S P T = b) → ∀ (H : Heap) (locs : List Loc), zw_O D dA A s H locs 0 h0 (fX a) (sX a g co wy ah P T) → ∀ (ls : Array Slot), lv_has ls 6 [(0, .ref h0), (1, .int (nI far)), (2, .int (nI d)), (3, .int (nI S)), (4, .int (nI i))] → W p l e rX0_fits s m args below meth c H locs 0 0 Q (F0 m 14 ls []) := by
    intro n
    induction n with
    | zero =>
      intro i d S P T hi hd hS hP hT hT2 hF H locs O ls hl
      refine lv_iload X.1 X.2.1 dX0_fits_14 (lv_at hl 4 rfl) ?_
      refine lv_sipush (v := nI 20000) X.1 X.2.1 dX0_fits_16 (by decide) ?_
      refine zw_icmp_ge (tgt := 143) X (by omega) (by decide) dX0_fits_19 (by decide) (fun cb => ?_) (fun cb => ?_)
      · have hb : b = false := hF.symm
        refine lv_iconst (v := nI 0) X.1 X.2.1 dX0_fits_143 (by decide) ?_
        exact RET _ _ _ _ _ _ _ O ⟨P, T, by rw [hb]; rfl, rfl, rfl⟩ rfl dX0_fits_144
      · exact absurd cb (by omega)
    | succ n ih =>
      intro i d S P T hi hd hS hP hT hT2 hF H locs O ls hl
      refine lv_iload X.1 X.2.1 dX0_fits_14 (lv_at hl 4 rfl) ?_
      refine lv_sipush (v := nI 20000) X.1 X.2.1 dX0_fits_16 (by decide) ?_
      refine zw_icmp_ge (tgt := 143) X (by omega) (by decide) dX0_fits_19 (by decide) (fun cb => ?_) (fun cb => ?_)
      · exact absurd cb (by omega)
      · simp only [zp_dfs] at hF
        refine lv_iload_n X.1 X.2.1 dX0_fits_22 rfl (lv_at hl 2 rfl) ?_
        refine zw_if_lt (tgt := 143) X (by omega) dX0_fits_23 (by decide) ?_
        refine lv_iload_n X.1 X.2.1 dX0_fits_26 rfl (lv_at hl 2 rfl) ?_
        refine lv_bipush (v := nI 6) X.1 X.2.1 dX0_fits_27 (by decide) ?_
        refine zw_icmp_ne (tgt := 34) X (by omega) (by decide) dX0_fits_29 (by decide) (fun c1 => ?_) (fun c1 => ?_)
        · rw [if_neg c1] at hF
          have hd5 : d < 6 := by omega
          have hT6 := hT hd5
          refine zx_f X O hl 0 rfl 5 (by decide) q46 rfl dX0_fits_34 dX0_fits_35 ?_
          refine lv_iload_n X.1 X.2.1 dX0_fits_38 rfl (lv_at hl 2 rfl) ?_
          refine zw_ld X O 5 rfl (by omega) (by decide) dX0_fits_39 ?_
          refine lv_bipush (v := nI 6) X.1 X.2.1 dX0_fits_40 (by decide) ?_
          refine zw_icmp_ne (tgt := 68) X (by omega) (by decide) dX0_fits_42 (by decide) (fun c2 => ?_) (fun c2 => ?_)
          · rw [if_neg c2] at hF
            have hT5 : T d < 6 := by omega
            refine zx_f X O hl 0 rfl 5 (by decide) q46 rfl dX0_fits_68 dX0_fits_69 ?_
            refine lv_iload_n X.1 X.2.1 dX0_fits_72 rfl (lv_at hl 2 rfl) ?_
            refine zw_ld X O 5 rfl (by omega) (by decide) dX0_fits_73 ?_
            refine lv_istore (lv' := [(5, .int (nI (T d))), (0, .ref h0), (1, .int (nI far)), (2, .int (nI d)), (3, .int (nI S)), (4, .int (nI i))]) X.1 X.2.1 dX0_fits_74 hl (by decide) rfl (fun ls hl => ?_)
            refine zx_f X O hl 1 rfl 5 (by decide) q46 rfl dX0_fits_76 dX0_fits_77 ?_
            refine lv_iload_n X.1 X.2.1 dX0_fits_80 rfl (lv_at hl 3 rfl) ?_
            refine lv_iload X.1 X.2.1 dX0_fits_81 (lv_at hl 0 rfl) ?_
            refine lv_iconst (v := nI 1) X.1 X.2.1 dX0_fits_83 (by decide) ?_
            refine zw_add X dX0_fits_84 ?_
            refine zw_st X O 5 rfl (by omega) (by decide) dX0_fits_85 (fun H locs O => ?_)
            have O : zw_O D dA A s H locs 0 h0 (fX a) (sX a g co wy ah P (va_up T d ((T d) + 1))) := O
            refine lv_iload_n X.1 X.2.1 dX0_fits_86 rfl (lv_at hl 4 rfl) ?_
            refine lv_iload X.1 X.2.1 dX0_fits_87 (lv_at hl 0 rfl) ?_
            refine zw_bit X hS hT5 dX0_fits_89 dX0_fits_90 dX0_fits_91 ?_
            refine zw_tbif (tgt := 137) X dX0_fits_92 (by decide) (fun c3 => ?_) (fun c3 => ?_)
            · rw [if_neg (fun q => by rw [c3] at q; exact absurd q.1 (by decide))] at hF
              refine lv_iinc (v := nI (i + 1)) (lv' := [(4, .int (nI (i + 1))), (5, .int (nI (T d))), (0, .ref h0), (1, .int (nI far)), (2, .int (nI d)), (3, .int (nI S))]) X.1 X.2.1 dX0_fits_137 hl (k := 5) rfl (zi_inc _) (by decide) rfl (fun ls hl => ?_)
              refine lv_goto (tgt := 14) X.1 X.2.1 dX0_fits_140 (by decide) ?_
              exact ih (i + 1) d S P (va_up T d (T d + 1)) (by omega) hd hS hP (fun _ => by rw [zp_up_s]; omega) (fun q hq => by rw [zp_up_n (by omega)]; exact hT2 q hq) hF _ _ O ls (lv_sub hl [2, 3, 4, 5, 0] rfl)
            · refine lv_aload_n X.1 X.2.1 dX0_fits_95 rfl (lv_at hl 1 rfl) ?_
              refine lv_iload X.1 X.2.1 dX0_fits_96 (lv_at hl 0 rfl) ?_
              refine lv_iload_n X.1 X.2.1 dX0_fits_98 rfl (lv_at hl 3 rfl) ?_
              refine lv_iload_n X.1 X.2.1 dX0_fits_99 rfl (lv_at hl 2 rfl) ?_
              refine zw_calli X O (zX_reaches l D dA h0 a g co wy ah P (va_up T d (T d + 1)) hg (T d) d far hT5 hd5 hf hP) rfl 3 (lw_V q134 q136 qs12 q31 q137) rfl rfl (by decide +kernel) ⟨Nat.le_of_ble_eq_true rfl, Nat.le_of_ble_eq_true rfl⟩ rfl hl.1 rfl (Nat.le_of_ble_eq_true rfl) dX0_fits_100 ⟨Nat.zero_le _, Nat.zero_le _⟩ (fun r fs' as' H locs hp O => ?_)
              obtain ⟨rfl, rfl, rfl⟩ := hp
              have hbl : (zp_ok g P (T d) d far).toNat < 2147483648 := by cases zp_ok g P (T d) d far <;> decide
              refine zw_if_eq (tgt := 137) X hbl dX0_fits_103 (by decide) (fun c4 => ?_) (fun c4 => ?_)
              · have c5 : zp_ok g P (T d) d far = false := by
                  cases hh : zp_ok g P (T d) d far
                  · rfl
                  · rw [hh] at c4; exact absurd c4 (by decide)
                rw [if_neg (fun q => by rw [c5] at q; exact absurd q.2 (by decide))] at hF
                refine lv_iinc (v := nI (i + 1)) (lv' := [(4, .int (nI (i + 1))), (5, .int (nI (T d))), (0, .ref h0), (1, .int (nI far)), (2, .int (nI d)), (3, .int (nI S))]) X.1 X.2.1 dX0_fits_137 hl (k := 5) rfl (zi_inc _) (by decide) rfl (fun ls hl => ?_)
                refine lv_goto (tgt := 14) X.1 X.2.1 dX0_fits_140 (by decide) ?_
                exact ih (i + 1) d S P (va_up T d (T d + 1)) (by omega) hd hS hP (fun _ => by rw [zp_up_s]; omega) (fun q hq => by rw [zp_up_n (by omega)]; exact hT2 q hq) hF _ _ O ls (lv_sub hl [2, 3, 4, 5, 0] rfl)
              · have c5 : zp_ok g P (T d) d far = true := by
                  cases hh : zp_ok g P (T d) d far
                  · rw [hh] at c4; exact absurd rfl c4
                  · rfl
                rw [if_pos ⟨c3, c5⟩] at hF
                refine zx_f X O hl 1 rfl 4 (by decide) q45 rfl dX0_fits_106 dX0_fits_107 ?_
                refine lv_iload_n X.1 X.2.1 dX0_fits_110 rfl (lv_at hl 3 rfl) ?_
                refine lv_iload X.1 X.2.1 dX0_fits_111 (lv_at hl 0 rfl) ?_
                refine zw_st X O 4 rfl hd5 (by decide) dX0_fits_113 (fun H locs O => ?_)
                have O : zw_O D dA A s H locs 0 h0 (fX a) (sX a g co wy ah (va_up P d (T d)) (va_up T d ((T d) + 1))) := O
                refine lv_iload_n X.1 X.2.1 dX0_fits_114 rfl (lv_at hl 4 rfl) ?_
                refine lv_iconst (v := nI 1) X.1 X.2.1 dX0_fits_115 (by decide) ?_
                refine lv_iload X.1 X.2.1 dX0_fits_116 (lv_at hl 0 rfl) ?_
                refine zw_shl X hT5 dX0_fits_118 ?_
                refine zw_or X dX0_fits_119 ?_
                refine lv_istore_n (lv' := [(3, .int (nI (S ||| (2 ^ (T d))))), (5, .int (nI (T d))), (0, .ref h0), (1, .int (nI far)), (2, .int (nI d)), (4, .int (nI i))]) X.1 X.2.1 dX0_fits_120 rfl hl (by decide) rfl (fun ls hl => ?_)
                refine lv_iinc (v := nI (d + 1)) (lv' := [(2, .int (nI (d + 1))), (3, .int (nI (S ||| (2 ^ (T d))))), (5, .int (nI (T d))), (0, .ref h0), (1, .int (nI far)), (4, .int (nI i))]) X.1 X.2.1 dX0_fits_121 hl (k := 4) rfl (zi_inc _) (by decide) rfl (fun ls hl => ?_)
                refine lv_iload_n X.1 X.2.1 dX0_fits_124 rfl (lv_at hl 0 rfl) ?_
                refine lv_bipush (v := nI 6) X.1 X.2.1 dX0_fits_125 (by decide) ?_
                refine zw_icmp_ge (tgt := 137) X (by omega) (by decide) dX0_fits_127 (by decide) (fun c6 => ?_) (fun c6 => ?_)
                · rw [if_neg (by omega)] at hF
                  refine lv_iinc (v := nI (i + 1)) (lv' := [(4, .int (nI (i + 1))), (2, .int (nI (d + 1))), (3, .int (nI (S ||| (2 ^ (T d))))), (5, .int (nI (T d))), (0, .ref h0), (1, .int (nI far))]) X.1 X.2.1 dX0_fits_137 hl (k := 5) rfl (zi_inc _) (by decide) rfl (fun ls hl => ?_)
                  refine lv_goto (tgt := 14) X.1 X.2.1 dX0_fits_140 (by decide) ?_
                  exact ih (i + 1) (d + 1) (S ||| (2 ^ (T d))) (va_up P d (T d)) (va_up T d (T d + 1)) (by omega) (by omega) (zp_or_lt hS (zp_pw_lt _ hT5)) (fun q hq => by
                    by_cases e : q = d
                    · rw [e, zp_up_s]; exact hT5
                    · rw [zp_up_n e]; exact hP q (by omega)) (fun h => absurd h (by omega)) (fun q hq => by
                    by_cases e : q = d
                    · rw [e, zp_up_s]; omega
                    · rw [zp_up_n e]; exact hT2 q (by omega)) hF _ _ O ls (lv_sub hl [4, 5, 1, 2, 0] rfl)
                · rw [if_pos c6] at hF
                  refine zx_f X O hl 3 rfl 5 (by decide) q46 rfl dX0_fits_130 dX0_fits_131 ?_
                  refine lv_iload_n X.1 X.2.1 dX0_fits_134 rfl (lv_at hl 0 rfl) ?_
                  refine lv_iconst (v := nI 0) X.1 X.2.1 dX0_fits_135 (by decide) ?_
                  refine zw_st X O 5 rfl (by omega) (by decide) dX0_fits_136 (fun H locs O => ?_)
                  have O : zw_O D dA A s H locs 0 h0 (fX a) (sX a g co wy ah (va_up P d (T d)) (va_up (va_up T d ((T d) + 1)) (d + 1) 0)) := O
                  refine lv_iinc (v := nI (i + 1)) (lv' := [(4, .int (nI (i + 1))), (2, .int (nI (d + 1))), (3, .int (nI (S ||| (2 ^ (T d))))), (5, .int (nI (T d))), (0, .ref h0), (1, .int (nI far))]) X.1 X.2.1 dX0_fits_137 hl (k := 5) rfl (zi_inc _) (by decide) rfl (fun ls hl => ?_)
                  refine lv_goto (tgt := 14) X.1 X.2.1 dX0_fits_140 (by decide) ?_
                  exact ih (i + 1) (d + 1) (S ||| (2 ^ (T d))) (va_up P d (T d)) (va_up (va_up T d (T d + 1)) (d + 1) 0) (by omega) (by omega) (zp_or_lt hS (zp_pw_lt _ hT5)) (fun q hq => by
                    by_cases e : q = d
                    · rw [e, zp_up_s]; exact hT5
                    · rw [zp_up_n e]; exact hP q (by omega)) (fun _ => by rw [zp_up_s]; omega) (fun q hq => by
                    rw [zp_up_n (by omega)]
                    by_cases e : q = d
                    · rw [e, zp_up_s]; omega
                    · rw [zp_up_n e]; exact hT2 q (by omega)) hF _ _ O ls (lv_sub hl [4, 5, 1, 2, 0] rfl)
          · rw [if_pos c2] at hF
            rcases Nat.eq_zero_or_pos d with e0 | e0
            · subst e0
              rw [if_pos rfl] at hF
              refine lv_iinc (v := nI 0 - 1) (lv' := [(2, .int (nI 0 - 1)), (0, .ref h0), (1, .int (nI far)), (3, .int (nI S)), (4, .int (nI i))]) X.1 X.2.1 dX0_fits_45 hl (k := 2) rfl (zi_down _) (by decide) rfl (fun ls hl => ?_)
              refine lv_iload_n X.1 X.2.1 dX0_fits_48 rfl (lv_at hl 0 rfl) ?_
              refine zw_down0 (tgt := 137) X dX0_fits_49 (by decide) ?_
              refine lv_iinc (v := nI (i + 1)) (lv' := [(4, .int (nI (i + 1))), (2, .int (nI 0 - 1)), (0, .ref h0), (1, .int (nI far)), (3, .int (nI S))]) X.1 X.2.1 dX0_fits_137 hl (k := 4) rfl (zi_inc _) (by decide) rfl (fun ls hl => ?_)
              refine lv_goto (tgt := 14) X.1 X.2.1 dX0_fits_140 (by decide) ?_
              refine lv_iload X.1 X.2.1 dX0_fits_14 (lv_at hl 0 rfl) ?_
              refine lv_sipush (v := nI 20000) X.1 X.2.1 dX0_fits_16 (by decide) ?_
              refine zw_icmp_ge (tgt := 143) X (by omega) (by decide) dX0_fits_19 (by decide) (fun c3 => ?_) (fun c3 => ?_)
              · refine lv_iconst (v := nI 0) X.1 X.2.1 dX0_fits_143 (by decide) ?_
                exact RET _ _ _ _ _ _ _ O ⟨P, T, by rw [← hF]; rfl, rfl, rfl⟩ rfl dX0_fits_144
              · refine lv_iload_n X.1 X.2.1 dX0_fits_22 rfl (lv_at hl 1 rfl) ?_
                refine zw_down0 (tgt := 143) X dX0_fits_23 (by decide) ?_
                refine lv_iconst (v := nI 0) X.1 X.2.1 dX0_fits_143 (by decide) ?_
                exact RET _ _ _ _ _ _ _ O ⟨P, T, by rw [← hF]; rfl, rfl, rfl⟩ rfl dX0_fits_144
            · obtain ⟨e, rfl⟩ : ∃ e, d = e + 1 := ⟨d - 1, by omega⟩
              rw [if_neg (by omega), Nat.add_sub_cancel] at hF
              refine lv_iinc (v := nI (e)) (lv' := [(2, .int (nI e)), (0, .ref h0), (1, .int (nI far)), (3, .int (nI S)), (4, .int (nI i))]) X.1 X.2.1 dX0_fits_45 hl (k := 2) rfl (zi_dec _) (by decide) rfl (fun ls hl => ?_)
              refine lv_iload_n X.1 X.2.1 dX0_fits_48 rfl (lv_at hl 0 rfl) ?_
              refine zw_if_lt (tgt := 137) X (by omega) dX0_fits_49 (by decide) ?_
              refine lv_iload_n X.1 X.2.1 dX0_fits_52 rfl (lv_at hl 3 rfl) ?_
              refine lv_iconst (v := nI 1) X.1 X.2.1 dX0_fits_53 (by decide) ?_
              refine zx_f X O hl 1 rfl 4 (by decide) q45 rfl dX0_fits_54 dX0_fits_55 ?_
              refine lv_iload_n X.1 X.2.1 dX0_fits_58 rfl (lv_at hl 0 rfl) ?_
              refine zw_ld X O 4 rfl (by omega) (by decide) dX0_fits_59 ?_
              refine zw_shl X (hP e (by omega)) dX0_fits_60 ?_
              refine zw_sdn X hS (zp_pw_lt _ (hP e (by omega))) dX0_fits_61 dX0_fits_62 dX0_fits_63 ?_
              refine lv_istore_n (lv' := [(3, .int (nI (zp_sd S (2 ^ (P e))))), (2, .int (nI e)), (0, .ref h0), (1, .int (nI far)), (4, .int (nI i))]) X.1 X.2.1 dX0_fits_64 rfl hl (by decide) rfl (fun ls hl => ?_)
              refine lv_goto (tgt := 137) X.1 X.2.1 dX0_fits_65 (by decide) ?_
              refine lv_iinc (v := nI (i + 1)) (lv' := [(4, .int (nI (i + 1))), (3, .int (nI (zp_sd S (2 ^ (P e))))), (2, .int (nI e)), (0, .ref h0), (1, .int (nI far))]) X.1 X.2.1 dX0_fits_137 hl (k := 4) rfl (zi_inc _) (by decide) rfl (fun ls hl => ?_)
              refine lv_goto (tgt := 14) X.1 X.2.1 dX0_fits_140 (by decide) ?_
              exact ih (i + 1) e (zp_sd S (2 ^ (P e))) P T (by omega) (by omega) (zp_sd_lt hS) (fun q hq => hP q (by omega)) (fun _ => hT2 e (by omega)) (fun q hq => hT2 q (by omega)) hF _ _ O ls (lv_sub hl [3, 4, 2, 1, 0] rfl)
        · rw [if_pos c1] at hF
          refine lv_iconst (v := nI 1) X.1 X.2.1 dX0_fits_32 (by decide) ?_
          exact RET _ _ _ _ _ _ _ O ⟨P, T, by rw [← hF]; rfl, rfl, rfl⟩ rfl dX0_fits_33
  exact L14 20000 0 0 0 pl (va_up tr 0 0) (by omega) (by omega) (by omega) (fun q hq => absurd hq (by omega)) (fun _ => by rw [zp_up_s]; omega) (fun q hq => absurd hq (by omega)) hF0 _ _ O ls (lv_sub hl [3, 4, 2, 1, 0] rfl)
end
section
/-! LayoutWidths: contracts, what the law calls (written by gen/x5.py) -/
abbrev rX0_stretch : Room := { frames := 2, cells := 0, slots := 0, locals := 49 }
set_option maxHeartbeats 4000000 in
set_option maxRecDepth 100000 in
/-- the least stretch that fits -/
theorem zX_stretch (l : Launch) (D : va_G) (dA : ClassId) (h0 : Nat) (a : Nat → Nat) (g co wy ah pl tr : Nat → Nat) (hg : ∀ p, p < 6 → g p < 64) (fit : Nat → Bool) (hF : ∀ far, far < 5 → ∀ P T : Nat → Nat, T 0 = 0 → zp_dfs g far 20000 0 0 P T = fit far) : zw_Ci l D dA yX0_stretch cX0_stretch 3 (some .int) rX0_stretch 0 h0 [] (fX a) (sX a g co wy ah pl tr) (fun r fs as => ∃ P T, r = nI (zp_str fit 5 0) ∧ fs = fX a ∧ as = sX a g co wy ah P T) := by
  refine zw_Ci.mk (ty := .int) (own := RX0) (lv0 := [(0, .ref h0)]) rfl rfl (by decide +kernel) (Nat.le_of_ble_eq_true rfl) rfl ?_
  intro p e s m args below meth c A Q X RET ls hl O
  refine lv_iconst (v := nI 0) X.1 X.2.1 dX0_stretch_0 (by decide) ?_
  refine lv_istore_n (lv' := [(1, .int (nI 0)), (0, .ref h0)]) X.1 X.2.1 dX0_stretch_1 rfl hl (by decide) rfl (fun ls hl => ?_)
  have L2 : ∀ (n : Nat) (i : Nat) (P : Nat → Nat) (T : Nat → Nat), (i + n = 5) → (zp_str fit n i = zp_str fit 5 0) → ∀ (H : Heap) (locs : List Loc), zw_O D dA A s H locs 0 h0 (fX a) (sX a g co wy ah P T) → ∀ (ls : Array Slot), lv_has ls 3 [(0, .ref h0), (1, .int (nI i))] → W p l e rX0_stretch s m args below meth c H locs 0 0 Q (F0 m 2 ls []) := by
    intro n
    induction n with
    | zero =>
      intro i P T hi hs H locs O ls hl
      refine lv_iload_n X.1 X.2.1 dX0_stretch_2 rfl (lv_at hl 1 rfl) ?_
      refine lv_iconst (v := nI 5) X.1 X.2.1 dX0_stretch_3 (by decide) ?_
      refine zw_icmp_ge (tgt := 25) X (by omega) (by decide) dX0_stretch_4 (by decide) (fun cb => ?_) (fun cb => ?_)
      · refine lv_iconst (v := nI 5) X.1 X.2.1 dX0_stretch_25 (by decide) ?_
        exact RET _ _ _ _ _ _ _ O ⟨P, T, by rw [← hs, show i = 5 by omega]; rfl, rfl, rfl⟩ rfl dX0_stretch_26
      · exact absurd cb (by omega)
    | succ n ih =>
      intro i P T hi hs H locs O ls hl
      refine lv_iload_n X.1 X.2.1 dX0_stretch_2 rfl (lv_at hl 1 rfl) ?_
      refine lv_iconst (v := nI 5) X.1 X.2.1 dX0_stretch_3 (by decide) ?_
      refine zw_icmp_ge (tgt := 25) X (by omega) (by decide) dX0_stretch_4 (by decide) (fun cb => ?_) (fun cb => ?_)
      · exact absurd cb (by omega)
      · refine lv_aload_n X.1 X.2.1 dX0_stretch_7 rfl (lv_at hl 0 rfl) ?_
        refine lv_iload_n X.1 X.2.1 dX0_stretch_8 rfl (lv_at hl 1 rfl) ?_
        refine zw_calli X O (zX_fits l D dA h0 a g co wy ah P T hg i (by omega) (fit i) (hF i cb P _ (zp_up_s _ _ _))) rfl 1 (lw_V q130 q132 qs11 q31 q133) rfl rfl (by decide +kernel) ⟨Nat.le_of_ble_eq_true rfl, Nat.le_of_ble_eq_true rfl⟩ rfl hl.1 rfl (Nat.le_of_ble_eq_true rfl) dX0_stretch_9 ⟨Nat.zero_le _, Nat.zero_le _⟩ (fun r fs' as' H locs hp O => ?_)
        obtain ⟨P, T, rfl, rfl, rfl⟩ := hp
        have hbl : (fit i).toNat < 2147483648 := by cases fit i <;> decide
        refine lv_istore_n (lv' := [(2, .int (nI ((fit i).toNat))), (0, .ref h0), (1, .int (nI i))]) X.1 X.2.1 dX0_stretch_12 rfl hl (by decide) rfl (fun ls hl => ?_)
        refine lv_iload_n X.1 X.2.1 dX0_stretch_13 rfl (lv_at hl 0 rfl) ?_
        refine zw_if_eq (tgt := 19) X hbl dX0_stretch_14 (by decide) (fun c2 => ?_) (fun c2 => ?_)
        · have c3 : fit i = false := by
            cases hh : fit i
            · rfl
            · rw [hh] at c2; exact absurd c2 (by decide)
          refine lv_iinc (v := nI (i + 1)) (lv' := [(1, .int (nI (i + 1))), (2, .int (nI ((fit i).toNat))), (0, .ref h0)]) X.1 X.2.1 dX0_stretch_19 hl (k := 2) rfl (zi_inc _) (by decide) rfl (fun ls hl => ?_)
          refine lv_goto (tgt := 2) X.1 X.2.1 dX0_stretch_22 (by decide) ?_
          exact ih (i + 1) P T (by omega) (by rw [← hs]; simp [zp_str, c3]) _ _ O ls (lv_sub hl [2, 0] rfl)
        · have c3 : fit i = true := by
            cases hh : fit i
            · rw [hh] at c2; exact absurd rfl c2
            · rfl
          refine lv_iload_n X.1 X.2.1 dX0_stretch_17 rfl (lv_at hl 2 rfl) ?_
          exact RET _ _ _ _ _ _ _ O ⟨P, T, by rw [← hs]; simp [zp_str, c3], rfl, rfl⟩ rfl dX0_stretch_18
  exact L2 5 0 pl tr (by omega) rfl _ _ O ls (lv_sub hl [1, 0] rfl)
abbrev rX0_clique : Room := { frames := 1, cells := 0, slots := 0, locals := 23 }
set_option maxHeartbeats 4000000 in
set_option maxRecDepth 100000 in
/-- the points of the greatest clique -/
theorem zX_clique (l : Launch) (D : va_G) (dA : ClassId) (h0 : Nat) (a : Nat → Nat) (g co wy ah pl tr : Nat → Nat) (hg : ∀ p, p < 6 → g p < 64)  : zw_Ci l D dA yX0_clique cX0_clique 6 (some .int) rX0_clique 0 h0 [] (fX a) (sX a g co wy ah pl tr) (fun r fs as => ∃ u, zp_RQ g u 64 ∧ r = nI (zp_bst u 64) ∧ fs = fX a ∧ as = sX a g co u ah pl tr) := by
  refine zw_Ci.mk (ty := .int) (own := RX0) (lv0 := [(0, .ref h0)]) rfl rfl (by decide +kernel) (Nat.le_of_ble_eq_true rfl) rfl ?_
  intro p e s m args below meth c A Q X RET ls hl O
  refine lv_iconst (v := nI 0) X.1 X.2.1 dX0_clique_0 (by decide) ?_
  refine lv_istore_n (lv' := [(1, .int (nI 0)), (0, .ref h0)]) X.1 X.2.1 dX0_clique_1 rfl hl (by decide) rfl (fun ls hl => ?_)
  refine zx_f X O hl 1 rfl 2 (by decide) q43 rfl dX0_clique_2 dX0_clique_3 ?_
  refine lv_iconst (v := nI 0) X.1 X.2.1 dX0_clique_6 (by decide) ?_
  refine lv_iconst (v := nI 1) X.1 X.2.1 dX0_clique_7 (by decide) ?_
  refine zw_st X O 2 rfl (by decide) (by decide) dX0_clique_8 (fun H locs O => ?_)
  have O : zw_O D dA A s H locs 0 h0 (fX a) (sX a g co (va_up wy 0 1) ah pl tr) := O
  refine lv_iconst (v := nI 1) X.1 X.2.1 dX0_clique_9 (by decide) ?_
  refine lv_istore_n (lv' := [(2, .int (nI 1)), (1, .int (nI 0)), (0, .ref h0)]) X.1 X.2.1 dX0_clique_10 rfl hl (by decide) rfl (fun ls hl => ?_)
  have L11 : ∀ (n : Nat) (S : Nat) (u : Nat → Nat), (S + n = 64) → (0 < S) → (zp_RQ g u S) → ∀ (H : Heap) (locs : List Loc), zw_O D dA A s H locs 0 h0 (fX a) (sX a g co u ah pl tr) → ∀ (ls : Array Slot), lv_has ls 6 [(0, .ref h0), (1, .int (nI (zp_bst u S))), (2, .int (nI S))] → W p l e rX0_clique s m args below meth c H locs 0 0 Q (F0 m 11 ls []) := by
    intro n
    induction n with
    | zero =>
      intro S u hS hS0 hR H locs O ls hl
      refine lv_iload_n X.1 X.2.1 dX0_clique_11 rfl (lv_at hl 2 rfl) ?_
      refine lv_bipush (v := nI 64) X.1 X.2.1 dX0_clique_12 (by decide) ?_
      refine zw_icmp_ge (tgt := 133) X (by omega) (by decide) dX0_clique_14 (by decide) (fun cb => ?_) (fun cb => ?_)
      · have e0 : S = 64 := by omega
        rw [e0] at hR
        refine lv_iload_n X.1 X.2.1 dX0_clique_133 rfl (lv_at hl 1 rfl) ?_
        exact RET _ _ _ _ _ _ _ O ⟨u, hR, by rw [e0], rfl, rfl⟩ rfl dX0_clique_134
      · exact absurd cb (by omega)
    | succ n ih =>
      intro S u hS hS0 hR H locs O ls hl
      refine lv_iload_n X.1 X.2.1 dX0_clique_11 rfl (lv_at hl 2 rfl) ?_
      refine lv_bipush (v := nI 64) X.1 X.2.1 dX0_clique_12 (by decide) ?_
      refine zw_icmp_ge (tgt := 133) X (by omega) (by decide) dX0_clique_14 (by decide) (fun cb => ?_) (fun cb => ?_)
      · exact absurd cb (by omega)
      · refine lv_iload_n X.1 X.2.1 dX0_clique_17 rfl (lv_at hl 2 rfl) ?_
        refine lv_iload_n X.1 X.2.1 dX0_clique_18 rfl (lv_at hl 2 rfl) ?_
        refine lv_iconst (v := nI 1) X.1 X.2.1 dX0_clique_19 (by decide) ?_
        refine zw_sub X (by omega) dX0_clique_20 ?_
        refine zw_and X dX0_clique_21 ?_
        refine zw_topn (zp_sd S (2 ^ zp_low S)) (zp_rest S hS0 cb) ?_
        refine lv_istore_n (lv' := [(3, .int (nI (zp_sd S (2 ^ zp_low S)))), (0, .ref h0), (1, .int (nI (zp_bst u S))), (2, .int (nI S))]) X.1 X.2.1 dX0_clique_22 rfl hl (by decide) rfl (fun ls hl => ?_)
        refine lv_iconst (v := nI 0) X.1 X.2.1 dX0_clique_23 (by decide) ?_
        refine lv_istore (lv' := [(4, .int (nI 0)), (3, .int (nI (zp_sd S (2 ^ zp_low S)))), (0, .ref h0), (1, .int (nI (zp_bst u S))), (2, .int (nI S))]) X.1 X.2.1 dX0_clique_24 hl (by decide) rfl (fun ls hl => ?_)
        refine lv_iconst (v := nI 0) X.1 X.2.1 dX0_clique_26 (by decide) ?_
        refine lv_istore (lv' := [(5, .int (nI 0)), (4, .int (nI 0)), (3, .int (nI (zp_sd S (2 ^ zp_low S)))), (0, .ref h0), (1, .int (nI (zp_bst u S))), (2, .int (nI S))]) X.1 X.2.1 dX0_clique_27 hl (by decide) rfl (fun ls hl => ?_)
        have L29 : ∀ (n : Nat) (j : Nat), (j + n = 6) → ∀ (H : Heap) (locs : List Loc), zw_O D dA A s H locs 0 h0 (fX a) (sX a g co u ah pl tr) → ∀ (ls : Array Slot), lv_has ls 6 [(0, .ref h0), (1, .int (nI (zp_bst u S))), (2, .int (nI S)), (3, .int (nI (zp_sd S (2 ^ zp_low S)))), (4, .int (nI (if zp_low S < j then zp_low S else 0))), (5, .int (nI j))] → W p l e rX0_clique s m args below meth c H locs 0 0 Q (F0 m 29 ls []) := by
          intro n
          induction n with
          | zero =>
            intro j hj H locs O ls hl
            refine lv_iload X.1 X.2.1 dX0_clique_29 (lv_at hl 5 rfl) ?_
            refine lv_bipush (v := nI 6) X.1 X.2.1 dX0_clique_31 (by decide) ?_
            refine zw_icmp_ge (tgt := 62) X (by omega) (by decide) dX0_clique_33 (by decide) (fun d => ?_) (fun d => ?_)
            · rw [if_pos (by have := zp_low_lt S; omega)] at hl
              have hrl := zp_rest_lt S hS0 cb
              have hub : u (zp_sd S (2 ^ zp_low S)) < 2147483648 := by
                rcases Nat.eq_zero_or_pos (zp_sd S (2 ^ zp_low S)) with q | q
                · rw [q, hR.1]; decide
                · rw [hR.2 _ q hrl]; split <;> decide
              refine zx_f X O hl 0 rfl 2 (by decide) q43 rfl dX0_clique_62 dX0_clique_63 ?_
              refine lv_iload_n X.1 X.2.1 dX0_clique_66 rfl (lv_at hl 2 rfl) ?_
              refine zx_f X O hl 0 rfl 2 (by decide) q43 rfl dX0_clique_67 dX0_clique_68 ?_
              refine lv_iload_n X.1 X.2.1 dX0_clique_71 rfl (lv_at hl 3 rfl) ?_
              refine zw_ld X O 2 rfl (zp_sd_lt cb) (by decide) dX0_clique_72 ?_
              refine lv_iconst (v := nI 1) X.1 X.2.1 dX0_clique_73 (by decide) ?_
              refine zw_icmp_ne (tgt := 95) X hub (by decide) dX0_clique_74 (by decide) (fun c3 => ?_) (fun c3 => ?_)
              · refine lv_iconst (v := nI 0) X.1 X.2.1 dX0_clique_95 (by decide) ?_
                have hv : 0 = if u (zp_sd S (2 ^ zp_low S)) = 1 ∧ zp_sd (zp_sd S (2 ^ zp_low S)) (g (zp_low S)) = 0 then 1 else 0 := by rw [if_neg (fun q => c3 q.1)]
                refine zw_st X O 2 rfl cb (by decide) dX0_clique_96 (fun H locs O => ?_)
                have O : zw_O D dA A s H locs 0 h0 (fX a) (sX a g co (va_up u S 0) ah pl tr) := O
                refine lv_aload_n X.1 X.2.1 dX0_clique_97 rfl (lv_at hl 0 rfl) ?_
                refine lv_iload_n X.1 X.2.1 dX0_clique_98 rfl (lv_at hl 2 rfl) ?_
                refine zw_calli X O (zX_sizeOf l D dA h0 a g co (va_up u S 0) ah pl tr S cb) rfl 1 (lw_V q81 q83 qs2 q31 q84) rfl rfl (by decide +kernel) ⟨Nat.le_of_ble_eq_true rfl, Nat.le_of_ble_eq_true rfl⟩ rfl hl.1 rfl (Nat.le_of_ble_eq_true rfl) dX0_clique_99 ⟨Nat.zero_le _, Nat.zero_le _⟩ (fun r fs' as' H locs hp O => ?_)
                obtain ⟨rfl, rfl, rfl⟩ := hp
                have hb1 := zp_bst_le u S
                have hb2 := zp_pop_le S
                have hbc : zp_bst (va_up u S 0) S = zp_bst u S := zp_bst_congr S (fun x hx => zp_up_n (by omega))
                have hR2 := zp_RQ_s hS0 cb hR hv
                refine lv_istore (lv' := [(5, .int (nI (zp_pop S))), (0, .ref h0), (1, .int (nI (zp_bst u S))), (2, .int (nI S)), (3, .int (nI (zp_sd S (2 ^ zp_low S)))), (4, .int (nI (zp_low S)))]) X.1 X.2.1 dX0_clique_102 hl (by decide) rfl (fun ls hl => ?_)
                refine zx_f X O hl 1 rfl 2 (by decide) q43 rfl dX0_clique_104 dX0_clique_105 ?_
                refine lv_iload_n X.1 X.2.1 dX0_clique_108 rfl (lv_at hl 3 rfl) ?_
                refine zw_ld X O 2 rfl cb (by decide) dX0_clique_109 ?_
                refine zw_topn (0) (zp_up_s _ _ _) ?_
                refine lv_iconst (v := nI 1) X.1 X.2.1 dX0_clique_110 (by decide) ?_
                refine zw_icmp_ne (tgt := 125) X (by decide) (by decide) dX0_clique_111 (by decide) (fun c5 => ?_) (fun c5 => ?_)
                · refine lv_iload_n X.1 X.2.1 dX0_clique_125 rfl (lv_at hl 2 rfl) ?_
                  have hq : zp_bst u S = zp_bst (va_up u S 0) (S + 1) := by rw [zp_bst_s _ hS0, zp_up_s, hbc]; rw [if_neg (by intro q; exact absurd q.1 (by decide))]
                  refine zw_topn (zp_bst (va_up u S 0) (S + 1)) hq ?_
                  refine lv_istore_n (lv' := [(1, .int (nI (zp_bst (va_up u S 0) (S + 1)))), (5, .int (nI (zp_pop S))), (0, .ref h0), (2, .int (nI S)), (3, .int (nI (zp_sd S (2 ^ zp_low S)))), (4, .int (nI (zp_low S)))]) X.1 X.2.1 dX0_clique_126 rfl hl (by decide) rfl (fun ls hl => ?_)
                  refine lv_iinc (v := nI (S + 1)) (lv' := [(2, .int (nI (S + 1))), (1, .int (nI (zp_bst (va_up u S 0) (S + 1)))), (5, .int (nI (zp_pop S))), (0, .ref h0), (3, .int (nI (zp_sd S (2 ^ zp_low S)))), (4, .int (nI (zp_low S)))]) X.1 X.2.1 dX0_clique_127 hl (k := 3) rfl (zi_inc _) (by decide) rfl (fun ls hl => ?_)
                  refine lv_goto (tgt := 11) X.1 X.2.1 dX0_clique_130 (by decide) ?_
                  exact ih (S + 1) (va_up u S 0) (by omega) (by omega) hR2 _ _ O ls (lv_sub hl [3, 1, 0] rfl)
                · exact absurd c5 (by decide)
              · refine lv_iload_n X.1 X.2.1 dX0_clique_77 rfl (lv_at hl 3 rfl) ?_
                refine zx_f X O hl 0 rfl 0 (by decide) q41 rfl dX0_clique_78 dX0_clique_79 ?_
                refine lv_iload X.1 X.2.1 dX0_clique_82 (lv_at hl 4 rfl) ?_
                refine zw_ld X O 0 rfl (zp_low_lt S) (by decide) dX0_clique_84 ?_
                refine zw_sdn X (zp_sd_lt cb) (hg _ (zp_low_lt S)) dX0_clique_85 dX0_clique_86 dX0_clique_87 ?_
                refine zw_if_ne (tgt := 95) X (Nat.lt_trans (zp_sd_lt (zp_sd_lt cb)) (by decide)) dX0_clique_88 (by decide) (fun c4 => ?_) (fun c4 => ?_)
                · refine lv_iconst (v := nI 0) X.1 X.2.1 dX0_clique_95 (by decide) ?_
                  have hv : 0 = if u (zp_sd S (2 ^ zp_low S)) = 1 ∧ zp_sd (zp_sd S (2 ^ zp_low S)) (g (zp_low S)) = 0 then 1 else 0 := by rw [if_neg (fun q => c4 q.2)]
                  refine zw_st X O 2 rfl cb (by decide) dX0_clique_96 (fun H locs O => ?_)
                  have O : zw_O D dA A s H locs 0 h0 (fX a) (sX a g co (va_up u S 0) ah pl tr) := O
                  refine lv_aload_n X.1 X.2.1 dX0_clique_97 rfl (lv_at hl 0 rfl) ?_
                  refine lv_iload_n X.1 X.2.1 dX0_clique_98 rfl (lv_at hl 2 rfl) ?_
                  refine zw_calli X O (zX_sizeOf l D dA h0 a g co (va_up u S 0) ah pl tr S cb) rfl 1 (lw_V q81 q83 qs2 q31 q84) rfl rfl (by decide +kernel) ⟨Nat.le_of_ble_eq_true rfl, Nat.le_of_ble_eq_true rfl⟩ rfl hl.1 rfl (Nat.le_of_ble_eq_true rfl) dX0_clique_99 ⟨Nat.zero_le _, Nat.zero_le _⟩ (fun r fs' as' H locs hp O => ?_)
                  obtain ⟨rfl, rfl, rfl⟩ := hp
                  have hb1 := zp_bst_le u S
                  have hb2 := zp_pop_le S
                  have hbc : zp_bst (va_up u S 0) S = zp_bst u S := zp_bst_congr S (fun x hx => zp_up_n (by omega))
                  have hR2 := zp_RQ_s hS0 cb hR hv
                  refine lv_istore (lv' := [(5, .int (nI (zp_pop S))), (0, .ref h0), (1, .int (nI (zp_bst u S))), (2, .int (nI S)), (3, .int (nI (zp_sd S (2 ^ zp_low S)))), (4, .int (nI (zp_low S)))]) X.1 X.2.1 dX0_clique_102 hl (by decide) rfl (fun ls hl => ?_)
                  refine zx_f X O hl 1 rfl 2 (by decide) q43 rfl dX0_clique_104 dX0_clique_105 ?_
                  refine lv_iload_n X.1 X.2.1 dX0_clique_108 rfl (lv_at hl 3 rfl) ?_
                  refine zw_ld X O 2 rfl cb (by decide) dX0_clique_109 ?_
                  refine zw_topn (0) (zp_up_s _ _ _) ?_
                  refine lv_iconst (v := nI 1) X.1 X.2.1 dX0_clique_110 (by decide) ?_
                  refine zw_icmp_ne (tgt := 125) X (by decide) (by decide) dX0_clique_111 (by decide) (fun c5 => ?_) (fun c5 => ?_)
                  · refine lv_iload_n X.1 X.2.1 dX0_clique_125 rfl (lv_at hl 2 rfl) ?_
                    have hq : zp_bst u S = zp_bst (va_up u S 0) (S + 1) := by rw [zp_bst_s _ hS0, zp_up_s, hbc]; rw [if_neg (by intro q; exact absurd q.1 (by decide))]
                    refine zw_topn (zp_bst (va_up u S 0) (S + 1)) hq ?_
                    refine lv_istore_n (lv' := [(1, .int (nI (zp_bst (va_up u S 0) (S + 1)))), (5, .int (nI (zp_pop S))), (0, .ref h0), (2, .int (nI S)), (3, .int (nI (zp_sd S (2 ^ zp_low S)))), (4, .int (nI (zp_low S)))]) X.1 X.2.1 dX0_clique_126 rfl hl (by decide) rfl (fun ls hl => ?_)
                    refine lv_iinc (v := nI (S + 1)) (lv' := [(2, .int (nI (S + 1))), (1, .int (nI (zp_bst (va_up u S 0) (S + 1)))), (5, .int (nI (zp_pop S))), (0, .ref h0), (3, .int (nI (zp_sd S (2 ^ zp_low S)))), (4, .int (nI (zp_low S)))]) X.1 X.2.1 dX0_clique_127 hl (k := 3) rfl (zi_inc _) (by decide) rfl (fun ls hl => ?_)
                    refine lv_goto (tgt := 11) X.1 X.2.1 dX0_clique_130 (by decide) ?_
                    exact ih (S + 1) (va_up u S 0) (by omega) (by omega) hR2 _ _ O ls (lv_sub hl [3, 1, 0] rfl)
                  · exact absurd c5 (by decide)
                · refine lv_iconst (v := nI 1) X.1 X.2.1 dX0_clique_91 (by decide) ?_
                  refine lv_goto (tgt := 96) X.1 X.2.1 dX0_clique_92 (by decide) ?_
                  have hv : 1 = if u (zp_sd S (2 ^ zp_low S)) = 1 ∧ zp_sd (zp_sd S (2 ^ zp_low S)) (g (zp_low S)) = 0 then 1 else 0 := by rw [if_pos ⟨c3, c4⟩]
                  refine zw_st X O 2 rfl cb (by decide) dX0_clique_96 (fun H locs O => ?_)
                  have O : zw_O D dA A s H locs 0 h0 (fX a) (sX a g co (va_up u S 1) ah pl tr) := O
                  refine lv_aload_n X.1 X.2.1 dX0_clique_97 rfl (lv_at hl 0 rfl) ?_
                  refine lv_iload_n X.1 X.2.1 dX0_clique_98 rfl (lv_at hl 2 rfl) ?_
                  refine zw_calli X O (zX_sizeOf l D dA h0 a g co (va_up u S 1) ah pl tr S cb) rfl 1 (lw_V q81 q83 qs2 q31 q84) rfl rfl (by decide +kernel) ⟨Nat.le_of_ble_eq_true rfl, Nat.le_of_ble_eq_true rfl⟩ rfl hl.1 rfl (Nat.le_of_ble_eq_true rfl) dX0_clique_99 ⟨Nat.zero_le _, Nat.zero_le _⟩ (fun r fs' as' H locs hp O => ?_)
                  obtain ⟨rfl, rfl, rfl⟩ := hp
                  have hb1 := zp_bst_le u S
                  have hb2 := zp_pop_le S
                  have hbc : zp_bst (va_up u S 1) S = zp_bst u S := zp_bst_congr S (fun x hx => zp_up_n (by omega))
                  have hR2 := zp_RQ_s hS0 cb hR hv
                  refine lv_istore (lv' := [(5, .int (nI (zp_pop S))), (0, .ref h0), (1, .int (nI (zp_bst u S))), (2, .int (nI S)), (3, .int (nI (zp_sd S (2 ^ zp_low S)))), (4, .int (nI (zp_low S)))]) X.1 X.2.1 dX0_clique_102 hl (by decide) rfl (fun ls hl => ?_)
                  refine zx_f X O hl 1 rfl 2 (by decide) q43 rfl dX0_clique_104 dX0_clique_105 ?_
                  refine lv_iload_n X.1 X.2.1 dX0_clique_108 rfl (lv_at hl 3 rfl) ?_
                  refine zw_ld X O 2 rfl cb (by decide) dX0_clique_109 ?_
                  refine zw_topn (1) (zp_up_s _ _ _) ?_
                  refine lv_iconst (v := nI 1) X.1 X.2.1 dX0_clique_110 (by decide) ?_
                  refine zw_icmp_ne (tgt := 125) X (by decide) (by decide) dX0_clique_111 (by decide) (fun c5 => ?_) (fun c5 => ?_)
                  · exact absurd rfl c5
                  · refine lv_iload X.1 X.2.1 dX0_clique_114 (lv_at hl 0 rfl) ?_
                    refine lv_iload_n X.1 X.2.1 dX0_clique_116 rfl (lv_at hl 2 rfl) ?_
                    refine zw_icmp_le (tgt := 125) X (by omega) (by omega) dX0_clique_117 (by decide) (fun c6 => ?_) (fun c6 => ?_)
                    · refine lv_iload_n X.1 X.2.1 dX0_clique_125 rfl (lv_at hl 2 rfl) ?_
                      have hq : zp_bst u S = zp_bst (va_up u S 1) (S + 1) := by rw [zp_bst_s _ hS0, zp_up_s, hbc]; rw [if_neg (by omega)]
                      refine zw_topn (zp_bst (va_up u S 1) (S + 1)) hq ?_
                      refine lv_istore_n (lv' := [(1, .int (nI (zp_bst (va_up u S 1) (S + 1)))), (5, .int (nI (zp_pop S))), (0, .ref h0), (2, .int (nI S)), (3, .int (nI (zp_sd S (2 ^ zp_low S)))), (4, .int (nI (zp_low S)))]) X.1 X.2.1 dX0_clique_126 rfl hl (by decide) rfl (fun ls hl => ?_)
                      refine lv_iinc (v := nI (S + 1)) (lv' := [(2, .int (nI (S + 1))), (1, .int (nI (zp_bst (va_up u S 1) (S + 1)))), (5, .int (nI (zp_pop S))), (0, .ref h0), (3, .int (nI (zp_sd S (2 ^ zp_low S)))), (4, .int (nI (zp_low S)))]) X.1 X.2.1 dX0_clique_127 hl (k := 3) rfl (zi_inc _) (by decide) rfl (fun ls hl => ?_)
                      refine lv_goto (tgt := 11) X.1 X.2.1 dX0_clique_130 (by decide) ?_
                      exact ih (S + 1) (va_up u S 1) (by omega) (by omega) hR2 _ _ O ls (lv_sub hl [3, 1, 0] rfl)
                    · refine lv_iload X.1 X.2.1 dX0_clique_120 (lv_at hl 0 rfl) ?_
                      refine lv_goto (tgt := 126) X.1 X.2.1 dX0_clique_122 (by decide) ?_
                      have hq : zp_pop S = zp_bst (va_up u S 1) (S + 1) := by rw [zp_bst_s _ hS0, zp_up_s, hbc]; rw [if_pos ⟨rfl, c6⟩]
                      refine zw_topn (zp_bst (va_up u S 1) (S + 1)) hq ?_
                      refine lv_istore_n (lv' := [(1, .int (nI (zp_bst (va_up u S 1) (S + 1)))), (5, .int (nI (zp_pop S))), (0, .ref h0), (2, .int (nI S)), (3, .int (nI (zp_sd S (2 ^ zp_low S)))), (4, .int (nI (zp_low S)))]) X.1 X.2.1 dX0_clique_126 rfl hl (by decide) rfl (fun ls hl => ?_)
                      refine lv_iinc (v := nI (S + 1)) (lv' := [(2, .int (nI (S + 1))), (1, .int (nI (zp_bst (va_up u S 1) (S + 1)))), (5, .int (nI (zp_pop S))), (0, .ref h0), (3, .int (nI (zp_sd S (2 ^ zp_low S)))), (4, .int (nI (zp_low S)))]) X.1 X.2.1 dX0_clique_127 hl (k := 3) rfl (zi_inc _) (by decide) rfl (fun ls hl => ?_)
                      refine lv_goto (tgt := 11) X.1 X.2.1 dX0_clique_130 (by decide) ?_
                      exact ih (S + 1) (va_up u S 1) (by omega) (by omega) hR2 _ _ O ls (lv_sub hl [3, 1, 0] rfl)
            · exact absurd d (by omega)
          | succ n ih =>
            intro j hj H locs O ls hl
            have ih2 := ih
            refine lv_iload X.1 X.2.1 dX0_clique_29 (lv_at hl 5 rfl) ?_
            refine lv_bipush (v := nI 6) X.1 X.2.1 dX0_clique_31 (by decide) ?_
            refine zw_icmp_ge (tgt := 62) X (by omega) (by decide) dX0_clique_33 (by decide) (fun d => ?_) (fun d => ?_)
            · exact absurd d (by omega)
            · refine lv_iload_n X.1 X.2.1 dX0_clique_36 rfl (lv_at hl 2 rfl) ?_
              refine lv_iload_n X.1 X.2.1 dX0_clique_37 rfl (lv_at hl 2 rfl) ?_
              refine zw_low X hS0 cb dX0_clique_38 dX0_clique_39 ?_
              refine lv_iconst (v := nI 1) X.1 X.2.1 dX0_clique_40 (by decide) ?_
              refine lv_iload X.1 X.2.1 dX0_clique_41 (lv_at hl 5 rfl) ?_
              refine zw_shl X d dX0_clique_43 ?_
              refine zw_icmp_ne (tgt := 52) X (Nat.lt_trans (zp_pw_lt _ (zp_low_lt S)) (by decide)) (Nat.lt_trans (zp_pw_lt _ d) (by decide)) dX0_clique_44 (by decide) (fun c3 => ?_) (fun c3 => ?_)
              · have hne : zp_low S ≠ j := fun q => c3 (by rw [q])
                refine lv_iload X.1 X.2.1 dX0_clique_52 (lv_at hl 4 rfl) ?_
                have hq : (if zp_low S < j then zp_low S else 0) = if zp_low S < j + 1 then zp_low S else 0 := by 
                  by_cases q : zp_low S < j
                  · rw [if_pos q, if_pos (by omega)]
                  · rw [if_neg q, if_neg (by omega)]
                refine zw_topn (if zp_low S < j + 1 then zp_low S else 0) hq ?_
                refine lv_istore (lv' := [(4, .int (nI (if zp_low S < j + 1 then zp_low S else 0))), (0, .ref h0), (1, .int (nI (zp_bst u S))), (2, .int (nI S)), (3, .int (nI (zp_sd S (2 ^ zp_low S)))), (5, .int (nI j))]) X.1 X.2.1 dX0_clique_54 hl (by decide) rfl (fun ls hl => ?_)
                refine lv_iinc (v := nI (j + 1)) (lv' := [(5, .int (nI (j + 1))), (4, .int (nI (if zp_low S < j + 1 then zp_low S else 0))), (0, .ref h0), (1, .int (nI (zp_bst u S))), (2, .int (nI S)), (3, .int (nI (zp_sd S (2 ^ zp_low S))))]) X.1 X.2.1 dX0_clique_56 hl (k := 5) rfl (zi_inc _) (by decide) rfl (fun ls hl => ?_)
                refine lv_goto (tgt := 29) X.1 X.2.1 dX0_clique_59 (by decide) ?_
                exact ih2 (j + 1) (by omega) _ _ O ls (lv_sub hl [2, 3, 4, 5, 1, 0] rfl)
              · have hne : zp_low S = j := (zp_pw_eq _ (zp_low_lt S) _ d).mp c3
                refine lv_iload X.1 X.2.1 dX0_clique_47 (lv_at hl 5 rfl) ?_
                refine lv_goto (tgt := 54) X.1 X.2.1 dX0_clique_49 (by decide) ?_
                have hq : (j) = if zp_low S < j + 1 then zp_low S else 0 := by rw [if_pos (by omega), hne]
                refine zw_topn (if zp_low S < j + 1 then zp_low S else 0) hq ?_
                refine lv_istore (lv' := [(4, .int (nI (if zp_low S < j + 1 then zp_low S else 0))), (0, .ref h0), (1, .int (nI (zp_bst u S))), (2, .int (nI S)), (3, .int (nI (zp_sd S (2 ^ zp_low S)))), (5, .int (nI j))]) X.1 X.2.1 dX0_clique_54 hl (by decide) rfl (fun ls hl => ?_)
                refine lv_iinc (v := nI (j + 1)) (lv' := [(5, .int (nI (j + 1))), (4, .int (nI (if zp_low S < j + 1 then zp_low S else 0))), (0, .ref h0), (1, .int (nI (zp_bst u S))), (2, .int (nI S)), (3, .int (nI (zp_sd S (2 ^ zp_low S))))]) X.1 X.2.1 dX0_clique_56 hl (k := 5) rfl (zi_inc _) (by decide) rfl (fun ls hl => ?_)
                refine lv_goto (tgt := 29) X.1 X.2.1 dX0_clique_59 (by decide) ?_
                exact ih2 (j + 1) (by omega) _ _ O ls (lv_sub hl [2, 3, 4, 5, 1, 0] rfl)
        exact L29 6 0 (by omega) _ _ O ls (lv_sub hl [3, 4, 5, 2, 1, 0] rfl)
  exact L11 63 1 (va_up wy 0 1) (by omega) (by omega) (zp_RQ_0 g wy) _ _ O ls (lv_sub hl [2, 1, 0] rfl)
abbrev rX0_cutWidth : Room := { frames := 5, cells := 0, slots := 0, locals := 125 }
set_option maxHeartbeats 4000000 in
set_option maxRecDepth 100000 in
theorem zX_cutWidth (l : Launch) (D : va_G) (dA : ClassId) (h0 : Nat) (a : Nat → Nat) (g co wy ah pl tr : Nat → Nat) (hg : ∀ p, p < 6 → g p < 64)  : zw_Ci l D dA yX0_cutWidth cX0_cutWidth 1 (some .int) rX0_cutWidth 0 h0 [] (fX a) (sX a g co wy ah pl tr) (fun r fs as => ∃ x, zp_RC g 0 x 64 ∧ r = nI (x 63) ∧ fs = fX a ∧ as = sX a g x wy ah pl tr) := by
  refine zw_Ci.mk (ty := .int) (own := RX0) (lv0 := [(0, .ref h0)]) rfl rfl (by decide +kernel) (Nat.le_of_ble_eq_true rfl) rfl ?_
  intro p e s m args below meth c A Q X RET ls hl O
  refine lv_aload_n X.1 X.2.1 dX0_cutWidth_0 rfl (lv_at hl 0 rfl) ?_
  refine lv_iconst (v := nI 0) X.1 X.2.1 dX0_cutWidth_1 (by decide) ?_
  refine zw_calli X O (zX_leastOf l D dA h0 a g co wy ah pl tr hg 0 (by decide)) rfl 1 (lw_V q90 q92 qs3 q31 q93) rfl rfl (by decide +kernel) ⟨Nat.le_of_ble_eq_true rfl, Nat.le_of_ble_eq_true rfl⟩ rfl hl.1 rfl (Nat.le_of_ble_eq_true rfl) dX0_cutWidth_2 ⟨Nat.zero_le _, Nat.zero_le _⟩ (fun r fs' as' H locs hp O => ?_)
  obtain ⟨x, hx, rfl, rfl, rfl⟩ := hp
  exact RET _ _ _ _ _ _ _ O ⟨x, hx, rfl, rfl, rfl⟩ rfl dX0_cutWidth_5
abbrev rX0_separation : Room := { frames := 5, cells := 0, slots := 0, locals := 125 }
set_option maxHeartbeats 4000000 in
set_option maxRecDepth 100000 in
theorem zX_separation (l : Launch) (D : va_G) (dA : ClassId) (h0 : Nat) (a : Nat → Nat) (g co wy ah pl tr : Nat → Nat) (hg : ∀ p, p < 6 → g p < 64)  : zw_Ci l D dA yX0_separation cX0_separation 1 (some .int) rX0_separation 0 h0 [] (fX a) (sX a g co wy ah pl tr) (fun r fs as => ∃ x, zp_RC g 1 x 64 ∧ r = nI (x 63) ∧ fs = fX a ∧ as = sX a g x wy ah pl tr) := by
  refine zw_Ci.mk (ty := .int) (own := RX0) (lv0 := [(0, .ref h0)]) rfl rfl (by decide +kernel) (Nat.le_of_ble_eq_true rfl) rfl ?_
  intro p e s m args below meth c A Q X RET ls hl O
  refine lv_aload_n X.1 X.2.1 dX0_separation_0 rfl (lv_at hl 0 rfl) ?_
  refine lv_iconst (v := nI 1) X.1 X.2.1 dX0_separation_1 (by decide) ?_
  refine zw_calli X O (zX_leastOf l D dA h0 a g co wy ah pl tr hg 1 (by decide)) rfl 1 (lw_V q90 q92 qs3 q31 q93) rfl rfl (by decide +kernel) ⟨Nat.le_of_ble_eq_true rfl, Nat.le_of_ble_eq_true rfl⟩ rfl hl.1 rfl (Nat.le_of_ble_eq_true rfl) dX0_separation_2 ⟨Nat.zero_le _, Nat.zero_le _⟩ (fun r fs' as' H locs hp O => ?_)
  obtain ⟨x, hx, rfl, rfl, rfl⟩ := hp
  exact RET _ _ _ _ _ _ _ O ⟨x, hx, rfl, rfl, rfl⟩ rfl dX0_separation_5
abbrev rX0_width : Room := { frames := 5, cells := 0, slots := 0, locals := 125 }
set_option maxHeartbeats 4000000 in
set_option maxRecDepth 100000 in
theorem zX_width (l : Launch) (D : va_G) (dA : ClassId) (h0 : Nat) (a : Nat → Nat) (g co wy ah pl tr : Nat → Nat) (hg : ∀ p, p < 6 → g p < 64)  : zw_Ci l D dA yX0_width cX0_width 1 (some .int) rX0_width 0 h0 [] (fX a) (sX a g co wy ah pl tr) (fun r fs as => ∃ x, zp_RC g 2 x 64 ∧ r = nI (x 63) ∧ fs = fX a ∧ as = sX a g x wy ah pl tr) := by
  refine zw_Ci.mk (ty := .int) (own := RX0) (lv0 := [(0, .ref h0)]) rfl rfl (by decide +kernel) (Nat.le_of_ble_eq_true rfl) rfl ?_
  intro p e s m args below meth c A Q X RET ls hl O
  refine lv_aload_n X.1 X.2.1 dX0_width_0 rfl (lv_at hl 0 rfl) ?_
  refine lv_iconst (v := nI 2) X.1 X.2.1 dX0_width_1 (by decide) ?_
  refine zw_calli X O (zX_leastOf l D dA h0 a g co wy ah pl tr hg 2 (by decide)) rfl 1 (lw_V q90 q92 qs3 q31 q93) rfl rfl (by decide +kernel) ⟨Nat.le_of_ble_eq_true rfl, Nat.le_of_ble_eq_true rfl⟩ rfl hl.1 rfl (Nat.le_of_ble_eq_true rfl) dX0_width_2 ⟨Nat.zero_le _, Nat.zero_le _⟩ (fun r fs' as' H locs hp O => ?_)
  obtain ⟨x, hx, rfl, rfl, rfl⟩ := hp
  exact RET _ _ _ _ _ _ _ O ⟨x, hx, rfl, rfl, rfl⟩ rfl dX0_width_5
abbrev rX0_length : Room := { frames := 5, cells := 0, slots := 0, locals := 125 }
set_option maxHeartbeats 4000000 in
set_option maxRecDepth 100000 in
theorem zX_length (l : Launch) (D : va_G) (dA : ClassId) (h0 : Nat) (a : Nat → Nat) (g co wy ah pl tr : Nat → Nat) (hg : ∀ p, p < 6 → g p < 64)  : zw_Ci l D dA yX0_length cX0_length 1 (some .int) rX0_length 0 h0 [] (fX a) (sX a g co wy ah pl tr) (fun r fs as => ∃ x, zp_RC g 3 x 64 ∧ r = nI (x 63) ∧ fs = fX a ∧ as = sX a g x wy ah pl tr) := by
  refine zw_Ci.mk (ty := .int) (own := RX0) (lv0 := [(0, .ref h0)]) rfl rfl (by decide +kernel) (Nat.le_of_ble_eq_true rfl) rfl ?_
  intro p e s m args below meth c A Q X RET ls hl O
  refine lv_aload_n X.1 X.2.1 dX0_length_0 rfl (lv_at hl 0 rfl) ?_
  refine lv_iconst (v := nI 3) X.1 X.2.1 dX0_length_1 (by decide) ?_
  refine zw_calli X O (zX_leastOf l D dA h0 a g co wy ah pl tr hg 3 (by decide)) rfl 1 (lw_V q90 q92 qs3 q31 q93) rfl rfl (by decide +kernel) ⟨Nat.le_of_ble_eq_true rfl, Nat.le_of_ble_eq_true rfl⟩ rfl hl.1 rfl (Nat.le_of_ble_eq_true rfl) dX0_length_2 ⟨Nat.zero_le _, Nat.zero_le _⟩ (fun r fs' as' H locs hp O => ?_)
  obtain ⟨x, hx, rfl, rfl, rfl⟩ := hp
  exact RET _ _ _ _ _ _ _ O ⟨x, hx, rfl, rfl, rfl⟩ rfl dX0_length_5
abbrev rX0_fill : Room := { frames := 5, cells := 0, slots := 0, locals := 125 }
set_option maxHeartbeats 4000000 in
set_option maxRecDepth 100000 in
theorem zX_fill (l : Launch) (D : va_G) (dA : ClassId) (h0 : Nat) (a : Nat → Nat) (g co wy ah pl tr : Nat → Nat) (hg : ∀ p, p < 6 → g p < 64)  : zw_Ci l D dA yX0_fill cX0_fill 1 (some .int) rX0_fill 0 h0 [] (fX a) (sX a g co wy ah pl tr) (fun r fs as => ∃ x, zp_RC g 4 x 64 ∧ r = nI (x 63) ∧ fs = fX a ∧ as = sX a g x wy ah pl tr) := by
  refine zw_Ci.mk (ty := .int) (own := RX0) (lv0 := [(0, .ref h0)]) rfl rfl (by decide +kernel) (Nat.le_of_ble_eq_true rfl) rfl ?_
  intro p e s m args below meth c A Q X RET ls hl O
  refine lv_aload_n X.1 X.2.1 dX0_fill_0 rfl (lv_at hl 0 rfl) ?_
  refine lv_iconst (v := nI 4) X.1 X.2.1 dX0_fill_1 (by decide) ?_
  refine zw_calli X O (zX_leastOf l D dA h0 a g co wy ah pl tr hg 4 (by decide)) rfl 1 (lw_V q90 q92 qs3 q31 q93) rfl rfl (by decide +kernel) ⟨Nat.le_of_ble_eq_true rfl, Nat.le_of_ble_eq_true rfl⟩ rfl hl.1 rfl (Nat.le_of_ble_eq_true rfl) dX0_fill_2 ⟨Nat.zero_le _, Nat.zero_le _⟩ (fun r fs' as' H locs hp O => ?_)
  obtain ⟨x, hx, rfl, rfl, rfl⟩ := hp
  exact RET _ _ _ _ _ _ _ O ⟨x, hx, rfl, rfl, rfl⟩ rfl dX0_fill_5
abbrev rX0_cutOrders : Room := { frames := 5, cells := 0, slots := 0, locals := 131 }
set_option maxHeartbeats 4000000 in
set_option maxRecDepth 100000 in
theorem zX_cutOrders (l : Launch) (D : va_G) (dA : ClassId) (h0 : Nat) (a : Nat → Nat) (g co wy ah pl tr : Nat → Nat) (hg : ∀ p, p < 6 → g p < 64)  : zw_Ci l D dA yX0_cutOrders cX0_cutOrders 1 (some .int) rX0_cutOrders 0 h0 [] (fX a) (sX a g co wy ah pl tr) (fun r fs as => ∃ x u, zp_RC g 0 x 64 ∧ zp_RW g 0 x u 64 ∧ r = nI (u 63) ∧ fs = fX a ∧ as = sX a g x u ah pl tr) := by
  refine zw_Ci.mk (ty := .int) (own := RX0) (lv0 := [(0, .ref h0)]) rfl rfl (by decide +kernel) (Nat.le_of_ble_eq_true rfl) rfl ?_
  intro p e s m args below meth c A Q X RET ls hl O
  refine lv_aload_n X.1 X.2.1 dX0_cutOrders_0 rfl (lv_at hl 0 rfl) ?_
  refine lv_iconst (v := nI 0) X.1 X.2.1 dX0_cutOrders_1 (by decide) ?_
  refine zw_calli X O (zX_ordersOf l D dA h0 a g co wy ah pl tr hg 0 (by decide)) rfl 1 (lw_V q154 q156 qs13 q31 q157) rfl rfl (by decide +kernel) ⟨Nat.le_of_ble_eq_true rfl, Nat.le_of_ble_eq_true rfl⟩ rfl hl.1 rfl (Nat.le_of_ble_eq_true rfl) dX0_cutOrders_2 ⟨Nat.zero_le _, Nat.zero_le _⟩ (fun r fs' as' H locs hp O => ?_)
  obtain ⟨x, u, hx, hu, rfl, rfl, rfl⟩ := hp
  exact RET _ _ _ _ _ _ _ O ⟨x, u, hx, hu, rfl, rfl, rfl⟩ rfl dX0_cutOrders_5
abbrev rX0_lengthOrders : Room := { frames := 5, cells := 0, slots := 0, locals := 131 }
set_option maxHeartbeats 4000000 in
set_option maxRecDepth 100000 in
theorem zX_lengthOrders (l : Launch) (D : va_G) (dA : ClassId) (h0 : Nat) (a : Nat → Nat) (g co wy ah pl tr : Nat → Nat) (hg : ∀ p, p < 6 → g p < 64)  : zw_Ci l D dA yX0_lengthOrders cX0_lengthOrders 1 (some .int) rX0_lengthOrders 0 h0 [] (fX a) (sX a g co wy ah pl tr) (fun r fs as => ∃ x u, zp_RC g 3 x 64 ∧ zp_RW g 3 x u 64 ∧ r = nI (u 63) ∧ fs = fX a ∧ as = sX a g x u ah pl tr) := by
  refine zw_Ci.mk (ty := .int) (own := RX0) (lv0 := [(0, .ref h0)]) rfl rfl (by decide +kernel) (Nat.le_of_ble_eq_true rfl) rfl ?_
  intro p e s m args below meth c A Q X RET ls hl O
  refine lv_aload_n X.1 X.2.1 dX0_lengthOrders_0 rfl (lv_at hl 0 rfl) ?_
  refine lv_iconst (v := nI 3) X.1 X.2.1 dX0_lengthOrders_1 (by decide) ?_
  refine zw_calli X O (zX_ordersOf l D dA h0 a g co wy ah pl tr hg 3 (by decide)) rfl 1 (lw_V q154 q156 qs13 q31 q157) rfl rfl (by decide +kernel) ⟨Nat.le_of_ble_eq_true rfl, Nat.le_of_ble_eq_true rfl⟩ rfl hl.1 rfl (Nat.le_of_ble_eq_true rfl) dX0_lengthOrders_2 ⟨Nat.zero_le _, Nat.zero_le _⟩ (fun r fs' as' H locs hp O => ?_)
  obtain ⟨x, u, hx, hu, rfl, rfl, rfl⟩ := hp
  exact RET _ _ _ _ _ _ _ O ⟨x, u, hx, hu, rfl, rfl, rfl⟩ rfl dX0_lengthOrders_5
abbrev rX0_fillOrders : Room := { frames := 5, cells := 0, slots := 0, locals := 131 }
set_option maxHeartbeats 4000000 in
set_option maxRecDepth 100000 in
theorem zX_fillOrders (l : Launch) (D : va_G) (dA : ClassId) (h0 : Nat) (a : Nat → Nat) (g co wy ah pl tr : Nat → Nat) (hg : ∀ p, p < 6 → g p < 64)  : zw_Ci l D dA yX0_fillOrders cX0_fillOrders 1 (some .int) rX0_fillOrders 0 h0 [] (fX a) (sX a g co wy ah pl tr) (fun r fs as => ∃ x u, zp_RC g 4 x 64 ∧ zp_RW g 4 x u 64 ∧ r = nI (u 63) ∧ fs = fX a ∧ as = sX a g x u ah pl tr) := by
  refine zw_Ci.mk (ty := .int) (own := RX0) (lv0 := [(0, .ref h0)]) rfl rfl (by decide +kernel) (Nat.le_of_ble_eq_true rfl) rfl ?_
  intro p e s m args below meth c A Q X RET ls hl O
  refine lv_aload_n X.1 X.2.1 dX0_fillOrders_0 rfl (lv_at hl 0 rfl) ?_
  refine lv_iconst (v := nI 4) X.1 X.2.1 dX0_fillOrders_1 (by decide) ?_
  refine zw_calli X O (zX_ordersOf l D dA h0 a g co wy ah pl tr hg 4 (by decide)) rfl 1 (lw_V q154 q156 qs13 q31 q157) rfl rfl (by decide +kernel) ⟨Nat.le_of_ble_eq_true rfl, Nat.le_of_ble_eq_true rfl⟩ rfl hl.1 rfl (Nat.le_of_ble_eq_true rfl) dX0_fillOrders_2 ⟨Nat.zero_le _, Nat.zero_le _⟩ (fun r fs' as' H locs hp O => ?_)
  obtain ⟨x, u, hx, hu, rfl, rfl, rfl⟩ := hp
  exact RET _ _ _ _ _ _ _ O ⟨x, u, hx, hu, rfl, rfl, rfl⟩ rfl dX0_fillOrders_5
abbrev rX0_lengthOrder : Room := { frames := 5, cells := 0, slots := 0, locals := 134 }
set_option maxHeartbeats 4000000 in
set_option maxRecDepth 100000 in
theorem zX_lengthOrder (l : Launch) (D : va_G) (dA : ClassId) (h0 : Nat) (a : Nat → Nat) (g co wy ah pl tr : Nat → Nat) (hg : ∀ p, p < 6 → g p < 64) (d : Nat) (hd : d < 6) (o : Nat → Nat) (hG : ∀ x, zp_RA g 3 x 0 → zp_Gr g 3 x o) : zw_Ci l D dA yX0_lengthOrder cX0_lengthOrder 2 (some .int) rX0_lengthOrder 0 h0 [.int (nI d)] (fX a) (sX a g co wy ah pl tr) (fun r fs as => ∃ x, r = nI (o d) ∧ fs = fX a ∧ as = sX a g co wy x pl tr) := by
  refine zw_Ci.mk (ty := .int) (own := RX0) (lv0 := [(0, .ref h0), (1, .int (nI d))]) rfl rfl (by decide +kernel) (Nat.le_of_ble_eq_true rfl) rfl ?_
  intro p e s m args below meth c A Q X RET ls hl O
  refine lv_aload_n X.1 X.2.1 dX0_lengthOrder_0 rfl (lv_at hl 0 rfl) ?_
  refine lv_iload_n X.1 X.2.1 dX0_lengthOrder_1 rfl (lv_at hl 1 rfl) ?_
  refine zw_calli X O (zX_bad l D dA h0 a g co wy ah pl tr (nI d)) rfl 1 (lw_V q65 q67 qs0 q31 q68) rfl rfl (by decide +kernel) ⟨Nat.le_of_ble_eq_true rfl, Nat.le_of_ble_eq_true rfl⟩ rfl hl.1 rfl (Nat.le_of_ble_eq_true rfl) dX0_lengthOrder_2 ⟨Nat.zero_le _, Nat.zero_le _⟩ (fun r fs' as' H locs hp O => ?_)
  obtain ⟨rfl, rfl, rfl⟩ := hp
  refine zw_topn (0) (zp_bad_ok d hd) ?_
  refine zw_if_eq (tgt := 13) X (by decide) dX0_lengthOrder_5 (by decide) (fun c1 => ?_) (fun c1 => ?_)
  · refine lv_aload_n X.1 X.2.1 dX0_lengthOrder_13 rfl (lv_at hl 0 rfl) ?_
    refine lv_iconst (v := nI 3) X.1 X.2.1 dX0_lengthOrder_14 (by decide) ?_
    refine lv_iload_n X.1 X.2.1 dX0_lengthOrder_15 rfl (lv_at hl 1 rfl) ?_
    refine zw_calli X O (zX_orderAt l D dA h0 a g co wy ah pl tr hg 3 d (by decide) hd o hG) rfl 2 (lw_V q170 q172 qs14 q31 q173) rfl rfl (by decide +kernel) ⟨Nat.le_of_ble_eq_true rfl, Nat.le_of_ble_eq_true rfl⟩ rfl hl.1 rfl (Nat.le_of_ble_eq_true rfl) dX0_lengthOrder_16 ⟨Nat.zero_le _, Nat.zero_le _⟩ (fun r fs' as' H locs hp O => ?_)
    obtain ⟨x, rfl, rfl, rfl⟩ := hp
    exact RET _ _ _ _ _ _ _ O ⟨x, rfl, rfl, rfl⟩ rfl dX0_lengthOrder_19
  · exact absurd rfl c1
set_option maxHeartbeats 4000000 in
set_option maxRecDepth 100000 in
theorem zX_lengthOrderB (l : Launch) (D : va_G) (dA : ClassId) (h0 : Nat) (a : Nat → Nat) (g co wy ah pl tr : Nat → Nat) (x : Int32) (hb : zp_bad x = 1) : zw_Ci l D dA yX0_lengthOrder cX0_lengthOrder 2 (some .int) rX0_lengthOrder 0 h0 [.int x] (fX a) (sX a g co wy ah pl tr) (fun r fs as => r = -4 ∧ fs = fX a ∧ as = sX a g co wy ah pl tr) := by
  refine zw_Ci.mk (ty := .int) (own := RX0) (lv0 := [(0, .ref h0), (1, .int x)]) rfl rfl (by decide +kernel) (Nat.le_of_ble_eq_true rfl) rfl ?_
  intro p e s m args below meth c A Q X RET ls hl O
  refine lv_aload_n X.1 X.2.1 dX0_lengthOrder_0 rfl (lv_at hl 0 rfl) ?_
  refine lv_iload_n X.1 X.2.1 dX0_lengthOrder_1 rfl (lv_at hl 1 rfl) ?_
  refine zw_calli X O (zX_bad l D dA h0 a g co wy ah pl tr x) rfl 1 (lw_V q65 q67 qs0 q31 q68) rfl rfl (by decide +kernel) ⟨Nat.le_of_ble_eq_true rfl, Nat.le_of_ble_eq_true rfl⟩ rfl hl.1 rfl (Nat.le_of_ble_eq_true rfl) dX0_lengthOrder_2 ⟨Nat.zero_le _, Nat.zero_le _⟩ (fun r fs' as' H locs hp O => ?_)
  obtain ⟨rfl, rfl, rfl⟩ := hp
  refine zw_topn (1) hb ?_
  refine zw_if_eq (tgt := 13) X (by decide) dX0_lengthOrder_5 (by decide) (fun c1 => ?_) (fun c1 => ?_)
  · exact absurd c1 (by decide)
  · refine lv_bipush (v := -4) X.1 X.2.1 dX0_lengthOrder_8 (by decide) ?_
    refine lv_goto (tgt := 19) X.1 X.2.1 dX0_lengthOrder_10 (by decide) ?_
    exact RET _ _ _ _ _ _ _ O ⟨rfl, rfl, rfl⟩ rfl dX0_lengthOrder_19
abbrev rX0_widthOrder : Room := { frames := 5, cells := 0, slots := 0, locals := 134 }
set_option maxHeartbeats 4000000 in
set_option maxRecDepth 100000 in
theorem zX_widthOrder (l : Launch) (D : va_G) (dA : ClassId) (h0 : Nat) (a : Nat → Nat) (g co wy ah pl tr : Nat → Nat) (hg : ∀ p, p < 6 → g p < 64) (d : Nat) (hd : d < 6) (o : Nat → Nat) (hG : ∀ x, zp_RA g 2 x 0 → zp_Gr g 2 x o) : zw_Ci l D dA yX0_widthOrder cX0_widthOrder 2 (some .int) rX0_widthOrder 0 h0 [.int (nI d)] (fX a) (sX a g co wy ah pl tr) (fun r fs as => ∃ x, r = nI (o d) ∧ fs = fX a ∧ as = sX a g co wy x pl tr) := by
  refine zw_Ci.mk (ty := .int) (own := RX0) (lv0 := [(0, .ref h0), (1, .int (nI d))]) rfl rfl (by decide +kernel) (Nat.le_of_ble_eq_true rfl) rfl ?_
  intro p e s m args below meth c A Q X RET ls hl O
  refine lv_aload_n X.1 X.2.1 dX0_widthOrder_0 rfl (lv_at hl 0 rfl) ?_
  refine lv_iload_n X.1 X.2.1 dX0_widthOrder_1 rfl (lv_at hl 1 rfl) ?_
  refine zw_calli X O (zX_bad l D dA h0 a g co wy ah pl tr (nI d)) rfl 1 (lw_V q65 q67 qs0 q31 q68) rfl rfl (by decide +kernel) ⟨Nat.le_of_ble_eq_true rfl, Nat.le_of_ble_eq_true rfl⟩ rfl hl.1 rfl (Nat.le_of_ble_eq_true rfl) dX0_widthOrder_2 ⟨Nat.zero_le _, Nat.zero_le _⟩ (fun r fs' as' H locs hp O => ?_)
  obtain ⟨rfl, rfl, rfl⟩ := hp
  refine zw_topn (0) (zp_bad_ok d hd) ?_
  refine zw_if_eq (tgt := 13) X (by decide) dX0_widthOrder_5 (by decide) (fun c1 => ?_) (fun c1 => ?_)
  · refine lv_aload_n X.1 X.2.1 dX0_widthOrder_13 rfl (lv_at hl 0 rfl) ?_
    refine lv_iconst (v := nI 2) X.1 X.2.1 dX0_widthOrder_14 (by decide) ?_
    refine lv_iload_n X.1 X.2.1 dX0_widthOrder_15 rfl (lv_at hl 1 rfl) ?_
    refine zw_calli X O (zX_orderAt l D dA h0 a g co wy ah pl tr hg 2 d (by decide) hd o hG) rfl 2 (lw_V q170 q172 qs14 q31 q173) rfl rfl (by decide +kernel) ⟨Nat.le_of_ble_eq_true rfl, Nat.le_of_ble_eq_true rfl⟩ rfl hl.1 rfl (Nat.le_of_ble_eq_true rfl) dX0_widthOrder_16 ⟨Nat.zero_le _, Nat.zero_le _⟩ (fun r fs' as' H locs hp O => ?_)
    obtain ⟨x, rfl, rfl, rfl⟩ := hp
    exact RET _ _ _ _ _ _ _ O ⟨x, rfl, rfl, rfl⟩ rfl dX0_widthOrder_19
  · exact absurd rfl c1
set_option maxHeartbeats 4000000 in
set_option maxRecDepth 100000 in
theorem zX_widthOrderB (l : Launch) (D : va_G) (dA : ClassId) (h0 : Nat) (a : Nat → Nat) (g co wy ah pl tr : Nat → Nat) (x : Int32) (hb : zp_bad x = 1) : zw_Ci l D dA yX0_widthOrder cX0_widthOrder 2 (some .int) rX0_widthOrder 0 h0 [.int x] (fX a) (sX a g co wy ah pl tr) (fun r fs as => r = -4 ∧ fs = fX a ∧ as = sX a g co wy ah pl tr) := by
  refine zw_Ci.mk (ty := .int) (own := RX0) (lv0 := [(0, .ref h0), (1, .int x)]) rfl rfl (by decide +kernel) (Nat.le_of_ble_eq_true rfl) rfl ?_
  intro p e s m args below meth c A Q X RET ls hl O
  refine lv_aload_n X.1 X.2.1 dX0_widthOrder_0 rfl (lv_at hl 0 rfl) ?_
  refine lv_iload_n X.1 X.2.1 dX0_widthOrder_1 rfl (lv_at hl 1 rfl) ?_
  refine zw_calli X O (zX_bad l D dA h0 a g co wy ah pl tr x) rfl 1 (lw_V q65 q67 qs0 q31 q68) rfl rfl (by decide +kernel) ⟨Nat.le_of_ble_eq_true rfl, Nat.le_of_ble_eq_true rfl⟩ rfl hl.1 rfl (Nat.le_of_ble_eq_true rfl) dX0_widthOrder_2 ⟨Nat.zero_le _, Nat.zero_le _⟩ (fun r fs' as' H locs hp O => ?_)
  obtain ⟨rfl, rfl, rfl⟩ := hp
  refine zw_topn (1) hb ?_
  refine zw_if_eq (tgt := 13) X (by decide) dX0_widthOrder_5 (by decide) (fun c1 => ?_) (fun c1 => ?_)
  · exact absurd c1 (by decide)
  · refine lv_bipush (v := -4) X.1 X.2.1 dX0_widthOrder_8 (by decide) ?_
    refine lv_goto (tgt := 19) X.1 X.2.1 dX0_widthOrder_10 (by decide) ?_
    exact RET _ _ _ _ _ _ _ O ⟨rfl, rfl, rfl⟩ rfl dX0_widthOrder_19
abbrev rX0_whole : Room := { frames := 5, cells := 0, slots := 0, locals := 125 }
set_option maxHeartbeats 4000000 in
set_option maxRecDepth 100000 in
theorem zX_whole (l : Launch) (D : va_G) (dA : ClassId) (h0 : Nat) (a : Nat → Nat) (g co wy ah pl tr : Nat → Nat) (hg : ∀ p, p < 6 → g p < 64)  : zw_Ci l D dA yX0_whole cX0_whole 1 (some .boolean) rX0_whole 0 h0 [] (fX a) (sX a g co wy ah pl tr) (fun r fs as => ∃ x, zp_RC g 4 x 64 ∧ r = nI (if x 63 = 0 then 1 else 0) ∧ fs = fX a ∧ as = sX a g x wy ah pl tr) := by
  refine zw_Ci.mk (ty := .boolean) (own := RX0) (lv0 := [(0, .ref h0)]) rfl rfl (by decide +kernel) (Nat.le_of_ble_eq_true rfl) rfl ?_
  intro p e s m args below meth c A Q X RET ls hl O
  refine lv_aload_n X.1 X.2.1 dX0_whole_0 rfl (lv_at hl 0 rfl) ?_
  refine lv_iconst (v := nI 4) X.1 X.2.1 dX0_whole_1 (by decide) ?_
  refine zw_calli X O (zX_leastOf l D dA h0 a g co wy ah pl tr hg 4 (by decide)) rfl 1 (lw_V q90 q92 qs3 q31 q93) rfl rfl (by decide +kernel) ⟨Nat.le_of_ble_eq_true rfl, Nat.le_of_ble_eq_true rfl⟩ rfl hl.1 rfl (Nat.le_of_ble_eq_true rfl) dX0_whole_2 ⟨Nat.zero_le _, Nat.zero_le _⟩ (fun r fs' as' H locs hp O => ?_)
  obtain ⟨x, hx, rfl, rfl, rfl⟩ := hp
  have hb := zp_RC_le hx 63 (by decide)
  refine zw_if_ne (tgt := 12) X (by omega) dX0_whole_5 (by decide) (fun c1 => ?_) (fun c1 => ?_)
  · refine lv_iconst (v := nI 0) X.1 X.2.1 dX0_whole_12 (by decide) ?_
    exact RET _ _ _ _ _ _ _ O ⟨x, hx, by rw [if_neg c1], rfl, rfl⟩ rfl dX0_whole_13
  · refine lv_iconst (v := nI 1) X.1 X.2.1 dX0_whole_8 (by decide) ?_
    refine lv_goto (tgt := 13) X.1 X.2.1 dX0_whole_9 (by decide) ?_
    exact RET _ _ _ _ _ _ _ O ⟨x, hx, by rw [if_pos c1], rfl, rfl⟩ rfl dX0_whole_13
abbrev rX0_growth : Room := { frames := 5, cells := 0, slots := 0, locals := 125 }
set_option maxHeartbeats 4000000 in
set_option maxRecDepth 100000 in
/-- growth(i, j) of two points without a line -/
theorem zX_growth (l : Launch) (D : va_G) (dA : ClassId) (h0 : Nat) (a : Nat → Nat) (g co wy ah pl tr : Nat → Nat) (hg : ∀ p, p < 6 → g p < 64) (i j : Nat) (hi : i < 6) (hj : j < 6) (hij : i ≠ j) (ht : (g i).testBit j = false) : zw_Ci l D dA yX0_growth cX0_growth 5 (some .int) rX0_growth 0 h0 [.int (nI i), .int (nI j)] (fX a) (sX a g co wy ah pl tr) (fun r fs as => ∃ x x2, zp_RC g 2 x 64 ∧ zp_RC (zp_tn g i j) 2 x2 64 ∧ r = nI (x2 63) - nI (x 63) ∧ fs = fX a ∧ as = sX a g x2 wy ah pl tr) := by
  refine zw_Ci.mk (ty := .int) (own := RX0) (lv0 := [(0, .ref h0), (1, .int (nI i)), (2, .int (nI j))]) rfl rfl (by decide +kernel) (Nat.le_of_ble_eq_true rfl) rfl ?_
  intro p e s m args below meth c A Q X RET ls hl O
  refine lv_aload_n X.1 X.2.1 dX0_growth_0 rfl (lv_at hl 0 rfl) ?_
  refine lv_iload_n X.1 X.2.1 dX0_growth_1 rfl (lv_at hl 1 rfl) ?_
  refine zw_calli X O (zX_bad l D dA h0 a g co wy ah pl tr (nI i)) rfl 1 (lw_V q65 q67 qs0 q31 q68) rfl rfl (by decide +kernel) ⟨Nat.le_of_ble_eq_true rfl, Nat.le_of_ble_eq_true rfl⟩ rfl hl.1 rfl (Nat.le_of_ble_eq_true rfl) dX0_growth_2 ⟨Nat.zero_le _, Nat.zero_le _⟩ (fun r fs' as' H locs hp O => ?_)
  obtain ⟨rfl, rfl, rfl⟩ := hp
  refine zw_topn (0) (zp_bad_ok i hi) ?_
  refine zw_if_ne (tgt := 21) X (by decide) dX0_growth_5 (by decide) (fun c1 => ?_) (fun c1 => ?_)
  · exact absurd rfl c1
  · refine lv_aload_n X.1 X.2.1 dX0_growth_8 rfl (lv_at hl 0 rfl) ?_
    refine lv_iload_n X.1 X.2.1 dX0_growth_9 rfl (lv_at hl 2 rfl) ?_
    refine zw_calli X O (zX_bad l D dA h0 a g co wy ah pl tr (nI j)) rfl 1 (lw_V q65 q67 qs0 q31 q68) rfl rfl (by decide +kernel) ⟨Nat.le_of_ble_eq_true rfl, Nat.le_of_ble_eq_true rfl⟩ rfl hl.1 rfl (Nat.le_of_ble_eq_true rfl) dX0_growth_10 ⟨Nat.zero_le _, Nat.zero_le _⟩ (fun r fs' as' H locs hp O => ?_)
    obtain ⟨rfl, rfl, rfl⟩ := hp
    refine zw_topn (0) (zp_bad_ok j hj) ?_
    refine zw_if_ne (tgt := 21) X (by decide) dX0_growth_13 (by decide) (fun c2 => ?_) (fun c2 => ?_)
    · exact absurd rfl c2
    · refine lv_iload_n X.1 X.2.1 dX0_growth_16 rfl (lv_at hl 1 rfl) ?_
      refine lv_iload_n X.1 X.2.1 dX0_growth_17 rfl (lv_at hl 2 rfl) ?_
      refine zw_icmp_ne (tgt := 23) X (Nat.lt_trans hi (by decide)) (Nat.lt_trans hj (by decide)) dX0_growth_18 (by decide) (fun c3 => ?_) (fun c3 => ?_)
      · refine zx_f X O hl 0 rfl 0 (by decide) q41 rfl dX0_growth_23 dX0_growth_24 ?_
        refine lv_iload_n X.1 X.2.1 dX0_growth_27 rfl (lv_at hl 1 rfl) ?_
        refine zw_ld X O 0 rfl hi (by decide) dX0_growth_28 ?_
        refine lv_iload_n X.1 X.2.1 dX0_growth_29 rfl (lv_at hl 2 rfl) ?_
        refine zw_bit X (hg _ hi) hj dX0_growth_30 dX0_growth_31 dX0_growth_32 ?_
        refine zw_tbne (tgt := 39) X dX0_growth_33 dX0_growth_34 (by decide) (fun c4 => ?_) (fun c4 => ?_)
        · refine lv_aload_n X.1 X.2.1 dX0_growth_39 rfl (lv_at hl 0 rfl) ?_
          refine lv_iconst (v := nI 2) X.1 X.2.1 dX0_growth_40 (by decide) ?_
          refine zw_calli X O (zX_leastOf l D dA h0 a g co wy ah pl tr hg 2 (by decide)) rfl 1 (lw_V q90 q92 qs3 q31 q93) rfl rfl (by decide +kernel) ⟨Nat.le_of_ble_eq_true rfl, Nat.le_of_ble_eq_true rfl⟩ rfl hl.1 rfl (Nat.le_of_ble_eq_true rfl) dX0_growth_41 ⟨Nat.zero_le _, Nat.zero_le _⟩ (fun r fs' as' H locs hp O => ?_)
          obtain ⟨x, hx, rfl, rfl, rfl⟩ := hp
          refine lv_istore_n (lv' := [(3, .int (nI (x 63))), (0, .ref h0), (1, .int (nI i)), (2, .int (nI j))]) X.1 X.2.1 dX0_growth_44 rfl hl (by decide) rfl (fun ls hl => ?_)
          refine lv_aload_n X.1 X.2.1 dX0_growth_45 rfl (lv_at hl 1 rfl) ?_
          refine lv_iload_n X.1 X.2.1 dX0_growth_46 rfl (lv_at hl 2 rfl) ?_
          refine lv_iload_n X.1 X.2.1 dX0_growth_47 rfl (lv_at hl 3 rfl) ?_
          refine zw_callv X O (zX_turn l D dA h0 a g x wy ah pl tr i j hi hj) rfl 2 (lw_V q69 q71 qs1 q31 q72) rfl rfl (by decide +kernel) ⟨Nat.le_of_ble_eq_true rfl, Nat.le_of_ble_eq_true rfl⟩ rfl hl.1 rfl (Nat.le_of_ble_eq_true rfl) dX0_growth_48 ⟨Nat.zero_le _, Nat.zero_le _⟩ (fun fs' as' H locs hp O => ?_)
          obtain ⟨rfl, rfl⟩ := hp
          refine lv_aload_n X.1 X.2.1 dX0_growth_51 rfl (lv_at hl 1 rfl) ?_
          refine lv_iconst (v := nI 2) X.1 X.2.1 dX0_growth_52 (by decide) ?_
          refine zw_calli X O (zX_leastOf l D dA h0 a (zp_tn g i j) x wy ah pl tr (zp_tn_lt hg hi hj hij) 2 (by decide)) rfl 1 (lw_V q90 q92 qs3 q31 q93) rfl rfl (by decide +kernel) ⟨Nat.le_of_ble_eq_true rfl, Nat.le_of_ble_eq_true rfl⟩ rfl hl.1 rfl (Nat.le_of_ble_eq_true rfl) dX0_growth_53 ⟨Nat.zero_le _, Nat.zero_le _⟩ (fun r fs' as' H locs hp O => ?_)
          obtain ⟨x2, hx2, rfl, rfl, rfl⟩ := hp
          refine lv_istore (lv' := [(4, .int (nI (x2 63))), (3, .int (nI (x 63))), (0, .ref h0), (1, .int (nI i)), (2, .int (nI j))]) X.1 X.2.1 dX0_growth_56 hl (by decide) rfl (fun ls hl => ?_)
          refine lv_aload_n X.1 X.2.1 dX0_growth_58 rfl (lv_at hl 2 rfl) ?_
          refine lv_iload_n X.1 X.2.1 dX0_growth_59 rfl (lv_at hl 3 rfl) ?_
          refine lv_iload_n X.1 X.2.1 dX0_growth_60 rfl (lv_at hl 4 rfl) ?_
          refine zw_callv X O (zX_turn l D dA h0 a (zp_tn g i j) x2 wy ah pl tr i j hi hj) rfl 2 (lw_V q69 q71 qs1 q31 q72) rfl rfl (by decide +kernel) ⟨Nat.le_of_ble_eq_true rfl, Nat.le_of_ble_eq_true rfl⟩ rfl hl.1 rfl (Nat.le_of_ble_eq_true rfl) dX0_growth_61 ⟨Nat.zero_le _, Nat.zero_le _⟩ (fun fs' as' H locs hp O => ?_)
          obtain ⟨rfl, rfl⟩ := hp
          have O := zw_O_ext O 0 rfl g (fun q _ => zp_tn_tn hij q)
          refine lv_iload X.1 X.2.1 dX0_growth_64 (lv_at hl 0 rfl) ?_
          refine lv_iload_n X.1 X.2.1 dX0_growth_66 rfl (lv_at hl 1 rfl) ?_
          refine lv_isub X.1 X.2.1 dX0_growth_67 ?_
          exact RET _ _ _ _ _ _ _ O ⟨x, x2, hx, hx2, rfl, rfl, rfl⟩ rfl dX0_growth_68
        · rw [ht] at c4
          exact absurd c4 (by decide)
      · exact absurd c3 hij
set_option maxHeartbeats 4000000 in
set_option maxRecDepth 100000 in
/-- growth(i, j) of two points with a line -/
theorem zX_growth0 (l : Launch) (D : va_G) (dA : ClassId) (h0 : Nat) (a : Nat → Nat) (g co wy ah pl tr : Nat → Nat) (hg : ∀ p, p < 6 → g p < 64) (i j : Nat) (hi : i < 6) (hj : j < 6) (hij : i ≠ j) (ht : (g i).testBit j = true) : zw_Ci l D dA yX0_growth cX0_growth 5 (some .int) rX0_growth 0 h0 [.int (nI i), .int (nI j)] (fX a) (sX a g co wy ah pl tr) (fun r fs as => r = nI 0 ∧ fs = fX a ∧ as = sX a g co wy ah pl tr) := by
  refine zw_Ci.mk (ty := .int) (own := RX0) (lv0 := [(0, .ref h0), (1, .int (nI i)), (2, .int (nI j))]) rfl rfl (by decide +kernel) (Nat.le_of_ble_eq_true rfl) rfl ?_
  intro p e s m args below meth c A Q X RET ls hl O
  refine lv_aload_n X.1 X.2.1 dX0_growth_0 rfl (lv_at hl 0 rfl) ?_
  refine lv_iload_n X.1 X.2.1 dX0_growth_1 rfl (lv_at hl 1 rfl) ?_
  refine zw_calli X O (zX_bad l D dA h0 a g co wy ah pl tr (nI i)) rfl 1 (lw_V q65 q67 qs0 q31 q68) rfl rfl (by decide +kernel) ⟨Nat.le_of_ble_eq_true rfl, Nat.le_of_ble_eq_true rfl⟩ rfl hl.1 rfl (Nat.le_of_ble_eq_true rfl) dX0_growth_2 ⟨Nat.zero_le _, Nat.zero_le _⟩ (fun r fs' as' H locs hp O => ?_)
  obtain ⟨rfl, rfl, rfl⟩ := hp
  refine zw_topn (0) (zp_bad_ok i hi) ?_
  refine zw_if_ne (tgt := 21) X (by decide) dX0_growth_5 (by decide) (fun c1 => ?_) (fun c1 => ?_)
  · exact absurd rfl c1
  · refine lv_aload_n X.1 X.2.1 dX0_growth_8 rfl (lv_at hl 0 rfl) ?_
    refine lv_iload_n X.1 X.2.1 dX0_growth_9 rfl (lv_at hl 2 rfl) ?_
    refine zw_calli X O (zX_bad l D dA h0 a g co wy ah pl tr (nI j)) rfl 1 (lw_V q65 q67 qs0 q31 q68) rfl rfl (by decide +kernel) ⟨Nat.le_of_ble_eq_true rfl, Nat.le_of_ble_eq_true rfl⟩ rfl hl.1 rfl (Nat.le_of_ble_eq_true rfl) dX0_growth_10 ⟨Nat.zero_le _, Nat.zero_le _⟩ (fun r fs' as' H locs hp O => ?_)
    obtain ⟨rfl, rfl, rfl⟩ := hp
    refine zw_topn (0) (zp_bad_ok j hj) ?_
    refine zw_if_ne (tgt := 21) X (by decide) dX0_growth_13 (by decide) (fun c2 => ?_) (fun c2 => ?_)
    · exact absurd rfl c2
    · refine lv_iload_n X.1 X.2.1 dX0_growth_16 rfl (lv_at hl 1 rfl) ?_
      refine lv_iload_n X.1 X.2.1 dX0_growth_17 rfl (lv_at hl 2 rfl) ?_
      refine zw_icmp_ne (tgt := 23) X (Nat.lt_trans hi (by decide)) (Nat.lt_trans hj (by decide)) dX0_growth_18 (by decide) (fun c3 => ?_) (fun c3 => ?_)
      · refine zx_f X O hl 0 rfl 0 (by decide) q41 rfl dX0_growth_23 dX0_growth_24 ?_
        refine lv_iload_n X.1 X.2.1 dX0_growth_27 rfl (lv_at hl 1 rfl) ?_
        refine zw_ld X O 0 rfl hi (by decide) dX0_growth_28 ?_
        refine lv_iload_n X.1 X.2.1 dX0_growth_29 rfl (lv_at hl 2 rfl) ?_
        refine zw_bit X (hg _ hi) hj dX0_growth_30 dX0_growth_31 dX0_growth_32 ?_
        refine zw_tbne (tgt := 39) X dX0_growth_33 dX0_growth_34 (by decide) (fun c4 => ?_) (fun c4 => ?_)
        · rw [ht] at c4
          exact absurd c4 (by decide)
        · refine lv_iconst (v := nI 0) X.1 X.2.1 dX0_growth_37 (by decide) ?_
          exact RET _ _ _ _ _ _ _ O ⟨rfl, rfl, rfl⟩ rfl dX0_growth_38
      · exact absurd c3 hij
set_option maxHeartbeats 4000000 in
set_option maxRecDepth 100000 in
/-- growth of no two points -/
theorem zX_growthB (l : Launch) (D : va_G) (dA : ClassId) (h0 : Nat) (a : Nat → Nat) (g co wy ah pl tr : Nat → Nat) (x y : Int32) (hb : zp_bad x = 1 ∨ zp_bad y = 1 ∨ x = y) : zw_Ci l D dA yX0_growth cX0_growth 5 (some .int) rX0_growth 0 h0 [.int x, .int y] (fX a) (sX a g co wy ah pl tr) (fun r fs as => r = -1 ∧ fs = fX a ∧ as = sX a g co wy ah pl tr) := by
  refine zw_Ci.mk (ty := .int) (own := RX0) (lv0 := [(0, .ref h0), (1, .int x), (2, .int y)]) rfl rfl (by decide +kernel) (Nat.le_of_ble_eq_true rfl) rfl ?_
  intro p e s m args below meth c A Q X RET ls hl O
  refine lv_aload_n X.1 X.2.1 dX0_growth_0 rfl (lv_at hl 0 rfl) ?_
  refine lv_iload_n X.1 X.2.1 dX0_growth_1 rfl (lv_at hl 1 rfl) ?_
  refine zw_calli X O (zX_bad l D dA h0 a g co wy ah pl tr x) rfl 1 (lw_V q65 q67 qs0 q31 q68) rfl rfl (by decide +kernel) ⟨Nat.le_of_ble_eq_true rfl, Nat.le_of_ble_eq_true rfl⟩ rfl hl.1 rfl (Nat.le_of_ble_eq_true rfl) dX0_growth_2 ⟨Nat.zero_le _, Nat.zero_le _⟩ (fun r fs' as' H locs hp O => ?_)
  obtain ⟨rfl, rfl, rfl⟩ := hp
  refine zw_if_ne (tgt := 21) X (Nat.lt_of_le_of_lt (zp_bad_le _) (by decide)) dX0_growth_5 (by decide) (fun c1 => ?_) (fun c1 => ?_)
  · refine lv_iconst (v := -1) X.1 X.2.1 dX0_growth_21 (by decide) ?_
    exact RET _ _ _ _ _ _ _ O ⟨rfl, rfl, rfl⟩ rfl dX0_growth_22
  · refine lv_aload_n X.1 X.2.1 dX0_growth_8 rfl (lv_at hl 0 rfl) ?_
    refine lv_iload_n X.1 X.2.1 dX0_growth_9 rfl (lv_at hl 2 rfl) ?_
    refine zw_calli X O (zX_bad l D dA h0 a g co wy ah pl tr y) rfl 1 (lw_V q65 q67 qs0 q31 q68) rfl rfl (by decide +kernel) ⟨Nat.le_of_ble_eq_true rfl, Nat.le_of_ble_eq_true rfl⟩ rfl hl.1 rfl (Nat.le_of_ble_eq_true rfl) dX0_growth_10 ⟨Nat.zero_le _, Nat.zero_le _⟩ (fun r fs' as' H locs hp O => ?_)
    obtain ⟨rfl, rfl, rfl⟩ := hp
    refine zw_if_ne (tgt := 21) X (Nat.lt_of_le_of_lt (zp_bad_le _) (by decide)) dX0_growth_13 (by decide) (fun c2 => ?_) (fun c2 => ?_)
    · refine lv_iconst (v := -1) X.1 X.2.1 dX0_growth_21 (by decide) ?_
      exact RET _ _ _ _ _ _ _ O ⟨rfl, rfl, rfl⟩ rfl dX0_growth_22
    · refine lv_iload_n X.1 X.2.1 dX0_growth_16 rfl (lv_at hl 1 rfl) ?_
      refine lv_iload_n X.1 X.2.1 dX0_growth_17 rfl (lv_at hl 2 rfl) ?_
      refine lv_icmp_ne (tgt := 23) X.1 X.2.1 dX0_growth_18 (by decide) (fun c3 => ?_) (fun c3 => ?_)
      · rcases hb with q | q | q
        · exact absurd c1 (by rw [q]; decide)
        · exact absurd c2 (by rw [q]; decide)
        · exact absurd q c3
      · refine lv_iconst (v := -1) X.1 X.2.1 dX0_growth_21 (by decide) ?_
        exact RET _ _ _ _ _ _ _ O ⟨rfl, rfl, rfl⟩ rfl dX0_growth_22
end
section
/-! HELP 3: for LayoutWidthsModel -/
def zp_ip (x y : Int32) : Nat := if zp_bad x = 0 ∧ zp_bad y = 0 ∧ ¬ x = y then 1 else 0
theorem zp_bad_gt {x : Int32} (h : nI 5 < x) : zp_bad x = 1 := by
  unfold zp_bad
  refine if_pos (Or.inr ?_)
  have h1 := Int32.lt_iff_toInt_lt.mp h
  refine Int32.le_iff_toInt_le.mpr ?_
  rw [nI_toInt (by decide)] at h1 ⊢
  omega
theorem zp_bad_lt {x : Int32} (h : x < 0) : zp_bad x = 1 := by unfold zp_bad; exact if_pos (Or.inl h)
theorem zp_bad_in {x : Int32} (h : ¬ x < 0) (h2 : ¬ nI 5 < x) : zp_bad x = 0 := by
  unfold zp_bad
  refine if_neg (fun q => ?_)
  rcases q with q | q
  · exact h q
  · refine h2 (Int32.lt_iff_toInt_lt.mpr ?_)
    have h1 := Int32.le_iff_toInt_le.mp q
    rw [nI_toInt (by decide)] at h1 ⊢
    omega
theorem zp_ip_ok : ∀ i, i < 6 → ∀ j, j < 6 → i ≠ j → zp_ip (nI i) (nI j) = 1 := by decide +kernel
theorem zp_ip_no {x y : Int32} (h : zp_bad x = 1 ∨ zp_bad y = 1 ∨ x = y) : zp_ip x y = 0 := by
  unfold zp_ip
  refine if_neg (fun q => ?_)
  rcases h with h | h | h
  · omega
  · omega
  · exact q.2.2 h
theorem zp_ip_le (x y : Int32) : zp_ip x y ≤ 1 := by unfold zp_ip; split <;> decide
theorem zp_nth_lt (S : Nat) : ∀ n p rest, p + n ≤ 6 → zp_nth S n p rest < 6
  | 0, _, _, _ => by simp [zp_nth]
  | n + 1, p, rest, h => by
    simp only [zp_nth]
    split
    · split
      · omega
      · exact zp_nth_lt S n (p + 1) _ (by omega)
    · exact zp_nth_lt S n (p + 1) _ (by omega)
theorem zp_un_s : ∀ i, i < 6 → zp_un i / (6 - i) = zp_un (i + 1) := by decide
theorem zp_un_pos : ∀ i, i ≤ 6 → 0 < zp_un i := by decide
theorem zp_un_le : ∀ i, i ≤ 6 → zp_un i ≤ 720 := by decide
theorem zp_so_le (t : Nat) : ∀ i, (zp_so t i).1 ≤ t
  | 0 => Nat.le_refl _
  | i + 1 => by
    simp only [zp_so]
    exact Nat.le_trans (Nat.mod_le _ _) (zp_so_le t i)
theorem zp_so_lt (t : Nat) : ∀ i, (zp_so t i).2 < 64
  | 0 => show (63 : Nat) < 64 by decide
  | i + 1 => zp_sd_lt (zp_so_lt t i)
theorem zp_row_lt (t i : Nat) : zp_row t i < 6 := zp_nth_lt _ 6 0 _ (by decide)
theorem zp_mx_le {f : Nat → Nat} {b : Nat} : ∀ n, (∀ i, i < n → f i ≤ b) → zp_mx f n ≤ b
  | 0, _ => by simp [zp_mx]
  | n + 1, h => by
    have h1 := zp_mx_le n (fun i hi => h i (Nat.lt_succ_of_lt hi))
    have h2 := h n (Nat.lt_succ_self n)
    simp only [zp_mx]
    omega
theorem zp_lat_le (g r : Nat → Nat) (i k : Nat) : zp_lat g r i k ≤ 6 := zp_pop_le _
theorem zp_latS_le (g r : Nat → Nat) (i k : Nat) (h : k ≤ 6) : zp_sm (zp_lat g r i) k ≤ 36 := by
  have := zp_sm_le (f := zp_lat g r i) (b := 6) k (fun q _ => zp_lat_le g r i q)
  omega
theorem zp_ct_le (g r : Nat → Nat) (i : Nat) (h : i < 6) : zp_ct g r i ≤ 36 := zp_latS_le g r i (i + 1) h
theorem zp_pt1_le (g r : Nat → Nat) (i k : Nat) : zp_pt1 g r i k ≤ 1 := by unfold zp_pt1; split <;> decide
theorem zp_ptS_le (g r : Nat → Nat) (i k : Nat) (h : k ≤ 6) : zp_sm (zp_pt1 g r i) k ≤ 36 := by
  have := zp_sm_le (f := zp_pt1 g r i) (b := 1) k (fun q _ => zp_pt1_le g r i q)
  omega
theorem zp_pt_le (g r : Nat → Nat) (i : Nat) (h : i < 6) : zp_pt g r i ≤ 36 := zp_ptS_le g r i (i + 1) h
theorem zp_st1_le (g r : Nat → Nat) (i k : Nat) : zp_st1 g r i k ≤ i := by unfold zp_st1; split <;> omega
theorem zp_stM_le (g r : Nat → Nat) (i k : Nat) : zp_mx (zp_st1 g r i) k ≤ i := zp_mx_le k (fun q _ => zp_st1_le g r i q)
theorem zp_s2_le (g r : Nat → Nat) (i : Nat) (h : i < 6) : zp_s2 g r i ≤ 36 := by
  have := zp_stM_le g r i (i + 1)
  unfold zp_s2
  omega
theorem zp_stS_le (g r : Nat → Nat) (i k : Nat) (h : i < 6) (hk : k ≤ 6) : zp_sm (zp_st1 g r i) k ≤ 36 := by
  have := zp_sm_le (f := zp_st1 g r i) (b := 5) k (fun q _ => by have := zp_st1_le g r i q; omega)
  omega
theorem zp_s3_le (g r : Nat → Nat) (i : Nat) (h : i < 6) : zp_s3 g r i ≤ 36 := zp_stS_le g r i (i + 1) h h
theorem zp_put_le (lf : Nat → Nat) (S : Nat) : zp_put lf S ≤ 18 := by
  unfold zp_put
  have := zp_sm_le (f := zp_put1 lf S) (b := 6) 6 (fun q _ => by unfold zp_put1; split; exact zp_pop_le _; decide)
  omega
theorem zp_nm_le (g r : Nat → Nat) (k : Nat) : zp_nm g r k ≤ 216 := by
  unfold zp_nm
  split
  · exact Nat.le_trans (zp_mx_le 6 (fun q hq => zp_ct_le g r q hq)) (by decide)
  split
  · exact Nat.le_trans (zp_mx_le 6 (fun q hq => zp_pt_le g r q hq)) (by decide)
  split
  · exact Nat.le_trans (zp_mx_le 6 (fun q hq => zp_s2_le g r q hq)) (by decide)
  split
  · exact zp_sm_le (b := 36) 6 (fun q hq => zp_s3_le g r q hq)
  split
  · exact Nat.le_trans (zp_mx_le (b := 6) 6 (fun q hq => zp_pop_le _)) (by decide)
  · exact Nat.le_trans (zp_sm_le (b := 18) 6 (fun q hq => zp_put_le _ _)) (by decide)
def zp_ly (g r nu : Nat → Nat) (k : Nat) : Nat := if k < 4 then zp_nm g r k else nu k
def zp_ta (g r nu : Nat → Nat) (k : Nat) : Nat := if k = 4 ∨ k = 5 then zp_nm g r k else nu k
theorem zp_join_lt {lf : Nat → Nat} (hl : ∀ p, p < 6 → lf p < 64) {S : Nat} (hS : S < 64) : ∀ p, p < 6 → zp_join lf S p < 64 := by
  intro p hp
  unfold zp_join
  split
  · exact zp_or_lt (hl p hp) (zp_sd_lt (zp_sd_lt hS))
  · exact hl p hp
theorem zp_lf_lt {g r : Nat → Nat} (hg : ∀ p, p < 6 → g p < 64) (hr : ∀ p, p < 6 → r p < 6) : ∀ i, i ≤ 6 → ∀ p, p < 6 → zp_lf g r i p < 64
  | 0, _, p, hp => hg p hp
  | i + 1, h, p, hp => zp_sd_lt (zp_join_lt (zp_lf_lt hg hr i (by omega)) (zp_lf_lt hg hr i (by omega) (r i) (hr i (by omega))) p hp)
theorem zp_put1_le (lf : Nat → Nat) (S p : Nat) : zp_put1 lf S p ≤ 6 := by unfold zp_put1; split; exact zp_pop_le _; decide
def zp_v (g : Nat → Nat) (k t : Nat) : Nat := zp_nm g (zp_row t) k
def zp_KN (g le cn fi : Nat → Nat) : Prop := ∀ k, k < 6 → le k = zp_le (zp_v g k) 720 ∧ (∃ c0, cn k = zp_cn (zp_v g k) c0 720) ∧ (∃ c0, fi k = zp_fi (zp_v g k) c0 720)
theorem zp_le_le (v : Nat → Nat) : ∀ n, zp_le v n ≤ 1000
  | 0 => Nat.le_refl _
  | n + 1 => by
    have := zp_le_le v n
    simp only [zp_le]
    split
    · omega
    · exact this
theorem zp_le_0 (v : Nat → Nat) : zp_le v 0 = 1000 := rfl
theorem zp_le_s (v : Nat → Nat) (n : Nat) : zp_le v (n + 1) = if v n < zp_le v n then v n else zp_le v n := rfl
theorem zp_fi_s (v : Nat → Nat) (c0 n : Nat) : zp_fi v c0 (n + 1) = if v n < zp_le v n then n else zp_fi v c0 n := rfl
theorem zp_cn_s (v : Nat → Nat) (c0 n : Nat) : zp_cn v c0 (n + 1) = if v n < zp_le v n then 1 else if v n = zp_le v n then zp_cn v c0 n + 1 else zp_cn v c0 n := rfl
theorem zp_le_lt {v : Nat → Nat} (h : ∀ i, v i ≤ 216) : ∀ n, zp_le v (n + 1) ≤ 216
  | 0 => by
    have h1 := h 0
    rw [zp_le_s, zp_le_0]
    split
    · exact h1
    · omega
  | n + 1 => by
    have h2 := zp_le_lt h n
    have h1 := h (n + 1)
    rw [zp_le_s]
    split
    · exact h1
    · exact h2
theorem zp_fi_lt {v : Nat → Nat} (h : ∀ i, v i ≤ 216) (c0 : Nat) : ∀ n, zp_fi v c0 (n + 1) < n + 1
  | 0 => by
    have h1 := h 0
    rw [zp_fi_s, zp_le_0]
    split
    · decide
    · omega
  | n + 1 => by
    have h2 := zp_fi_lt h c0 n
    rw [zp_fi_s]
    split
    · omega
    · omega
theorem zp_isq_t {g : Nat → Nat} {S : Nat} (h : ∀ p, p < 6 → S.testBit p = true → zp_sd (zp_sd S (g p)) (2 ^ p) = 0) : zp_isq g S = true := by
  unfold zp_isq
  rw [List.all_eq_true]
  intro p hp
  cases hh : S.testBit p
  · rfl
  · rw [h p (List.mem_range.mp hp) hh]; rfl
theorem zp_isq_f {g : Nat → Nat} {S p : Nat} (hp : p < 6) (h : S.testBit p = true) (h2 : ¬ zp_sd (zp_sd S (g p)) (2 ^ p) = 0) : zp_isq g S = false := by
  cases hh : zp_isq g S
  · rfl
  · unfold zp_isq at hh
    rw [List.all_eq_true] at hh
    have := hh p (List.mem_range.mpr hp)
    rw [h] at this
    simp at this
    exact absurd this h2
theorem zp_mq_le (g : Nat → Nat) : ∀ n, zp_mq g n ≤ 6
  | 0 => by simp [zp_mq]
  | n + 1 => by
    simp only [zp_mq]
    split
    · exact zp_pop_le _
    · exact zp_mq_le g n
theorem zp_nth_s (S n p rest : Nat) : zp_nth S (n + 1) p rest = if S.testBit p = true then (if rest = 0 then p else zp_nth S n (p + 1) (rest - 1)) else zp_nth S n (p + 1) rest := rfl
end
section
/-! LayoutWidthsModel: contracts, first half (written by gen/m1.py) -/
abbrev rX1_isPair : Room := { frames := 0, cells := 0, slots := 0, locals := 0 }
set_option maxHeartbeats 4000000 in
set_option maxRecDepth 100000 in
/-- whether these are two points -/
theorem zM_isPair (l : Launch) (D : va_G) (dA : ClassId) (h0 : Nat) (a : Nat → Nat) (g lf rw nu le cn fi : Nat → Nat) (kn : Nat) (x y : Int32) : zw_Ci l D dA yX1_isPair cX1_isPair 3 (some .boolean) rX1_isPair 1 h0 [.int x, .int y] (fM a kn) (sM a g lf rw nu le cn fi) (fun r fs as => r = nI (zp_ip x y) ∧ fs = fM a kn ∧ as = sM a g lf rw nu le cn fi) := by
  refine zw_Ci.mk (ty := .boolean) (own := RX1) (lv0 := [(0, .ref h0), (1, .int x), (2, .int y)]) rfl rfl (by decide +kernel) (Nat.le_of_ble_eq_true rfl) rfl ?_
  intro p e s m args below meth c A Q X RET ls hl O
  refine lv_iload_n X.1 X.2.1 dX1_isPair_0 rfl (lv_at hl 1 rfl) ?_
  refine lv_if_lt (tgt := 27) X.1 X.2.1 dX1_isPair_1 (by decide) (fun c1 => ?_) (fun c1 => ?_)
  · refine lv_iconst (v := nI 0) X.1 X.2.1 dX1_isPair_27 (by decide) ?_
    exact RET _ _ _ _ _ _ _ O ⟨by rw [zp_ip_no (Or.inl (zp_bad_lt c1))], rfl, rfl⟩ rfl dX1_isPair_28
  · refine lv_iload_n X.1 X.2.1 dX1_isPair_4 rfl (lv_at hl 1 rfl) ?_
    refine lv_iconst (v := nI 5) X.1 X.2.1 dX1_isPair_5 (by decide) ?_
    refine lv_icmp_gt (tgt := 27) X.1 X.2.1 dX1_isPair_6 (by decide) (fun c2 => ?_) (fun c2 => ?_)
    · refine lv_iconst (v := nI 0) X.1 X.2.1 dX1_isPair_27 (by decide) ?_
      exact RET _ _ _ _ _ _ _ O ⟨by rw [zp_ip_no (Or.inl (zp_bad_gt c2))], rfl, rfl⟩ rfl dX1_isPair_28
    · refine lv_iload_n X.1 X.2.1 dX1_isPair_9 rfl (lv_at hl 2 rfl) ?_
      refine lv_if_lt (tgt := 27) X.1 X.2.1 dX1_isPair_10 (by decide) (fun c3 => ?_) (fun c3 => ?_)
      · refine lv_iconst (v := nI 0) X.1 X.2.1 dX1_isPair_27 (by decide) ?_
        exact RET _ _ _ _ _ _ _ O ⟨by rw [zp_ip_no (Or.inr (Or.inl (zp_bad_lt c3)))], rfl, rfl⟩ rfl dX1_isPair_28
      · refine lv_iload_n X.1 X.2.1 dX1_isPair_13 rfl (lv_at hl 2 rfl) ?_
        refine lv_iconst (v := nI 5) X.1 X.2.1 dX1_isPair_14 (by decide) ?_
        refine lv_icmp_gt (tgt := 27) X.1 X.2.1 dX1_isPair_15 (by decide) (fun c4 => ?_) (fun c4 => ?_)
        · refine lv_iconst (v := nI 0) X.1 X.2.1 dX1_isPair_27 (by decide) ?_
          exact RET _ _ _ _ _ _ _ O ⟨by rw [zp_ip_no (Or.inr (Or.inl (zp_bad_gt c4)))], rfl, rfl⟩ rfl dX1_isPair_28
        · refine lv_iload_n X.1 X.2.1 dX1_isPair_18 rfl (lv_at hl 1 rfl) ?_
          refine lv_iload_n X.1 X.2.1 dX1_isPair_19 rfl (lv_at hl 2 rfl) ?_
          refine lv_icmp_eq (tgt := 27) X.1 X.2.1 dX1_isPair_20 (by decide) (fun c5 => ?_) (fun c5 => ?_)
          · refine lv_iconst (v := nI 0) X.1 X.2.1 dX1_isPair_27 (by decide) ?_
            exact RET _ _ _ _ _ _ _ O ⟨by rw [zp_ip_no (Or.inr (Or.inr c5))], rfl, rfl⟩ rfl dX1_isPair_28
          · refine lv_iconst (v := nI 1) X.1 X.2.1 dX1_isPair_23 (by decide) ?_
            refine lv_goto (tgt := 28) X.1 X.2.1 dX1_isPair_24 (by decide) ?_
            exact RET _ _ _ _ _ _ _ O ⟨by unfold zp_ip; rw [if_pos ⟨zp_bad_in c1 c2, zp_bad_in c3 c4, c5⟩], rfl, rfl⟩ rfl dX1_isPair_28
abbrev rX1_bits : Room := { frames := 0, cells := 0, slots := 0, locals := 0 }
set_option maxHeartbeats 4000000 in
set_option maxRecDepth 100000 in
/-- the points of a set -/
theorem zM_bits (l : Launch) (D : va_G) (dA : ClassId) (h0 : Nat) (a : Nat → Nat) (g lf rw nu le cn fi : Nat → Nat) (kn : Nat) (S : Nat) (hS : S < 64) : zw_Ci l D dA yX1_bits cX1_bits 4 (some .int) rX1_bits 1 h0 [.int (nI S)] (fM a kn) (sM a g lf rw nu le cn fi) (fun r fs as => r = nI (zp_pop S) ∧ fs = fM a kn ∧ as = sM a g lf rw nu le cn fi) := by
  refine zw_Ci.mk (ty := .int) (own := RX1) (lv0 := [(0, .ref h0), (1, .int (nI S))]) rfl rfl (by decide +kernel) (Nat.le_of_ble_eq_true rfl) rfl ?_
  intro p e s m args below meth c A Q X RET ls hl O
  refine lv_iconst (v := nI 0) X.1 X.2.1 dX1_bits_0 (by decide) ?_
  refine lv_istore_n (lv' := [(2, .int (nI 0)), (0, .ref h0), (1, .int (nI S))]) X.1 X.2.1 dX1_bits_1 rfl hl (by decide) rfl (fun ls hl => ?_)
  refine lv_iconst (v := nI 0) X.1 X.2.1 dX1_bits_2 (by decide) ?_
  refine lv_istore_n (lv' := [(3, .int (nI 0)), (2, .int (nI 0)), (0, .ref h0), (1, .int (nI S))]) X.1 X.2.1 dX1_bits_3 rfl hl (by decide) rfl (fun ls hl => ?_)
  have L4 : ∀ (n : Nat) (i : Nat), (i + n = 6) → ∀ (H : Heap) (locs : List Loc), zw_O D dA A s H locs 1 h0 (fM a kn) (sM a g lf rw nu le cn fi) → ∀ (ls : Array Slot), lv_has ls 4 [(0, .ref h0), (1, .int (nI S)), (2, .int (nI (zp_sm (zp_tb S) i))), (3, .int (nI i))] → W p l e rX1_bits s m args below meth c H locs 0 0 Q (F0 m 4 ls []) := by
    intro n
    induction n with
    | zero =>
      intro i hi H locs O ls hl
      refine lv_iload_n X.1 X.2.1 dX1_bits_4 rfl (lv_at hl 3 rfl) ?_
      refine lv_bipush (v := nI 6) X.1 X.2.1 dX1_bits_5 (by decide) ?_
      refine zw_icmp_ge (tgt := 24) X (by omega) (by decide) dX1_bits_7 (by decide) (fun cb => ?_) (fun cb => ?_)
      · refine lv_iload_n X.1 X.2.1 dX1_bits_24 rfl (lv_at hl 2 rfl) ?_
        exact RET _ _ _ _ _ _ _ O ⟨by rw [show i = 6 by omega]; rfl, rfl, rfl⟩ rfl dX1_bits_25
      · exact absurd cb (by omega)
    | succ n ih =>
      intro i hi H locs O ls hl
      refine lv_iload_n X.1 X.2.1 dX1_bits_4 rfl (lv_at hl 3 rfl) ?_
      refine lv_bipush (v := nI 6) X.1 X.2.1 dX1_bits_5 (by decide) ?_
      refine zw_icmp_ge (tgt := 24) X (by omega) (by decide) dX1_bits_7 (by decide) (fun cb => ?_) (fun cb => ?_)
      · exact absurd cb (by omega)
      · refine lv_iload_n X.1 X.2.1 dX1_bits_10 rfl (lv_at hl 2 rfl) ?_
        refine lv_iload_n X.1 X.2.1 dX1_bits_11 rfl (lv_at hl 1 rfl) ?_
        refine lv_iload_n X.1 X.2.1 dX1_bits_12 rfl (lv_at hl 3 rfl) ?_
        refine zw_bit X hS (by omega) dX1_bits_13 dX1_bits_14 dX1_bits_15 ?_
        refine zw_add X dX1_bits_16 ?_
        refine lv_istore_n (lv' := [(2, .int (nI ((zp_sm (zp_tb S) i) + (zp_tb S i)))), (0, .ref h0), (1, .int (nI S)), (3, .int (nI i))]) X.1 X.2.1 dX1_bits_17 rfl hl (by decide) rfl (fun ls hl => ?_)
        refine lv_iinc (v := nI (i + 1)) (lv' := [(3, .int (nI (i + 1))), (2, .int (nI ((zp_sm (zp_tb S) i) + (zp_tb S i)))), (0, .ref h0), (1, .int (nI S))]) X.1 X.2.1 dX1_bits_18 hl (k := 3) rfl (zi_inc _) (by decide) rfl (fun ls hl => ?_)
        refine lv_goto (tgt := 4) X.1 X.2.1 dX1_bits_21 (by decide) ?_
        exact ih (i + 1) (by omega) _ _ O ls (lv_sub hl [2, 3, 1, 0] rfl)
  exact L4 6 0 (by omega) _ _ O ls (lv_sub hl [2, 3, 1, 0] rfl)
abbrev rX1_exchange : Room := { frames := 0, cells := 0, slots := 0, locals := 0 }
set_option maxHeartbeats 4000000 in
set_option maxRecDepth 100000 in
/-- a line put in or taken out -/
theorem zM_exchange (l : Launch) (D : va_G) (dA : ClassId) (h0 : Nat) (a : Nat → Nat) (g lf rw nu le cn fi : Nat → Nat) (kn : Nat) (i j : Nat) (hi : i < 6) (hj : j < 6) : zw_Cv l D dA yX1_exchange cX1_exchange 3 rX1_exchange 1 h0 [.int (nI i), .int (nI j)] (fM a kn) (sM a g lf rw nu le cn fi) (fun fs as => fs = fM a kn ∧ as = sM a (zp_tn g i j) lf rw nu le cn fi) := by
  refine zw_Cv.mk (own := RX1) (lv0 := [(0, .ref h0), (1, .int (nI i)), (2, .int (nI j))]) rfl (by decide +kernel) (Nat.le_of_ble_eq_true rfl) rfl ?_
  intro p e s m args below meth c A Q X RET ls hl O
  refine zm_f X O hl 0 rfl 0 (by decide) q200 rfl dX1_exchange_0 dX1_exchange_1 ?_
  refine lv_iload_n X.1 X.2.1 dX1_exchange_4 rfl (lv_at hl 1 rfl) ?_
  refine zm_f X O hl 0 rfl 0 (by decide) q200 rfl dX1_exchange_5 dX1_exchange_6 ?_
  refine lv_iload_n X.1 X.2.1 dX1_exchange_9 rfl (lv_at hl 1 rfl) ?_
  refine zw_ld X O 0 rfl hi (by decide) dX1_exchange_10 ?_
  refine lv_iconst (v := nI 1) X.1 X.2.1 dX1_exchange_11 (by decide) ?_
  refine lv_iload_n X.1 X.2.1 dX1_exchange_12 rfl (lv_at hl 2 rfl) ?_
  refine zw_shl X hj dX1_exchange_13 ?_
  refine zw_xor X dX1_exchange_14 ?_
  refine zw_st X O 0 rfl hi (by decide) dX1_exchange_15 (fun H locs O => ?_)
  have O : zw_O D dA A s H locs 1 h0 (fM a kn) (sM a (va_up g i ((g i) ^^^ (2 ^ j))) lf rw nu le cn fi) := O
  refine zm_f X O hl 0 rfl 0 (by decide) q200 rfl dX1_exchange_16 dX1_exchange_17 ?_
  refine lv_iload_n X.1 X.2.1 dX1_exchange_20 rfl (lv_at hl 2 rfl) ?_
  refine zm_f X O hl 0 rfl 0 (by decide) q200 rfl dX1_exchange_21 dX1_exchange_22 ?_
  refine lv_iload_n X.1 X.2.1 dX1_exchange_25 rfl (lv_at hl 2 rfl) ?_
  refine zw_ld X O 0 rfl hj (by decide) dX1_exchange_26 ?_
  refine lv_iconst (v := nI 1) X.1 X.2.1 dX1_exchange_27 (by decide) ?_
  refine lv_iload_n X.1 X.2.1 dX1_exchange_28 rfl (lv_at hl 1 rfl) ?_
  refine zw_shl X hi dX1_exchange_29 ?_
  refine zw_xor X dX1_exchange_30 ?_
  refine zw_st X O 0 rfl hj (by decide) dX1_exchange_31 (fun H locs O => ?_)
  have O : zw_O D dA A s H locs 1 h0 (fM a kn) (sM a (va_up (va_up g i ((g i) ^^^ (2 ^ j))) j (((va_up g i ((g i) ^^^ (2 ^ j))) j) ^^^ (2 ^ i))) lf rw nu le cn fi) := O
  exact RET _ _ _ _ _ _ O ⟨rfl, rfl⟩ dX1_exchange_32
abbrev rX1_line : Room := { frames := 1, cells := 0, slots := 0, locals := 22 }
set_option maxHeartbeats 4000000 in
set_option maxRecDepth 100000 in
/-- line(i, j) of two points -/
theorem zM_line (l : Launch) (D : va_G) (dA : ClassId) (h0 : Nat) (a : Nat → Nat) (g lf rw nu le cn fi : Nat → Nat) (kn : Nat) (hg : ∀ p, p < 6 → g p < 64) (i j : Nat) (hi : i < 6) (hj : j < 6) (hij : i ≠ j) : zw_Ci l D dA yX1_line cX1_line 3 (some .int) rX1_line 1 h0 [.int (nI i), .int (nI j)] (fM a kn) (sM a g lf rw nu le cn fi) (fun r fs as => r = nI (zp_tb (zp_tn g i j i) j) ∧ fs = fM a 0 ∧ as = sM a (zp_tn g i j) lf rw nu le cn fi) := by
  refine zw_Ci.mk (ty := .int) (own := RX1) (lv0 := [(0, .ref h0), (1, .int (nI i)), (2, .int (nI j))]) rfl rfl (by decide +kernel) (Nat.le_of_ble_eq_true rfl) rfl ?_
  intro p e s m args below meth c A Q X RET ls hl O
  refine lv_aload_n X.1 X.2.1 dX1_line_0 rfl (lv_at hl 0 rfl) ?_
  refine lv_iload_n X.1 X.2.1 dX1_line_1 rfl (lv_at hl 1 rfl) ?_
  refine lv_iload_n X.1 X.2.1 dX1_line_2 rfl (lv_at hl 2 rfl) ?_
  refine zw_calli X O (zM_isPair l D dA h0 a g lf rw nu le cn fi kn (nI i) (nI j)) rfl 2 (lw_V q229 q231 qs16 q32 q232) rfl rfl (by decide +kernel) ⟨Nat.le_of_ble_eq_true rfl, Nat.le_of_ble_eq_true rfl⟩ rfl hl.1 rfl (Nat.le_of_ble_eq_true rfl) dX1_line_3 ⟨Nat.zero_le _, Nat.zero_le _⟩ (fun r fs' as' H locs hp O => ?_)
  obtain ⟨rfl, rfl, rfl⟩ := hp
  refine zw_topn (1) (zp_ip_ok i hi j hj hij) ?_
  refine zw_if_ne (tgt := 11) X (by decide) dX1_line_6 (by decide) (fun c1 => ?_) (fun c1 => ?_)
  · refine lv_aload_n X.1 X.2.1 dX1_line_11 rfl (lv_at hl 0 rfl) ?_
    refine lv_iload_n X.1 X.2.1 dX1_line_12 rfl (lv_at hl 1 rfl) ?_
    refine lv_iload_n X.1 X.2.1 dX1_line_13 rfl (lv_at hl 2 rfl) ?_
    refine zw_callv X O (zM_exchange l D dA h0 a g lf rw nu le cn fi kn i j hi hj) rfl 2 (lw_V q233 q235 qs17 q32 q236) rfl rfl (by decide +kernel) ⟨Nat.le_of_ble_eq_true rfl, Nat.le_of_ble_eq_true rfl⟩ rfl hl.1 rfl (Nat.le_of_ble_eq_true rfl) dX1_line_14 ⟨Nat.zero_le _, Nat.zero_le _⟩ (fun fs' as' H locs hp O => ?_)
    obtain ⟨rfl, rfl⟩ := hp
    refine lv_aload_n X.1 X.2.1 dX1_line_17 rfl (lv_at hl 0 rfl) ?_
    refine lv_iconst (v := nI 0) X.1 X.2.1 dX1_line_18 (by decide) ?_
    refine zm_put X O q207 rfl rfl (Nat.le_of_ble_eq_true rfl) dX1_line_19 (fun H locs O => ?_)
    have O : zw_O D dA A s H locs 1 h0 (fM a 0) (sM a (zp_tn g i j) lf rw nu le cn fi) := O
    refine zm_f X O hl 0 rfl 0 (by decide) q200 rfl dX1_line_22 dX1_line_23 ?_
    refine lv_iload_n X.1 X.2.1 dX1_line_26 rfl (lv_at hl 1 rfl) ?_
    refine zw_ld X O 0 rfl hi (by decide) dX1_line_27 ?_
    refine lv_iload_n X.1 X.2.1 dX1_line_28 rfl (lv_at hl 2 rfl) ?_
    refine zw_bit X (zp_tn_lt hg hi hj hij i hi) hj dX1_line_29 dX1_line_30 dX1_line_31 ?_
    exact RET _ _ _ _ _ _ _ O ⟨rfl, rfl, rfl⟩ rfl dX1_line_32
  · exact absurd c1 (by decide)
set_option maxHeartbeats 4000000 in
set_option maxRecDepth 100000 in
/-- line of no two points -/
theorem zM_lineB (l : Launch) (D : va_G) (dA : ClassId) (h0 : Nat) (a : Nat → Nat) (g lf rw nu le cn fi : Nat → Nat) (kn : Nat) (x y : Int32) (hb : zp_bad x = 1 ∨ zp_bad y = 1 ∨ x = y) : zw_Ci l D dA yX1_line cX1_line 3 (some .int) rX1_line 1 h0 [.int x, .int y] (fM a kn) (sM a g lf rw nu le cn fi) (fun r fs as => r = -1 ∧ fs = fM a kn ∧ as = sM a g lf rw nu le cn fi) := by
  refine zw_Ci.mk (ty := .int) (own := RX1) (lv0 := [(0, .ref h0), (1, .int x), (2, .int y)]) rfl rfl (by decide +kernel) (Nat.le_of_ble_eq_true rfl) rfl ?_
  intro p e s m args below meth c A Q X RET ls hl O
  refine lv_aload_n X.1 X.2.1 dX1_line_0 rfl (lv_at hl 0 rfl) ?_
  refine lv_iload_n X.1 X.2.1 dX1_line_1 rfl (lv_at hl 1 rfl) ?_
  refine lv_iload_n X.1 X.2.1 dX1_line_2 rfl (lv_at hl 2 rfl) ?_
  refine zw_calli X O (zM_isPair l D dA h0 a g lf rw nu le cn fi kn x y) rfl 2 (lw_V q229 q231 qs16 q32 q232) rfl rfl (by decide +kernel) ⟨Nat.le_of_ble_eq_true rfl, Nat.le_of_ble_eq_true rfl⟩ rfl hl.1 rfl (Nat.le_of_ble_eq_true rfl) dX1_line_3 ⟨Nat.zero_le _, Nat.zero_le _⟩ (fun r fs' as' H locs hp O => ?_)
  obtain ⟨rfl, rfl, rfl⟩ := hp
  refine zw_topn (0) (zp_ip_no hb) ?_
  refine zw_if_ne (tgt := 11) X (by decide) dX1_line_6 (by decide) (fun c1 => ?_) (fun c1 => ?_)
  · exact absurd rfl c1
  · refine lv_iconst (v := -1) X.1 X.2.1 dX1_line_9 (by decide) ?_
    exact RET _ _ _ _ _ _ _ O ⟨rfl, rfl, rfl⟩ rfl dX1_line_10
abbrev rX1_lines : Room := { frames := 1, cells := 0, slots := 0, locals := 23 }
set_option maxHeartbeats 4000000 in
set_option maxRecDepth 100000 in
/-- how many lines -/
theorem zM_lines (l : Launch) (D : va_G) (dA : ClassId) (h0 : Nat) (a : Nat → Nat) (g lf rw nu le cn fi : Nat → Nat) (kn : Nat) (hg : ∀ p, p < 6 → g p < 64)  : zw_Ci l D dA yX1_lines cX1_lines 3 (some .int) rX1_lines 1 h0 [] (fM a kn) (sM a g lf rw nu le cn fi) (fun r fs as => r = nI (zp_lns g) ∧ fs = fM a kn ∧ as = sM a g lf rw nu le cn fi) := by
  refine zw_Ci.mk (ty := .int) (own := RX1) (lv0 := [(0, .ref h0)]) rfl rfl (by decide +kernel) (Nat.le_of_ble_eq_true rfl) rfl ?_
  intro p e s m args below meth c A Q X RET ls hl O
  refine lv_iconst (v := nI 0) X.1 X.2.1 dX1_lines_0 (by decide) ?_
  refine lv_istore_n (lv' := [(1, .int (nI 0)), (0, .ref h0)]) X.1 X.2.1 dX1_lines_1 rfl hl (by decide) rfl (fun ls hl => ?_)
  refine lv_iconst (v := nI 0) X.1 X.2.1 dX1_lines_2 (by decide) ?_
  refine lv_istore_n (lv' := [(2, .int (nI 0)), (1, .int (nI 0)), (0, .ref h0)]) X.1 X.2.1 dX1_lines_3 rfl hl (by decide) rfl (fun ls hl => ?_)
  have L4 : ∀ (n : Nat) (i : Nat), (i + n = 6) → ∀ (H : Heap) (locs : List Loc), zw_O D dA A s H locs 1 h0 (fM a kn) (sM a g lf rw nu le cn fi) → ∀ (ls : Array Slot), lv_has ls 3 [(0, .ref h0), (1, .int (nI (zp_sm (fun p => zp_pop (g p)) i))), (2, .int (nI i))] → W p l e rX1_lines s m args below meth c H locs 0 0 Q (F0 m 4 ls []) := by
    intro n
    induction n with
    | zero =>
      intro i hi H locs O ls hl
      refine lv_iload_n X.1 X.2.1 dX1_lines_4 rfl (lv_at hl 2 rfl) ?_
      refine lv_bipush (v := nI 6) X.1 X.2.1 dX1_lines_5 (by decide) ?_
      refine zw_icmp_ge (tgt := 29) X (by omega) (by decide) dX1_lines_7 (by decide) (fun cb => ?_) (fun cb => ?_)
      · have hb : zp_sm (fun p => zp_pop (g p)) i < 2147483648 := by
          have := zp_sm_le (f := (fun p => zp_pop (g p))) (b := 6) i (fun q _ => zp_pop_le _)
          omega
        refine lv_iload_n X.1 X.2.1 dX1_lines_29 rfl (lv_at hl 1 rfl) ?_
        refine lv_iconst (v := nI 2) X.1 X.2.1 dX1_lines_30 (by decide) ?_
        refine zw_div X hb (by omega) (by decide) dX1_lines_31 ?_
        exact RET _ _ _ _ _ _ _ O ⟨by rw [show i = 6 by omega]; rfl, rfl, rfl⟩ rfl dX1_lines_32
      · exact absurd cb (by omega)
    | succ n ih =>
      intro i hi H locs O ls hl
      refine lv_iload_n X.1 X.2.1 dX1_lines_4 rfl (lv_at hl 2 rfl) ?_
      refine lv_bipush (v := nI 6) X.1 X.2.1 dX1_lines_5 (by decide) ?_
      refine zw_icmp_ge (tgt := 29) X (by omega) (by decide) dX1_lines_7 (by decide) (fun cb => ?_) (fun cb => ?_)
      · exact absurd cb (by omega)
      · refine lv_iload_n X.1 X.2.1 dX1_lines_10 rfl (lv_at hl 1 rfl) ?_
        refine lv_aload_n X.1 X.2.1 dX1_lines_11 rfl (lv_at hl 0 rfl) ?_
        refine zm_f X O hl 0 rfl 0 (by decide) q200 rfl dX1_lines_12 dX1_lines_13 ?_
        refine lv_iload_n X.1 X.2.1 dX1_lines_16 rfl (lv_at hl 2 rfl) ?_
        refine zw_ld X O 0 rfl (by omega) (by decide) dX1_lines_17 ?_
        refine zw_calli X O (zM_bits l D dA h0 a g lf rw nu le cn fi kn (g i) (hg i cb)) rfl 1 (lw_V q245 q247 qs18 q32 q248) rfl rfl (by decide +kernel) ⟨Nat.le_of_ble_eq_true rfl, Nat.le_of_ble_eq_true rfl⟩ rfl hl.1 rfl (Nat.le_of_ble_eq_true rfl) dX1_lines_18 ⟨Nat.zero_le _, Nat.zero_le _⟩ (fun r fs' as' H locs hp O => ?_)
        obtain ⟨rfl, rfl, rfl⟩ := hp
        refine zw_add X dX1_lines_21 ?_
        refine lv_istore_n (lv' := [(1, .int (nI ((zp_sm (fun p => zp_pop (g p)) i) + (zp_pop (g i))))), (0, .ref h0), (2, .int (nI i))]) X.1 X.2.1 dX1_lines_22 rfl hl (by decide) rfl (fun ls hl => ?_)
        refine lv_iinc (v := nI (i + 1)) (lv' := [(2, .int (nI (i + 1))), (1, .int (nI ((zp_sm (fun p => zp_pop (g p)) i) + (zp_pop (g i))))), (0, .ref h0)]) X.1 X.2.1 dX1_lines_23 hl (k := 2) rfl (zi_inc _) (by decide) rfl (fun ls hl => ?_)
        refine lv_goto (tgt := 4) X.1 X.2.1 dX1_lines_26 (by decide) ?_
        exact ih (i + 1) (by omega) _ _ O ls (lv_sub hl [2, 1, 0] rfl)
  exact L4 6 0 (by omega) _ _ O ls (lv_sub hl [2, 1, 0] rfl)
abbrev rX1_clear : Room := { frames := 2, cells := 0, slots := 0, locals := 45 }
set_option maxHeartbeats 4000000 in
set_option maxRecDepth 100000 in
/-- all lines taken out -/
theorem zM_clear (l : Launch) (D : va_G) (dA : ClassId) (h0 : Nat) (a : Nat → Nat) (g lf rw nu le cn fi : Nat → Nat) (kn : Nat) (hg : ∀ p, p < 6 → g p < 64)  : zw_Ci l D dA yX1_clear cX1_clear 3 (some .int) rX1_clear 1 h0 [] (fM a kn) (sM a g lf rw nu le cn fi) (fun r fs as => r = nI (zp_lns g) ∧ fs = fM a 0 ∧ as = sM a (fun _ => 0) lf rw nu le cn fi) := by
  refine zw_Ci.mk (ty := .int) (own := RX1) (lv0 := [(0, .ref h0)]) rfl rfl (by decide +kernel) (Nat.le_of_ble_eq_true rfl) rfl ?_
  intro p e s m args below meth c A Q X RET ls hl O
  refine lv_aload_n X.1 X.2.1 dX1_clear_0 rfl (lv_at hl 0 rfl) ?_
  refine zw_calli X O (zM_lines l D dA h0 a g lf rw nu le cn fi kn hg) rfl 0 (lw_V q241 q242 q243 q32 q244) rfl rfl (by decide +kernel) ⟨Nat.le_of_ble_eq_true rfl, Nat.le_of_ble_eq_true rfl⟩ rfl hl.1 rfl (Nat.le_of_ble_eq_true rfl) dX1_clear_1 ⟨Nat.zero_le _, Nat.zero_le _⟩ (fun r fs' as' H locs hp O => ?_)
  obtain ⟨rfl, rfl, rfl⟩ := hp
  refine lv_istore_n (lv' := [(1, .int (nI (zp_lns g))), (0, .ref h0)]) X.1 X.2.1 dX1_clear_4 rfl hl (by decide) rfl (fun ls hl => ?_)
  refine lv_iconst (v := nI 0) X.1 X.2.1 dX1_clear_5 (by decide) ?_
  refine lv_istore_n (lv' := [(2, .int (nI 0)), (1, .int (nI (zp_lns g))), (0, .ref h0)]) X.1 X.2.1 dX1_clear_6 rfl hl (by decide) rfl (fun ls hl => ?_)
  have L7 : ∀ (n : Nat) (i : Nat) (y : Nat → Nat), (i + n = 6) → (∀ q, q < i → y q = 0) → ∀ (H : Heap) (locs : List Loc), zw_O D dA A s H locs 1 h0 (fM a kn) (sM a y lf rw nu le cn fi) → ∀ (ls : Array Slot), lv_has ls 3 [(0, .ref h0), (1, .int (nI (zp_lns g))), (2, .int (nI i))] → W p l e rX1_clear s m args below meth c H locs 0 0 Q (F0 m 7 ls []) := by
    intro n
    induction n with
    | zero =>
      intro i y hi hy H locs O ls hl
      refine lv_iload_n X.1 X.2.1 dX1_clear_7 rfl (lv_at hl 2 rfl) ?_
      refine lv_bipush (v := nI 6) X.1 X.2.1 dX1_clear_8 (by decide) ?_
      refine zw_icmp_ge (tgt := 26) X (by omega) (by decide) dX1_clear_10 (by decide) (fun cb => ?_) (fun cb => ?_)
      · have O := zw_O_ext O 0 rfl (fun _ => 0) (fun q hq => hy q (by omega))
        refine lv_aload_n X.1 X.2.1 dX1_clear_26 rfl (lv_at hl 0 rfl) ?_
        refine lv_iconst (v := nI 0) X.1 X.2.1 dX1_clear_27 (by decide) ?_
        refine zm_put X O q207 rfl rfl (Nat.le_of_ble_eq_true rfl) dX1_clear_28 (fun H locs O => ?_)
        have O : zw_O D dA A s H locs 1 h0 (fM a 0) (sM a (fun _ => 0) lf rw nu le cn fi) := O
        refine lv_iload_n X.1 X.2.1 dX1_clear_31 rfl (lv_at hl 1 rfl) ?_
        exact RET _ _ _ _ _ _ _ O ⟨rfl, rfl, rfl⟩ rfl dX1_clear_32
      · exact absurd cb (by omega)
    | succ n ih =>
      intro i y hi hy H locs O ls hl
      refine lv_iload_n X.1 X.2.1 dX1_clear_7 rfl (lv_at hl 2 rfl) ?_
      refine lv_bipush (v := nI 6) X.1 X.2.1 dX1_clear_8 (by decide) ?_
      refine zw_icmp_ge (tgt := 26) X (by omega) (by decide) dX1_clear_10 (by decide) (fun cb => ?_) (fun cb => ?_)
      · exact absurd cb (by omega)
      · refine zm_f X O hl 0 rfl 0 (by decide) q200 rfl dX1_clear_13 dX1_clear_14 ?_
        refine lv_iload_n X.1 X.2.1 dX1_clear_17 rfl (lv_at hl 2 rfl) ?_
        refine lv_iconst (v := nI 0) X.1 X.2.1 dX1_clear_18 (by decide) ?_
        refine zw_st X O 0 rfl (by omega) (by decide) dX1_clear_19 (fun H locs O => ?_)
        have O : zw_O D dA A s H locs 1 h0 (fM a kn) (sM a (va_up y i 0) lf rw nu le cn fi) := O
        refine lv_iinc (v := nI (i + 1)) (lv' := [(2, .int (nI (i + 1))), (0, .ref h0), (1, .int (nI (zp_lns g)))]) X.1 X.2.1 dX1_clear_20 hl (k := 2) rfl (zi_inc _) (by decide) rfl (fun ls hl => ?_)
        refine lv_goto (tgt := 7) X.1 X.2.1 dX1_clear_23 (by decide) ?_
        exact ih (i + 1) (va_up y i 0) (by omega) (fun q hq => by
          by_cases e : q = i
          · rw [e, zp_up_s]
          · rw [zp_up_n e]; exact hy q (by omega)) _ _ O ls (lv_sub hl [1, 2, 0] rfl)
  exact L7 6 0 g (by omega) (fun q hq => absurd hq (by omega)) _ _ O ls (lv_sub hl [2, 1, 0] rfl)
abbrev rX1_nth : Room := { frames := 0, cells := 0, slots := 0, locals := 0 }
set_option maxHeartbeats 4000000 in
set_option maxRecDepth 100000 in
/-- the k-th point of a set -/
theorem zM_nth (l : Launch) (D : va_G) (dA : ClassId) (h0 : Nat) (a : Nat → Nat) (g lf rw nu le cn fi : Nat → Nat) (kn : Nat) (S k : Nat) (hS : S < 64) (hk : k < 100000) : zw_Ci l D dA yX1_nth cX1_nth 5 (some .int) rX1_nth 1 h0 [.int (nI S), .int (nI k)] (fM a kn) (sM a g lf rw nu le cn fi) (fun r fs as => r = nI (zp_nth S 6 0 k) ∧ fs = fM a kn ∧ as = sM a g lf rw nu le cn fi) := by
  refine zw_Ci.mk (ty := .int) (own := RX1) (lv0 := [(0, .ref h0), (1, .int (nI S)), (2, .int (nI k))]) rfl rfl (by decide +kernel) (Nat.le_of_ble_eq_true rfl) rfl ?_
  intro p e s m args below meth c A Q X RET ls hl O
  refine lv_iload_n X.1 X.2.1 dX1_nth_0 rfl (lv_at hl 2 rfl) ?_
  refine lv_istore_n (lv' := [(3, .int (nI k)), (0, .ref h0), (1, .int (nI S)), (2, .int (nI k))]) X.1 X.2.1 dX1_nth_1 rfl hl (by decide) rfl (fun ls hl => ?_)
  refine lv_iconst (v := nI 0) X.1 X.2.1 dX1_nth_2 (by decide) ?_
  refine lv_istore (lv' := [(4, .int (nI 0)), (3, .int (nI k)), (0, .ref h0), (1, .int (nI S)), (2, .int (nI k))]) X.1 X.2.1 dX1_nth_3 hl (by decide) rfl (fun ls hl => ?_)
  have L5 : ∀ (n : Nat) (i : Nat) (q : Nat), (i + n = 6) → (q < 100000) → (zp_nth S n i q = zp_nth S 6 0 k) → ∀ (H : Heap) (locs : List Loc), zw_O D dA A s H locs 1 h0 (fM a kn) (sM a g lf rw nu le cn fi) → ∀ (ls : Array Slot), lv_has ls 5 [(0, .ref h0), (1, .int (nI S)), (2, .int (nI k)), (3, .int (nI q)), (4, .int (nI i))] → W p l e rX1_nth s m args below meth c H locs 0 0 Q (F0 m 5 ls []) := by
    intro n
    induction n with
    | zero =>
      intro i q hi hq hv H locs O ls hl
      refine lv_iload X.1 X.2.1 dX1_nth_5 (lv_at hl 4 rfl) ?_
      refine lv_bipush (v := nI 6) X.1 X.2.1 dX1_nth_7 (by decide) ?_
      refine zw_icmp_ge (tgt := 38) X (by omega) (by decide) dX1_nth_9 (by decide) (fun cb => ?_) (fun cb => ?_)
      · refine lv_iconst (v := nI 0) X.1 X.2.1 dX1_nth_38 (by decide) ?_
        exact RET _ _ _ _ _ _ _ O ⟨by rw [← hv]; rfl, rfl, rfl⟩ rfl dX1_nth_39
      · exact absurd cb (by omega)
    | succ n ih =>
      intro i q hi hq hv H locs O ls hl
      refine lv_iload X.1 X.2.1 dX1_nth_5 (lv_at hl 4 rfl) ?_
      refine lv_bipush (v := nI 6) X.1 X.2.1 dX1_nth_7 (by decide) ?_
      refine zw_icmp_ge (tgt := 38) X (by omega) (by decide) dX1_nth_9 (by decide) (fun cb => ?_) (fun cb => ?_)
      · exact absurd cb (by omega)
      · rw [zp_nth_s S n i q] at hv
        refine lv_iload_n X.1 X.2.1 dX1_nth_12 rfl (lv_at hl 1 rfl) ?_
        refine lv_iload X.1 X.2.1 dX1_nth_13 (lv_at hl 4 rfl) ?_
        refine zw_bit X hS (by omega) dX1_nth_15 dX1_nth_16 dX1_nth_17 ?_
        refine zw_tbne (tgt := 32) X dX1_nth_18 dX1_nth_19 (by decide) (fun c2 => ?_) (fun c2 => ?_)
        · rw [if_neg (by rw [c2]; decide)] at hv
          refine lv_iinc (v := nI (i + 1)) (lv' := [(4, .int (nI (i + 1))), (0, .ref h0), (1, .int (nI S)), (2, .int (nI k)), (3, .int (nI q))]) X.1 X.2.1 dX1_nth_32 hl (k := 4) rfl (zi_inc _) (by decide) rfl (fun ls hl => ?_)
          refine lv_goto (tgt := 5) X.1 X.2.1 dX1_nth_35 (by decide) ?_
          exact ih (i + 1) q (by omega) hq hv _ _ O ls (lv_sub hl [1, 2, 3, 4, 0] rfl)
        · rw [if_pos c2] at hv
          refine lv_iload_n X.1 X.2.1 dX1_nth_22 rfl (lv_at hl 3 rfl) ?_
          refine zw_if_ne (tgt := 29) X (by omega) dX1_nth_23 (by decide) (fun c3 => ?_) (fun c3 => ?_)
          · rw [if_neg c3] at hv
            obtain ⟨e, rfl⟩ : ∃ e, q = e + 1 := ⟨q - 1, by omega⟩
            rw [Nat.add_sub_cancel] at hv
            refine lv_iinc (v := nI (e)) (lv' := [(3, .int (nI e)), (0, .ref h0), (1, .int (nI S)), (2, .int (nI k)), (4, .int (nI i))]) X.1 X.2.1 dX1_nth_29 hl (k := 3) rfl (zi_dec _) (by decide) rfl (fun ls hl => ?_)
            refine lv_iinc (v := nI (i + 1)) (lv' := [(4, .int (nI (i + 1))), (3, .int (nI e)), (0, .ref h0), (1, .int (nI S)), (2, .int (nI k))]) X.1 X.2.1 dX1_nth_32 hl (k := 4) rfl (zi_inc _) (by decide) rfl (fun ls hl => ?_)
            refine lv_goto (tgt := 5) X.1 X.2.1 dX1_nth_35 (by decide) ?_
            exact ih (i + 1) e (by omega) (by omega) hv _ _ O ls (lv_sub hl [2, 3, 4, 1, 0] rfl)
          · rw [if_pos c3] at hv
            refine lv_iload X.1 X.2.1 dX1_nth_26 (lv_at hl 4 rfl) ?_
            exact RET _ _ _ _ _ _ _ O ⟨by rw [← hv], rfl, rfl⟩ rfl dX1_nth_28
  exact L5 6 0 k (by omega) hk rfl _ _ O ls (lv_sub hl [2, 3, 4, 1, 0] rfl)
abbrev rX1_setOrder : Room := { frames := 1, cells := 0, slots := 0, locals := 24 }
set_option maxHeartbeats 4000000 in
set_option maxRecDepth 100000 in
/-- order number t put into the row -/
theorem zM_setOrder (l : Launch) (D : va_G) (dA : ClassId) (h0 : Nat) (a : Nat → Nat) (g lf rw nu le cn fi : Nat → Nat) (kn : Nat) (t : Nat) (ht : t < 720) : zw_Cv l D dA yX1_setOrder cX1_setOrder 6 rX1_setOrder 1 h0 [.int (nI t)] (fM a kn) (sM a g lf rw nu le cn fi) (fun fs as => fs = fM a kn ∧ as = sM a g lf (zp_row t) nu le cn fi) := by
  refine zw_Cv.mk (own := RX1) (lv0 := [(0, .ref h0), (1, .int (nI t))]) rfl (by decide +kernel) (Nat.le_of_ble_eq_true rfl) rfl ?_
  intro p e s m args below meth c A Q X RET ls hl O
  refine lv_iload_n X.1 X.2.1 dX1_setOrder_0 rfl (lv_at hl 1 rfl) ?_
  refine lv_istore_n (lv' := [(2, .int (nI t)), (0, .ref h0), (1, .int (nI t))]) X.1 X.2.1 dX1_setOrder_1 rfl hl (by decide) rfl (fun ls hl => ?_)
  refine lv_sipush (v := nI 720) X.1 X.2.1 dX1_setOrder_2 (by decide) ?_
  refine lv_istore_n (lv' := [(3, .int (nI 720)), (2, .int (nI t)), (0, .ref h0), (1, .int (nI t))]) X.1 X.2.1 dX1_setOrder_5 rfl hl (by decide) rfl (fun ls hl => ?_)
  refine lv_bipush (v := nI 63) X.1 X.2.1 dX1_setOrder_6 (by decide) ?_
  refine lv_istore (lv' := [(4, .int (nI 63)), (3, .int (nI 720)), (2, .int (nI t)), (0, .ref h0), (1, .int (nI t))]) X.1 X.2.1 dX1_setOrder_8 hl (by decide) rfl (fun ls hl => ?_)
  refine lv_iconst (v := nI 0) X.1 X.2.1 dX1_setOrder_10 (by decide) ?_
  refine lv_istore (lv' := [(5, .int (nI 0)), (4, .int (nI 63)), (3, .int (nI 720)), (2, .int (nI t)), (0, .ref h0), (1, .int (nI t))]) X.1 X.2.1 dX1_setOrder_11 hl (by decide) rfl (fun ls hl => ?_)
  have L13 : ∀ (n : Nat) (i : Nat) (y : Nat → Nat), (i + n = 6) → (∀ q, q < i → y q = zp_row t q) → ∀ (H : Heap) (locs : List Loc), zw_O D dA A s H locs 1 h0 (fM a kn) (sM a g lf y nu le cn fi) → ∀ (ls : Array Slot), lv_has ls 6 [(0, .ref h0), (1, .int (nI t)), (2, .int (nI ((zp_so t i).1))), (3, .int (nI (zp_un i))), (4, .int (nI ((zp_so t i).2))), (5, .int (nI i))] → W p l e rX1_setOrder s m args below meth c H locs 0 0 Q (F0 m 13 ls []) := by
    intro n
    induction n with
    | zero =>
      intro i y hi hy H locs O ls hl
      refine lv_iload X.1 X.2.1 dX1_setOrder_13 (lv_at hl 5 rfl) ?_
      refine lv_bipush (v := nI 6) X.1 X.2.1 dX1_setOrder_15 (by decide) ?_
      refine zw_icmp_ge (tgt := 70) X (by omega) (by decide) dX1_setOrder_17 (by decide) (fun cb => ?_) (fun cb => ?_)
      · have O := zw_O_ext O 2 rfl (zp_row t) (fun q hq => hy q (by omega))
        exact RET _ _ _ _ _ _ O ⟨rfl, rfl⟩ dX1_setOrder_70
      · exact absurd cb (by omega)
    | succ n ih =>
      intro i y hi hy H locs O ls hl
      refine lv_iload X.1 X.2.1 dX1_setOrder_13 (lv_at hl 5 rfl) ?_
      refine lv_bipush (v := nI 6) X.1 X.2.1 dX1_setOrder_15 (by decide) ?_
      refine zw_icmp_ge (tgt := 70) X (by omega) (by decide) dX1_setOrder_17 (by decide) (fun cb => ?_) (fun cb => ?_)
      · exact absurd cb (by omega)
      · have u1 := zp_un_le i (by omega)
        have u2 := zp_un_pos (i + 1) (by omega)
        have u3 := zp_un_le (i + 1) (by omega)
        have u4 := zp_so_le t i
        have u5 := zp_so_lt t i
        refine lv_iload_n X.1 X.2.1 dX1_setOrder_20 rfl (lv_at hl 3 rfl) ?_
        refine lv_bipush (v := nI 6) X.1 X.2.1 dX1_setOrder_21 (by decide) ?_
        refine lv_iload X.1 X.2.1 dX1_setOrder_23 (lv_at hl 5 rfl) ?_
        refine zw_sub X (by omega) dX1_setOrder_25 ?_
        refine zw_div X (by omega) (by omega) (by omega) dX1_setOrder_26 ?_
        refine zw_topn (zp_un (i + 1)) (zp_un_s i cb) ?_
        refine lv_istore_n (lv' := [(3, .int (nI (zp_un (i + 1)))), (0, .ref h0), (1, .int (nI t)), (2, .int (nI ((zp_so t i).1))), (4, .int (nI ((zp_so t i).2))), (5, .int (nI i))]) X.1 X.2.1 dX1_setOrder_27 rfl hl (by decide) rfl (fun ls hl => ?_)
        refine zm_f X O hl 1 rfl 2 (by decide) q202 rfl dX1_setOrder_28 dX1_setOrder_29 ?_
        refine lv_iload X.1 X.2.1 dX1_setOrder_32 (lv_at hl 5 rfl) ?_
        refine lv_aload_n X.1 X.2.1 dX1_setOrder_34 rfl (lv_at hl 1 rfl) ?_
        refine lv_iload X.1 X.2.1 dX1_setOrder_35 (lv_at hl 4 rfl) ?_
        refine lv_iload_n X.1 X.2.1 dX1_setOrder_37 rfl (lv_at hl 3 rfl) ?_
        refine lv_iload_n X.1 X.2.1 dX1_setOrder_38 rfl (lv_at hl 0 rfl) ?_
        refine zw_div X (by omega) (by omega) (by omega) dX1_setOrder_39 ?_
        have u6 : (zp_so t i).1 / zp_un (i + 1) ≤ t := Nat.le_trans (Nat.div_le_self _ _) u4
        refine zw_calli X O (zM_nth l D dA h0 a g lf y nu le cn fi kn (zp_so t i).2 ((zp_so t i).1 / zp_un (i + 1)) u5 (by omega)) rfl 2 (lw_V q266 q268 qs22 q32 q269) rfl rfl (by decide +kernel) ⟨Nat.le_of_ble_eq_true rfl, Nat.le_of_ble_eq_true rfl⟩ rfl hl.1 rfl (Nat.le_of_ble_eq_true rfl) dX1_setOrder_40 ⟨Nat.zero_le _, Nat.zero_le _⟩ (fun r fs' as' H locs hp O => ?_)
        obtain ⟨rfl, rfl, rfl⟩ := hp
        refine zw_st X O 2 rfl (by omega) (by decide) dX1_setOrder_43 (fun H locs O => ?_)
        have O : zw_O D dA A s H locs 1 h0 (fM a kn) (sM a g lf (va_up y i (zp_row t i)) nu le cn fi) := O
        refine lv_iload_n X.1 X.2.1 dX1_setOrder_44 rfl (lv_at hl 3 rfl) ?_
        refine lv_iload_n X.1 X.2.1 dX1_setOrder_45 rfl (lv_at hl 0 rfl) ?_
        refine zw_rem X (by omega) (by omega) (by omega) dX1_setOrder_46 ?_
        refine lv_istore_n (lv' := [(2, .int (nI (((zp_so t i).1) % (zp_un (i + 1))))), (3, .int (nI (zp_un (i + 1)))), (0, .ref h0), (1, .int (nI t)), (4, .int (nI ((zp_so t i).2))), (5, .int (nI i))]) X.1 X.2.1 dX1_setOrder_47 rfl hl (by decide) rfl (fun ls hl => ?_)
        refine lv_iload X.1 X.2.1 dX1_setOrder_48 (lv_at hl 4 rfl) ?_
        refine lv_iconst (v := nI 1) X.1 X.2.1 dX1_setOrder_50 (by decide) ?_
        refine zm_f X O hl 2 rfl 2 (by decide) q202 rfl dX1_setOrder_51 dX1_setOrder_52 ?_
        refine lv_iload X.1 X.2.1 dX1_setOrder_55 (lv_at hl 5 rfl) ?_
        refine zw_ld X O 2 rfl cb (by decide) dX1_setOrder_57 ?_
        refine zw_topn (zp_row t i) (zp_up_s _ _ _) ?_
        refine zw_shl X (zp_row_lt t i) dX1_setOrder_58 ?_
        refine zw_sdn X u5 (zp_pw_lt _ (zp_row_lt t i)) dX1_setOrder_59 dX1_setOrder_60 dX1_setOrder_61 ?_
        refine lv_istore (lv' := [(4, .int (nI (zp_sd ((zp_so t i).2) (2 ^ (zp_row t i))))), (2, .int (nI (((zp_so t i).1) % (zp_un (i + 1))))), (3, .int (nI (zp_un (i + 1)))), (0, .ref h0), (1, .int (nI t)), (5, .int (nI i))]) X.1 X.2.1 dX1_setOrder_62 hl (by decide) rfl (fun ls hl => ?_)
        refine lv_iinc (v := nI (i + 1)) (lv' := [(5, .int (nI (i + 1))), (4, .int (nI (zp_sd ((zp_so t i).2) (2 ^ (zp_row t i))))), (2, .int (nI (((zp_so t i).1) % (zp_un (i + 1))))), (3, .int (nI (zp_un (i + 1)))), (0, .ref h0), (1, .int (nI t))]) X.1 X.2.1 dX1_setOrder_64 hl (k := 5) rfl (zi_inc _) (by decide) rfl (fun ls hl => ?_)
        refine lv_goto (tgt := 13) X.1 X.2.1 dX1_setOrder_67 (by decide) ?_
        exact ih (i + 1) (va_up y i (zp_row t i)) (by omega) (fun q hq => by
          by_cases e : q = i
          · rw [e, zp_up_s]
          · rw [zp_up_n e]; exact hy q (by omega)) _ _ O ls (lv_sub hl [4, 5, 2, 3, 1, 0] rfl)
  exact L13 6 0 rw (by omega) (fun q hq => absurd hq (by omega)) _ _ O ls (lv_sub hl [4, 5, 3, 2, 1, 0] rfl)
abbrev rX1_isClique : Room := { frames := 0, cells := 0, slots := 0, locals := 0 }
set_option maxHeartbeats 4000000 in
set_option maxRecDepth 100000 in
/-- whether a set is a clique -/
theorem zM_isClique (l : Launch) (D : va_G) (dA : ClassId) (h0 : Nat) (a : Nat → Nat) (g lf rw nu le cn fi : Nat → Nat) (kn : Nat) (hg : ∀ p, p < 6 → g p < 64) (S : Nat) (hS : S < 64) : zw_Ci l D dA yX1_isClique cX1_isClique 3 (some .boolean) rX1_isClique 1 h0 [.int (nI S)] (fM a kn) (sM a g lf rw nu le cn fi) (fun r fs as => r = nI (zp_isq g S).toNat ∧ fs = fM a kn ∧ as = sM a g lf rw nu le cn fi) := by
  refine zw_Ci.mk (ty := .boolean) (own := RX1) (lv0 := [(0, .ref h0), (1, .int (nI S))]) rfl rfl (by decide +kernel) (Nat.le_of_ble_eq_true rfl) rfl ?_
  intro p e s m args below meth c A Q X RET ls hl O
  refine lv_iconst (v := nI 0) X.1 X.2.1 dX1_isClique_0 (by decide) ?_
  refine lv_istore_n (lv' := [(2, .int (nI 0)), (0, .ref h0), (1, .int (nI S))]) X.1 X.2.1 dX1_isClique_1 rfl hl (by decide) rfl (fun ls hl => ?_)
  have L2 : ∀ (n : Nat) (i : Nat), (i + n = 6) → (∀ q, q < i → S.testBit q = true → zp_sd (zp_sd S (g q)) (2 ^ q) = 0) → ∀ (H : Heap) (locs : List Loc), zw_O D dA A s H locs 1 h0 (fM a kn) (sM a g lf rw nu le cn fi) → ∀ (ls : Array Slot), lv_has ls 3 [(0, .ref h0), (1, .int (nI S)), (2, .int (nI i))] → W p l e rX1_isClique s m args below meth c H locs 0 0 Q (F0 m 2 ls []) := by
    intro n
    induction n with
    | zero =>
      intro i hi hA H locs O ls hl
      refine lv_iload_n X.1 X.2.1 dX1_isClique_2 rfl (lv_at hl 2 rfl) ?_
      refine lv_bipush (v := nI 6) X.1 X.2.1 dX1_isClique_3 (by decide) ?_
      refine zw_icmp_ge (tgt := 44) X (by omega) (by decide) dX1_isClique_5 (by decide) (fun cb => ?_) (fun cb => ?_)
      · refine lv_iconst (v := nI 1) X.1 X.2.1 dX1_isClique_44 (by decide) ?_
        exact RET _ _ _ _ _ _ _ O ⟨by rw [zp_isq_t (fun q hq => hA q (by omega))]; rfl, rfl, rfl⟩ rfl dX1_isClique_45
      · exact absurd cb (by omega)
    | succ n ih =>
      intro i hi hA H locs O ls hl
      refine lv_iload_n X.1 X.2.1 dX1_isClique_2 rfl (lv_at hl 2 rfl) ?_
      refine lv_bipush (v := nI 6) X.1 X.2.1 dX1_isClique_3 (by decide) ?_
      refine zw_icmp_ge (tgt := 44) X (by omega) (by decide) dX1_isClique_5 (by decide) (fun cb => ?_) (fun cb => ?_)
      · exact absurd cb (by omega)
      · refine lv_iload_n X.1 X.2.1 dX1_isClique_8 rfl (lv_at hl 1 rfl) ?_
        refine lv_iload_n X.1 X.2.1 dX1_isClique_9 rfl (lv_at hl 2 rfl) ?_
        refine zw_bit X hS (by omega) dX1_isClique_10 dX1_isClique_11 dX1_isClique_12 ?_
        refine zw_tbne (tgt := 38) X dX1_isClique_13 dX1_isClique_14 (by decide) (fun c2 => ?_) (fun c2 => ?_)
        · refine lv_iinc (v := nI (i + 1)) (lv' := [(2, .int (nI (i + 1))), (0, .ref h0), (1, .int (nI S))]) X.1 X.2.1 dX1_isClique_38 hl (k := 2) rfl (zi_inc _) (by decide) rfl (fun ls hl => ?_)
          refine lv_goto (tgt := 2) X.1 X.2.1 dX1_isClique_41 (by decide) ?_
          exact ih (i + 1) (by omega) (fun q hq hb => by
            by_cases e : q = i
            · rw [e, c2] at hb; exact absurd hb (by decide)
            · exact hA q (by omega) hb) _ _ O ls (lv_sub hl [1, 2, 0] rfl)
        · refine lv_iload_n X.1 X.2.1 dX1_isClique_17 rfl (lv_at hl 1 rfl) ?_
          refine zm_f X O hl 0 rfl 0 (by decide) q200 rfl dX1_isClique_18 dX1_isClique_19 ?_
          refine lv_iload_n X.1 X.2.1 dX1_isClique_22 rfl (lv_at hl 2 rfl) ?_
          refine zw_ld X O 0 rfl (by omega) (by decide) dX1_isClique_23 ?_
          refine zw_sdn X hS (hg _ (by omega)) dX1_isClique_24 dX1_isClique_25 dX1_isClique_26 ?_
          refine lv_iconst (v := nI 1) X.1 X.2.1 dX1_isClique_27 (by decide) ?_
          refine lv_iload_n X.1 X.2.1 dX1_isClique_28 rfl (lv_at hl 2 rfl) ?_
          refine zw_shl X (by omega) dX1_isClique_29 ?_
          refine zw_sdn X (zp_sd_lt hS) (zp_pw_lt _ (by omega)) dX1_isClique_30 dX1_isClique_31 dX1_isClique_32 ?_
          refine zw_if_eq (tgt := 38) X (Nat.lt_trans (zp_sd_lt (zp_sd_lt hS)) (by decide)) dX1_isClique_33 (by decide) (fun c3 => ?_) (fun c3 => ?_)
          · refine lv_iinc (v := nI (i + 1)) (lv' := [(2, .int (nI (i + 1))), (0, .ref h0), (1, .int (nI S))]) X.1 X.2.1 dX1_isClique_38 hl (k := 2) rfl (zi_inc _) (by decide) rfl (fun ls hl => ?_)
            refine lv_goto (tgt := 2) X.1 X.2.1 dX1_isClique_41 (by decide) ?_
            exact ih (i + 1) (by omega) (fun q hq hb => by
              by_cases e : q = i
              · rw [e]; exact c3
              · exact hA q (by omega) hb) _ _ O ls (lv_sub hl [1, 2, 0] rfl)
          · refine lv_iconst (v := nI 0) X.1 X.2.1 dX1_isClique_36 (by decide) ?_
            exact RET _ _ _ _ _ _ _ O ⟨by rw [zp_isq_f cb c2 c3]; rfl, rfl, rfl⟩ rfl dX1_isClique_37
  exact L2 6 0 (by omega) (fun q hq => absurd hq (by omega)) _ _ O ls (lv_sub hl [1, 2, 0] rfl)
abbrev rX1_clique : Room := { frames := 1, cells := 0, slots := 0, locals := 23 }
set_option maxHeartbeats 4000000 in
set_option maxRecDepth 100000 in
/-- the points of the greatest clique -/
theorem zM_clique (l : Launch) (D : va_G) (dA : ClassId) (h0 : Nat) (a : Nat → Nat) (g lf rw nu le cn fi : Nat → Nat) (kn : Nat) (hg : ∀ p, p < 6 → g p < 64)  : zw_Ci l D dA yX1_clique cX1_clique 4 (some .int) rX1_clique 1 h0 [] (fM a kn) (sM a g lf rw nu le cn fi) (fun r fs as => r = nI (zp_mq g 64) ∧ fs = fM a kn ∧ as = sM a g lf rw nu le cn fi) := by
  refine zw_Ci.mk (ty := .int) (own := RX1) (lv0 := [(0, .ref h0)]) rfl rfl (by decide +kernel) (Nat.le_of_ble_eq_true rfl) rfl ?_
  intro p e s m args below meth c A Q X RET ls hl O
  refine lv_iconst (v := nI 0) X.1 X.2.1 dX1_clique_0 (by decide) ?_
  refine lv_istore_n (lv' := [(1, .int (nI 0)), (0, .ref h0)]) X.1 X.2.1 dX1_clique_1 rfl hl (by decide) rfl (fun ls hl => ?_)
  refine lv_iconst (v := nI 0) X.1 X.2.1 dX1_clique_2 (by decide) ?_
  refine lv_istore_n (lv' := [(2, .int (nI 0)), (1, .int (nI 0)), (0, .ref h0)]) X.1 X.2.1 dX1_clique_3 rfl hl (by decide) rfl (fun ls hl => ?_)
  have L4 : ∀ (n : Nat) (S : Nat), (S + n = 64) → ∀ (H : Heap) (locs : List Loc), zw_O D dA A s H locs 1 h0 (fM a kn) (sM a g lf rw nu le cn fi) → ∀ (ls : Array Slot), lv_has ls 4 [(0, .ref h0), (1, .int (nI (zp_mq g S))), (2, .int (nI S))] → W p l e rX1_clique s m args below meth c H locs 0 0 Q (F0 m 4 ls []) := by
    intro n
    induction n with
    | zero =>
      intro S hi H locs O ls hl
      refine lv_iload_n X.1 X.2.1 dX1_clique_4 rfl (lv_at hl 2 rfl) ?_
      refine lv_bipush (v := nI 64) X.1 X.2.1 dX1_clique_5 (by decide) ?_
      refine zw_icmp_ge (tgt := 41) X (by omega) (by decide) dX1_clique_7 (by decide) (fun cb => ?_) (fun cb => ?_)
      · refine lv_iload_n X.1 X.2.1 dX1_clique_41 rfl (lv_at hl 1 rfl) ?_
        exact RET _ _ _ _ _ _ _ O ⟨by rw [show S = 64 by omega], rfl, rfl⟩ rfl dX1_clique_42
      · exact absurd cb (by omega)
    | succ n ih =>
      intro S hi H locs O ls hl
      refine lv_iload_n X.1 X.2.1 dX1_clique_4 rfl (lv_at hl 2 rfl) ?_
      refine lv_bipush (v := nI 64) X.1 X.2.1 dX1_clique_5 (by decide) ?_
      refine zw_icmp_ge (tgt := 41) X (by omega) (by decide) dX1_clique_7 (by decide) (fun cb => ?_) (fun cb => ?_)
      · exact absurd cb (by omega)
      · refine lv_aload_n X.1 X.2.1 dX1_clique_10 rfl (lv_at hl 0 rfl) ?_
        refine lv_iload_n X.1 X.2.1 dX1_clique_11 rfl (lv_at hl 2 rfl) ?_
        refine zw_calli X O (zM_bits l D dA h0 a g lf rw nu le cn fi kn S cb) rfl 1 (lw_V q245 q247 qs18 q32 q248) rfl rfl (by decide +kernel) ⟨Nat.le_of_ble_eq_true rfl, Nat.le_of_ble_eq_true rfl⟩ rfl hl.1 rfl (Nat.le_of_ble_eq_true rfl) dX1_clique_12 ⟨Nat.zero_le _, Nat.zero_le _⟩ (fun r fs' as' H locs hp O => ?_)
        obtain ⟨rfl, rfl, rfl⟩ := hp
        refine lv_istore_n (lv' := [(3, .int (nI (zp_pop S))), (0, .ref h0), (1, .int (nI (zp_mq g S))), (2, .int (nI S))]) X.1 X.2.1 dX1_clique_15 rfl hl (by decide) rfl (fun ls hl => ?_)
        refine lv_iload_n X.1 X.2.1 dX1_clique_16 rfl (lv_at hl 0 rfl) ?_
        refine lv_iload_n X.1 X.2.1 dX1_clique_17 rfl (lv_at hl 2 rfl) ?_
        refine zw_icmp_le (tgt := 33) X (Nat.lt_of_le_of_lt (zp_pop_le _) (by decide)) (Nat.lt_of_le_of_lt (zp_mq_le g S) (by decide)) dX1_clique_18 (by decide) (fun c2 => ?_) (fun c2 => ?_)
        · refine lv_iload_n X.1 X.2.1 dX1_clique_33 rfl (lv_at hl 2 rfl) ?_
          have hq : zp_mq g S = zp_mq g (S + 1) := by
            show _ = if zp_mq g S < zp_pop S ∧ zp_isq g S = true then zp_pop S else zp_mq g S
            rw [if_neg (fun q => absurd q.1 (by omega))]
          refine zw_topn (zp_mq g (S + 1)) hq ?_
          refine lv_istore_n (lv' := [(1, .int (nI (zp_mq g (S + 1)))), (3, .int (nI (zp_pop S))), (0, .ref h0), (2, .int (nI S))]) X.1 X.2.1 dX1_clique_34 rfl hl (by decide) rfl (fun ls hl => ?_)
          refine lv_iinc (v := nI (S + 1)) (lv' := [(2, .int (nI (S + 1))), (1, .int (nI (zp_mq g (S + 1)))), (3, .int (nI (zp_pop S))), (0, .ref h0)]) X.1 X.2.1 dX1_clique_35 hl (k := 3) rfl (zi_inc _) (by decide) rfl (fun ls hl => ?_)
          refine lv_goto (tgt := 4) X.1 X.2.1 dX1_clique_38 (by decide) ?_
          exact ih (S + 1) (by omega) _ _ O ls (lv_sub hl [3, 1, 0] rfl)
        · refine lv_aload_n X.1 X.2.1 dX1_clique_21 rfl (lv_at hl 1 rfl) ?_
          refine lv_iload_n X.1 X.2.1 dX1_clique_22 rfl (lv_at hl 3 rfl) ?_
          refine zw_calli X O (zM_isClique l D dA h0 a g lf rw nu le cn fi kn hg S cb) rfl 1 (lw_V q346 q348 qs29 q32 q349) rfl rfl (by decide +kernel) ⟨Nat.le_of_ble_eq_true rfl, Nat.le_of_ble_eq_true rfl⟩ rfl hl.1 rfl (Nat.le_of_ble_eq_true rfl) dX1_clique_23 ⟨Nat.zero_le _, Nat.zero_le _⟩ (fun r fs' as' H locs hp O => ?_)
          obtain ⟨rfl, rfl, rfl⟩ := hp
          have hbl : (zp_isq g S).toNat < 2147483648 := by cases zp_isq g S <;> decide
          refine zw_if_eq (tgt := 33) X hbl dX1_clique_26 (by decide) (fun c3 => ?_) (fun c3 => ?_)
          · have c5 : zp_isq g S = false := by
              cases hh : zp_isq g S
              · rfl
              · rw [hh] at c3; exact absurd c3 (by decide)
            refine lv_iload_n X.1 X.2.1 dX1_clique_33 rfl (lv_at hl 2 rfl) ?_
            have hq : zp_mq g S = zp_mq g (S + 1) := by
              show _ = if zp_mq g S < zp_pop S ∧ zp_isq g S = true then zp_pop S else zp_mq g S
              rw [if_neg (fun q => by rw [c5] at q; exact absurd q.2 (by decide))]
            refine zw_topn (zp_mq g (S + 1)) hq ?_
            refine lv_istore_n (lv' := [(1, .int (nI (zp_mq g (S + 1)))), (3, .int (nI (zp_pop S))), (0, .ref h0), (2, .int (nI S))]) X.1 X.2.1 dX1_clique_34 rfl hl (by decide) rfl (fun ls hl => ?_)
            refine lv_iinc (v := nI (S + 1)) (lv' := [(2, .int (nI (S + 1))), (1, .int (nI (zp_mq g (S + 1)))), (3, .int (nI (zp_pop S))), (0, .ref h0)]) X.1 X.2.1 dX1_clique_35 hl (k := 3) rfl (zi_inc _) (by decide) rfl (fun ls hl => ?_)
            refine lv_goto (tgt := 4) X.1 X.2.1 dX1_clique_38 (by decide) ?_
            exact ih (S + 1) (by omega) _ _ O ls (lv_sub hl [3, 1, 0] rfl)
          · have c5 : zp_isq g S = true := by
              cases hh : zp_isq g S
              · rw [hh] at c3; exact absurd rfl c3
              · rfl
            refine lv_iload_n X.1 X.2.1 dX1_clique_29 rfl (lv_at hl 0 rfl) ?_
            refine lv_goto (tgt := 34) X.1 X.2.1 dX1_clique_30 (by decide) ?_
            have hq : zp_pop S = zp_mq g (S + 1) := by
              show _ = if zp_mq g S < zp_pop S ∧ zp_isq g S = true then zp_pop S else zp_mq g S
              rw [if_pos ⟨c2, c5⟩]
            refine zw_topn (zp_mq g (S + 1)) hq ?_
            refine lv_istore_n (lv' := [(1, .int (nI (zp_mq g (S + 1)))), (3, .int (nI (zp_pop S))), (0, .ref h0), (2, .int (nI S))]) X.1 X.2.1 dX1_clique_34 rfl hl (by decide) rfl (fun ls hl => ?_)
            refine lv_iinc (v := nI (S + 1)) (lv' := [(2, .int (nI (S + 1))), (1, .int (nI (zp_mq g (S + 1)))), (3, .int (nI (zp_pop S))), (0, .ref h0)]) X.1 X.2.1 dX1_clique_35 hl (k := 3) rfl (zi_inc _) (by decide) rfl (fun ls hl => ?_)
            refine lv_goto (tgt := 4) X.1 X.2.1 dX1_clique_38 (by decide) ?_
            exact ih (S + 1) (by omega) _ _ O ls (lv_sub hl [3, 1, 0] rfl)
  exact L4 64 0 (by omega) _ _ O ls (lv_sub hl [2, 1, 0] rfl)
abbrev rX1_joinNeighbours : Room := { frames := 1, cells := 0, slots := 0, locals := 23 }
set_option maxHeartbeats 4000000 in
set_option maxRecDepth 100000 in
/-- all points of a set joined -/
theorem zM_joinN (l : Launch) (D : va_G) (dA : ClassId) (h0 : Nat) (a : Nat → Nat) (g lf rw nu le cn fi : Nat → Nat) (kn : Nat) (hl0 : ∀ p, p < 6 → lf p < 64) (S : Nat) (hS : S < 64) : zw_Ci l D dA yX1_joinNeighbours cX1_joinNeighbours 5 (some .int) rX1_joinNeighbours 1 h0 [.int (nI S)] (fM a kn) (sM a g lf rw nu le cn fi) (fun r fs as => r = nI (zp_put lf S) ∧ fs = fM a kn ∧ as = sM a g (zp_join lf S) rw nu le cn fi) := by
  refine zw_Ci.mk (ty := .int) (own := RX1) (lv0 := [(0, .ref h0), (1, .int (nI S))]) rfl rfl (by decide +kernel) (Nat.le_of_ble_eq_true rfl) rfl ?_
  intro p e s m args below meth c A Q X RET ls hl O
  refine lv_iconst (v := nI 0) X.1 X.2.1 dX1_joinNeighbours_0 (by decide) ?_
  refine lv_istore_n (lv' := [(2, .int (nI 0)), (0, .ref h0), (1, .int (nI S))]) X.1 X.2.1 dX1_joinNeighbours_1 rfl hl (by decide) rfl (fun ls hl => ?_)
  refine lv_iconst (v := nI 0) X.1 X.2.1 dX1_joinNeighbours_2 (by decide) ?_
  refine lv_istore_n (lv' := [(3, .int (nI 0)), (2, .int (nI 0)), (0, .ref h0), (1, .int (nI S))]) X.1 X.2.1 dX1_joinNeighbours_3 rfl hl (by decide) rfl (fun ls hl => ?_)
  have L4 : ∀ (n : Nat) (i : Nat) (y : Nat → Nat), (i + n = 6) → (∀ q, q < i → y q = zp_join lf S q) → (∀ q, i ≤ q → y q = lf q) → ∀ (H : Heap) (locs : List Loc), zw_O D dA A s H locs 1 h0 (fM a kn) (sM a g y rw nu le cn fi) → ∀ (ls : Array Slot), lv_has ls 5 [(0, .ref h0), (1, .int (nI S)), (2, .int (nI (zp_sm (zp_put1 lf S) i))), (3, .int (nI i))] → W p l e rX1_joinNeighbours s m args below meth c H locs 0 0 Q (F0 m 4 ls []) := by
    intro n
    induction n with
    | zero =>
      intro i y hi h1 h2 H locs O ls hl
      refine lv_iload_n X.1 X.2.1 dX1_joinNeighbours_4 rfl (lv_at hl 3 rfl) ?_
      refine lv_bipush (v := nI 6) X.1 X.2.1 dX1_joinNeighbours_5 (by decide) ?_
      refine zw_icmp_ge (tgt := 67) X (by omega) (by decide) dX1_joinNeighbours_7 (by decide) (fun cb => ?_) (fun cb => ?_)
      · have hb : zp_sm (zp_put1 lf S) i < 2147483648 := by
          have := zp_sm_le (f := zp_put1 lf S) (b := 6) i (fun q _ => zp_put1_le lf S q)
          omega
        have O := zw_O_ext O 1 rfl (zp_join lf S) (fun q hq => h1 q (by omega))
        refine lv_iload_n X.1 X.2.1 dX1_joinNeighbours_67 rfl (lv_at hl 2 rfl) ?_
        refine lv_iconst (v := nI 2) X.1 X.2.1 dX1_joinNeighbours_68 (by decide) ?_
        refine zw_div X hb (by omega) (by decide) dX1_joinNeighbours_69 ?_
        exact RET _ _ _ _ _ _ _ O ⟨by rw [show i = 6 by omega]; rfl, rfl, rfl⟩ rfl dX1_joinNeighbours_70
      · exact absurd cb (by omega)
    | succ n ih =>
      intro i y hi h1 h2 H locs O ls hl
      refine lv_iload_n X.1 X.2.1 dX1_joinNeighbours_4 rfl (lv_at hl 3 rfl) ?_
      refine lv_bipush (v := nI 6) X.1 X.2.1 dX1_joinNeighbours_5 (by decide) ?_
      refine zw_icmp_ge (tgt := 67) X (by omega) (by decide) dX1_joinNeighbours_7 (by decide) (fun cb => ?_) (fun cb => ?_)
      · exact absurd cb (by omega)
      · have h3 := h2 i (Nat.le_refl _)
        refine lv_iload_n X.1 X.2.1 dX1_joinNeighbours_10 rfl (lv_at hl 1 rfl) ?_
        refine lv_iload_n X.1 X.2.1 dX1_joinNeighbours_11 rfl (lv_at hl 3 rfl) ?_
        refine zw_bit X hS (by omega) dX1_joinNeighbours_12 dX1_joinNeighbours_13 dX1_joinNeighbours_14 ?_
        refine zw_tbne (tgt := 61) X dX1_joinNeighbours_15 dX1_joinNeighbours_16 (by decide) (fun c2 => ?_) (fun c2 => ?_)
        · have e1 : zp_sm (zp_put1 lf S) i = zp_sm (zp_put1 lf S) (i + 1) := by
            show _ = zp_sm (zp_put1 lf S) i + zp_put1 lf S i
            unfold zp_put1; rw [if_neg (by rw [c2]; decide)]; rfl
          rw [e1] at hl
          refine lv_iinc (v := nI (i + 1)) (lv' := [(3, .int (nI (i + 1))), (0, .ref h0), (1, .int (nI S)), (2, .int (nI (zp_sm (zp_put1 lf S) (i + 1))))]) X.1 X.2.1 dX1_joinNeighbours_61 hl (k := 3) rfl (zi_inc _) (by decide) rfl (fun ls hl => ?_)
          refine lv_goto (tgt := 4) X.1 X.2.1 dX1_joinNeighbours_64 (by decide) ?_
          exact ih (i + 1) y (by omega) (fun q hq => by
            by_cases e : q = i
            · rw [e, h3]; unfold zp_join; rw [if_neg (by rw [c2]; decide)]
            · exact h1 q (by omega)) (fun q hq => h2 q (by omega)) _ _ O ls (lv_sub hl [1, 2, 3, 0] rfl)
        · refine lv_iload_n X.1 X.2.1 dX1_joinNeighbours_19 rfl (lv_at hl 1 rfl) ?_
          refine zm_f X O hl 0 rfl 1 (by decide) q201 rfl dX1_joinNeighbours_20 dX1_joinNeighbours_21 ?_
          refine lv_iload_n X.1 X.2.1 dX1_joinNeighbours_24 rfl (lv_at hl 3 rfl) ?_
          refine zw_ld X O 1 rfl (by omega) (by decide) dX1_joinNeighbours_25 ?_
          refine zw_topn (lf i) h3 ?_
          refine zw_sdn X hS (hl0 i cb) dX1_joinNeighbours_26 dX1_joinNeighbours_27 dX1_joinNeighbours_28 ?_
          refine lv_iconst (v := nI 1) X.1 X.2.1 dX1_joinNeighbours_29 (by decide) ?_
          refine lv_iload_n X.1 X.2.1 dX1_joinNeighbours_30 rfl (lv_at hl 3 rfl) ?_
          refine zw_shl X (by omega) dX1_joinNeighbours_31 ?_
          refine zw_sdn X (zp_sd_lt hS) (zp_pw_lt _ (by omega)) dX1_joinNeighbours_32 dX1_joinNeighbours_33 dX1_joinNeighbours_34 ?_
          refine lv_istore (lv' := [(4, .int (nI (zp_sd (zp_sd S (lf i)) (2 ^ i)))), (0, .ref h0), (1, .int (nI S)), (2, .int (nI (zp_sm (zp_put1 lf S) i))), (3, .int (nI i))]) X.1 X.2.1 dX1_joinNeighbours_35 hl (by decide) rfl (fun ls hl => ?_)
          refine lv_iload_n X.1 X.2.1 dX1_joinNeighbours_37 rfl (lv_at hl 3 rfl) ?_
          refine lv_aload_n X.1 X.2.1 dX1_joinNeighbours_38 rfl (lv_at hl 1 rfl) ?_
          refine lv_iload X.1 X.2.1 dX1_joinNeighbours_39 (lv_at hl 0 rfl) ?_
          refine zw_calli X O (zM_bits l D dA h0 a g y rw nu le cn fi kn (zp_sd (zp_sd S (lf i)) (2 ^ i)) (zp_sd_lt (zp_sd_lt hS))) rfl 1 (lw_V q245 q247 qs18 q32 q248) rfl rfl (by decide +kernel) ⟨Nat.le_of_ble_eq_true rfl, Nat.le_of_ble_eq_true rfl⟩ rfl hl.1 rfl (Nat.le_of_ble_eq_true rfl) dX1_joinNeighbours_41 ⟨Nat.zero_le _, Nat.zero_le _⟩ (fun r fs' as' H locs hp O => ?_)
          obtain ⟨rfl, rfl, rfl⟩ := hp
          refine zw_add X dX1_joinNeighbours_44 ?_
          have e1 : (zp_sm (zp_put1 lf S) i) + (zp_pop (zp_sd (zp_sd S (lf i)) (2 ^ i))) = zp_sm (zp_put1 lf S) (i + 1) := by
            show _ = zp_sm (zp_put1 lf S) i + zp_put1 lf S i
            unfold zp_put1; rw [if_pos c2]
          refine zw_topn (zp_sm (zp_put1 lf S) (i + 1)) e1 ?_
          refine lv_istore_n (lv' := [(2, .int (nI (zp_sm (zp_put1 lf S) (i + 1)))), (4, .int (nI (zp_sd (zp_sd S (lf i)) (2 ^ i)))), (0, .ref h0), (1, .int (nI S)), (3, .int (nI i))]) X.1 X.2.1 dX1_joinNeighbours_45 rfl hl (by decide) rfl (fun ls hl => ?_)
          refine zm_f X O hl 2 rfl 1 (by decide) q201 rfl dX1_joinNeighbours_46 dX1_joinNeighbours_47 ?_
          refine lv_iload_n X.1 X.2.1 dX1_joinNeighbours_50 rfl (lv_at hl 4 rfl) ?_
          refine zm_f X O hl 2 rfl 1 (by decide) q201 rfl dX1_joinNeighbours_51 dX1_joinNeighbours_52 ?_
          refine lv_iload_n X.1 X.2.1 dX1_joinNeighbours_55 rfl (lv_at hl 4 rfl) ?_
          refine zw_ld X O 1 rfl (by omega) (by decide) dX1_joinNeighbours_56 ?_
          refine lv_iload X.1 X.2.1 dX1_joinNeighbours_57 (lv_at hl 1 rfl) ?_
          refine zw_or X dX1_joinNeighbours_59 ?_
          refine zw_st X O 1 rfl (by omega) (by decide) dX1_joinNeighbours_60 (fun H locs O => ?_)
          have O : zw_O D dA A s H locs 1 h0 (fM a kn) (sM a g (va_up y i ((y i) ||| (zp_sd (zp_sd S (lf i)) (2 ^ i)))) rw nu le cn fi) := O
          refine lv_iinc (v := nI (i + 1)) (lv' := [(3, .int (nI (i + 1))), (2, .int (nI (zp_sm (zp_put1 lf S) (i + 1)))), (4, .int (nI (zp_sd (zp_sd S (lf i)) (2 ^ i)))), (0, .ref h0), (1, .int (nI S))]) X.1 X.2.1 dX1_joinNeighbours_61 hl (k := 4) rfl (zi_inc _) (by decide) rfl (fun ls hl => ?_)
          refine lv_goto (tgt := 4) X.1 X.2.1 dX1_joinNeighbours_64 (by decide) ?_
          exact ih (i + 1) (va_up y i ((y i) ||| (zp_sd (zp_sd S (lf i)) (2 ^ i)))) (by omega) (fun q hq => by
            by_cases e : q = i
            · rw [e, zp_up_s, h3]; unfold zp_join; rw [if_pos c2]
            · rw [zp_up_n e]; exact h1 q (by omega)) (fun q hq => by rw [zp_up_n (by omega)]; exact h2 q (by omega)) _ _ O ls (lv_sub hl [3, 4, 1, 0] rfl)
  exact L4 6 0 lf (by omega) (fun q hq => absurd hq (by omega)) (fun q _ => rfl) _ _ O ls (lv_sub hl [2, 3, 1, 0] rfl)
end
section
/-! LayoutWidthsModel: contracts, second half (written by gen/m2.py) -/
abbrev rX1_lay : Room := { frames := 1, cells := 0, slots := 0, locals := 23 }
set_option maxHeartbeats 4000000 in
set_option maxRecDepth 100000 in
/-- cuts, separations, stretch, length of the order in the row -/
theorem zM_lay (l : Launch) (D : va_G) (dA : ClassId) (h0 : Nat) (a : Nat → Nat) (g lf rw nu le cn fi : Nat → Nat) (kn : Nat) (hg : ∀ p, p < 6 → g p < 64) (hr : ∀ p, p < 6 → rw p < 6)  : zw_Cv l D dA yX1_lay cX1_lay 8 rX1_lay 1 h0 [] (fM a kn) (sM a g lf rw nu le cn fi) (fun fs as => fs = fM a kn ∧ as = sM a g lf rw (zp_ly g rw nu) le cn fi) := by
  refine zw_Cv.mk (own := RX1) (lv0 := [(0, .ref h0)]) rfl (by decide +kernel) (Nat.le_of_ble_eq_true rfl) rfl ?_
  intro p e s m args below meth c A Q X RET ls hl O
  refine lv_iconst (v := nI 0) X.1 X.2.1 dX1_lay_0 (by decide) ?_
  refine lv_istore_n (lv' := [(1, .int (nI 0)), (0, .ref h0)]) X.1 X.2.1 dX1_lay_1 rfl hl (by decide) rfl (fun ls hl => ?_)
  have L2 : ∀ (n : Nat) (i : Nat) (y : Nat → Nat), (i + n = 4) → (∀ q, q < i → y q = 0) → (∀ q, 4 ≤ q → y q = nu q) → ∀ (H : Heap) (locs : List Loc), zw_O D dA A s H locs 1 h0 (fM a kn) (sM a g lf rw y le cn fi) → ∀ (ls : Array Slot), lv_has ls 8 [(0, .ref h0), (1, .int (nI i))] → W p l e rX1_lay s m args below meth c H locs 0 0 Q (F0 m 2 ls []) := by
    intro n
    induction n with
    | zero =>
      intro i y hi hy hy4 H locs O ls hl
      refine lv_iload_n X.1 X.2.1 dX1_lay_2 rfl (lv_at hl 1 rfl) ?_
      refine lv_iconst (v := nI 4) X.1 X.2.1 dX1_lay_3 (by decide) ?_
      refine zw_icmp_ge (tgt := 20) X (by omega) (by decide) dX1_lay_4 (by decide) (fun cb => ?_) (fun cb => ?_)
      · refine lv_iconst (v := nI 0) X.1 X.2.1 dX1_lay_20 (by decide) ?_
        refine lv_istore_n (lv' := [(1, .int (nI 0)), (0, .ref h0)]) X.1 X.2.1 dX1_lay_21 rfl hl (by decide) rfl (fun ls hl => ?_)
        refine lv_iconst (v := nI 0) X.1 X.2.1 dX1_lay_22 (by decide) ?_
        refine lv_istore_n (lv' := [(2, .int (nI 0)), (1, .int (nI 0)), (0, .ref h0)]) X.1 X.2.1 dX1_lay_23 rfl hl (by decide) rfl (fun ls hl => ?_)
        have L24 : ∀ (n : Nat) (i : Nat) (y : Nat → Nat), (i + n = 6) → (y 0 = zp_mx (zp_ct g rw) i) → (y 1 = zp_mx (zp_pt g rw) i) → (y 2 = zp_mx (zp_s2 g rw) i) → (y 3 = zp_sm (zp_s3 g rw) i) → (∀ q, 4 ≤ q → y q = nu q) → ∀ (H : Heap) (locs : List Loc), zw_O D dA A s H locs 1 h0 (fM a kn) (sM a g lf rw y le cn fi) → ∀ (ls : Array Slot), lv_has ls 8 [(0, .ref h0), (1, .int (nI (zp_ear rw i))), (2, .int (nI i))] → W p l e rX1_lay s m args below meth c H locs 0 0 Q (F0 m 24 ls []) := by
          intro n
          induction n with
          | zero =>
            intro i y hi y0 y1 y2 y3 y4 H locs O ls hl
            refine lv_iload_n X.1 X.2.1 dX1_lay_24 rfl (lv_at hl 2 rfl) ?_
            refine lv_bipush (v := nI 6) X.1 X.2.1 dX1_lay_25 (by decide) ?_
            refine zw_icmp_ge (tgt := 264) X (by omega) (by decide) dX1_lay_27 (by decide) (fun cb => ?_) (fun cb => ?_)
            · have e6 : i = 6 := by omega
              subst e6
              have O := zw_O_ext O 3 rfl (zp_ly g rw nu) (fun q hq => by
                unfold zp_ly zp_nm
                rcases (show q = 0 ∨ q = 1 ∨ q = 2 ∨ q = 3 ∨ 4 ≤ q by omega) with e | e | e | e | e
                · subst e; exact y0
                · subst e; exact y1
                · subst e; exact y2
                · subst e; exact y3
                · rw [if_neg (by omega)]; exact y4 q e)
              exact RET _ _ _ _ _ _ O ⟨rfl, rfl⟩ dX1_lay_264
            · exact absurd cb (by omega)
          | succ n ih =>
            intro i y hi y0 y1 y2 y3 y4 H locs O ls hl
            refine lv_iload_n X.1 X.2.1 dX1_lay_24 rfl (lv_at hl 2 rfl) ?_
            refine lv_bipush (v := nI 6) X.1 X.2.1 dX1_lay_25 (by decide) ?_
            refine zw_icmp_ge (tgt := 264) X (by omega) (by decide) dX1_lay_27 (by decide) (fun cb => ?_) (fun cb => ?_)
            · exact absurd cb (by omega)
            · refine lv_iload_n X.1 X.2.1 dX1_lay_30 rfl (lv_at hl 1 rfl) ?_
              refine lv_iconst (v := nI 1) X.1 X.2.1 dX1_lay_31 (by decide) ?_
              refine zm_f X O hl 0 rfl 2 (by decide) q202 rfl dX1_lay_32 dX1_lay_33 ?_
              refine lv_iload_n X.1 X.2.1 dX1_lay_36 rfl (lv_at hl 2 rfl) ?_
              refine zw_ld X O 2 rfl cb (by decide) dX1_lay_37 ?_
              refine zw_shl X (hr i cb) dX1_lay_38 ?_
              refine zw_or X dX1_lay_39 ?_
              refine zw_topn (zp_ear rw (i + 1)) rfl ?_
              refine lv_istore_n (lv' := [(1, .int (nI (zp_ear rw (i + 1)))), (0, .ref h0), (2, .int (nI i))]) X.1 X.2.1 dX1_lay_40 rfl hl (by decide) rfl (fun ls hl => ?_)
              refine lv_iconst (v := nI 0) X.1 X.2.1 dX1_lay_41 (by decide) ?_
              refine lv_istore_n (lv' := [(3, .int (nI 0)), (1, .int (nI (zp_ear rw (i + 1)))), (0, .ref h0), (2, .int (nI i))]) X.1 X.2.1 dX1_lay_42 rfl hl (by decide) rfl (fun ls hl => ?_)
              refine lv_iconst (v := nI 0) X.1 X.2.1 dX1_lay_43 (by decide) ?_
              refine lv_istore (lv' := [(4, .int (nI 0)), (3, .int (nI 0)), (1, .int (nI (zp_ear rw (i + 1)))), (0, .ref h0), (2, .int (nI i))]) X.1 X.2.1 dX1_lay_44 hl (by decide) rfl (fun ls hl => ?_)
              refine lv_iconst (v := nI 0) X.1 X.2.1 dX1_lay_46 (by decide) ?_
              refine lv_istore (lv' := [(5, .int (nI 0)), (4, .int (nI 0)), (3, .int (nI 0)), (1, .int (nI (zp_ear rw (i + 1)))), (0, .ref h0), (2, .int (nI i))]) X.1 X.2.1 dX1_lay_47 hl (by decide) rfl (fun ls hl => ?_)
              have hE : zp_ear rw (i + 1) < 64 := zp_om_lt (i + 1) (fun q hq => zp_pw_lt _ (hr q (by omega)))
              have b0 : zp_mx (zp_ct g rw) i ≤ 36 := zp_mx_le i (fun q hq => zp_ct_le g rw q (by omega))
              have b1 : zp_mx (zp_pt g rw) i ≤ 36 := zp_mx_le i (fun q hq => zp_pt_le g rw q (by omega))
              have b2 : zp_mx (zp_s2 g rw) i ≤ 36 := zp_mx_le i (fun q hq => zp_s2_le g rw q (by omega))
              have L49 : ∀ (n : Nat) (k : Nat) (w : Nat → Nat), (k + n = i + 1) → (w 0 = y 0) → (w 1 = y 1) → (w 2 = max (y 2) (zp_mx (zp_st1 g rw i) k)) → (w 3 = y 3 + zp_sm (zp_st1 g rw i) k) → (∀ q, 4 ≤ q → w q = y q) → ∀ (H : Heap) (locs : List Loc), zw_O D dA A s H locs 1 h0 (fM a kn) (sM a g lf rw w le cn fi) → ∀ (ls : Array Slot), lv_has ls 8 [(0, .ref h0), (1, .int (nI (zp_ear rw (i + 1)))), (2, .int (nI i)), (3, .int (nI (zp_sm (zp_lat g rw i) k))), (4, .int (nI (zp_sm (zp_pt1 g rw i) k))), (5, .int (nI k))] → W p l e rX1_lay s m args below meth c H locs 0 0 Q (F0 m 49 ls []) := by
                intro n
                induction n with
                | zero =>
                  intro k w hk w0 w1 w2 w3 w4 H locs O ls hl
                  refine lv_iload X.1 X.2.1 dX1_lay_49 (lv_at hl 5 rfl) ?_
                  refine lv_iload_n X.1 X.2.1 dX1_lay_51 rfl (lv_at hl 2 rfl) ?_
                  refine zw_icmp_gt (tgt := 204) X (by omega) (Nat.lt_trans cb (by decide)) dX1_lay_52 (by decide) (fun d => ?_) (fun d => ?_)
                  · have ek : k = i + 1 := by omega
                    subst ek
                    have b3 := zp_latS_le g rw i (i + 1) (by omega)
                    have b4 := zp_ptS_le g rw i (i + 1) (by omega)
                    refine zm_f X O hl 0 rfl 3 (by decide) q203 rfl dX1_lay_204 dX1_lay_205 ?_
                    refine lv_iconst (v := nI 0) X.1 X.2.1 dX1_lay_208 (by decide) ?_
                    refine lv_iload_n X.1 X.2.1 dX1_lay_209 rfl (lv_at hl 3 rfl) ?_
                    refine zm_f X O hl 0 rfl 3 (by decide) q203 rfl dX1_lay_210 dX1_lay_211 ?_
                    refine lv_iconst (v := nI 0) X.1 X.2.1 dX1_lay_214 (by decide) ?_
                    refine zw_ld X O 3 rfl (by decide) (by decide) dX1_lay_215 ?_
                    refine zw_icmp_le (tgt := 223) X (by omega) (by rw [w0, y0]; omega) dX1_lay_216 (by decide) (fun c1 => ?_) (fun c1 => ?_)
                    · refine zm_f X O hl 0 rfl 3 (by decide) q203 rfl dX1_lay_223 dX1_lay_224 ?_
                      refine lv_iconst (v := nI 0) X.1 X.2.1 dX1_lay_227 (by decide) ?_
                      refine zw_ld X O 3 rfl (by decide) (by decide) dX1_lay_228 ?_
                      refine zw_st X O 3 rfl (by decide) (by decide) dX1_lay_229 (fun H locs O => ?_)
                      have O : zw_O D dA A s H locs 1 h0 (fM a kn) (sM a g lf rw (va_up w 0 (w 0)) le cn fi) := O
                      refine zm_f X O hl 0 rfl 3 (by decide) q203 rfl dX1_lay_230 dX1_lay_231 ?_
                      refine lv_iconst (v := nI 1) X.1 X.2.1 dX1_lay_234 (by decide) ?_
                      refine lv_iload X.1 X.2.1 dX1_lay_235 (lv_at hl 4 rfl) ?_
                      refine zm_f X O hl 0 rfl 3 (by decide) q203 rfl dX1_lay_237 dX1_lay_238 ?_
                      refine lv_iconst (v := nI 1) X.1 X.2.1 dX1_lay_241 (by decide) ?_
                      refine zw_ld X O 3 rfl (by decide) (by decide) dX1_lay_242 ?_
                      refine zw_icmp_le (tgt := 251) X (by omega) (by rw [zp_up_n (by decide), w1, y1]; omega) dX1_lay_243 (by decide) (fun c2 => ?_) (fun c2 => ?_)
                      · refine zm_f X O hl 0 rfl 3 (by decide) q203 rfl dX1_lay_251 dX1_lay_252 ?_
                        refine lv_iconst (v := nI 1) X.1 X.2.1 dX1_lay_255 (by decide) ?_
                        refine zw_ld X O 3 rfl (by decide) (by decide) dX1_lay_256 ?_
                        refine zw_st X O 3 rfl (by decide) (by decide) dX1_lay_257 (fun H locs O => ?_)
                        have O : zw_O D dA A s H locs 1 h0 (fM a kn) (sM a g lf rw (va_up (va_up w 0 (w 0)) 1 ((va_up w 0 (w 0)) 1)) le cn fi) := O
                        refine lv_iinc (v := nI (i + 1)) (lv' := [(2, .int (nI (i + 1))), (0, .ref h0), (1, .int (nI (zp_ear rw (i + 1)))), (3, .int (nI (zp_sm (zp_lat g rw i) (i + 1)))), (4, .int (nI (zp_sm (zp_pt1 g rw i) (i + 1)))), (5, .int (nI (i + 1)))]) X.1 X.2.1 dX1_lay_258 hl (k := 2) rfl (zi_inc _) (by decide) rfl (fun ls hl => ?_)
                        refine lv_goto (tgt := 24) X.1 X.2.1 dX1_lay_261 (by decide) ?_
                        exact ih (i + 1) (va_up (va_up w 0 (w 0)) 1 ((va_up w 0 (w 0)) 1)) (by omega) (by rw [zp_up_n (by decide), zp_up_s]; show _ = max (zp_mx (zp_ct g rw) i) (zp_sm (zp_lat g rw i) (i + 1)); rw [w0, y0] at c1 ⊢; omega) (by rw [zp_up_s]; show _ = max (zp_mx (zp_pt g rw) i) (zp_sm (zp_pt1 g rw i) (i + 1)); rw [zp_up_n (by decide), w1, y1] at c2 ⊢; omega) (by rw [zp_up_n (by decide), zp_up_n (by decide), w2, y2]; rfl) (by rw [zp_up_n (by decide), zp_up_n (by decide), w3, y3]; rfl) (fun q hq => by rw [zp_up_n (by omega), zp_up_n (by omega), w4 q hq]; exact y4 q hq) _ _ O ls (lv_sub hl [1, 2, 0] rfl)
                      · refine lv_iload X.1 X.2.1 dX1_lay_246 (lv_at hl 4 rfl) ?_
                        refine lv_goto (tgt := 257) X.1 X.2.1 dX1_lay_248 (by decide) ?_
                        refine zw_st X O 3 rfl (by decide) (by decide) dX1_lay_257 (fun H locs O => ?_)
                        have O : zw_O D dA A s H locs 1 h0 (fM a kn) (sM a g lf rw (va_up (va_up w 0 (w 0)) 1 (zp_sm (zp_pt1 g rw i) (i + 1))) le cn fi) := O
                        refine lv_iinc (v := nI (i + 1)) (lv' := [(2, .int (nI (i + 1))), (0, .ref h0), (1, .int (nI (zp_ear rw (i + 1)))), (3, .int (nI (zp_sm (zp_lat g rw i) (i + 1)))), (4, .int (nI (zp_sm (zp_pt1 g rw i) (i + 1)))), (5, .int (nI (i + 1)))]) X.1 X.2.1 dX1_lay_258 hl (k := 2) rfl (zi_inc _) (by decide) rfl (fun ls hl => ?_)
                        refine lv_goto (tgt := 24) X.1 X.2.1 dX1_lay_261 (by decide) ?_
                        exact ih (i + 1) (va_up (va_up w 0 (w 0)) 1 (zp_sm (zp_pt1 g rw i) (i + 1))) (by omega) (by rw [zp_up_n (by decide), zp_up_s]; show _ = max (zp_mx (zp_ct g rw) i) (zp_sm (zp_lat g rw i) (i + 1)); rw [w0, y0] at c1 ⊢; omega) (by rw [zp_up_s]; show _ = max (zp_mx (zp_pt g rw) i) (zp_sm (zp_pt1 g rw i) (i + 1)); rw [zp_up_n (by decide), w1, y1] at c2; omega) (by rw [zp_up_n (by decide), zp_up_n (by decide), w2, y2]; rfl) (by rw [zp_up_n (by decide), zp_up_n (by decide), w3, y3]; rfl) (fun q hq => by rw [zp_up_n (by omega), zp_up_n (by omega), w4 q hq]; exact y4 q hq) _ _ O ls (lv_sub hl [1, 2, 0] rfl)
                    · refine lv_iload_n X.1 X.2.1 dX1_lay_219 rfl (lv_at hl 3 rfl) ?_
                      refine lv_goto (tgt := 229) X.1 X.2.1 dX1_lay_220 (by decide) ?_
                      refine zw_st X O 3 rfl (by decide) (by decide) dX1_lay_229 (fun H locs O => ?_)
                      have O : zw_O D dA A s H locs 1 h0 (fM a kn) (sM a g lf rw (va_up w 0 (zp_sm (zp_lat g rw i) (i + 1))) le cn fi) := O
                      refine zm_f X O hl 0 rfl 3 (by decide) q203 rfl dX1_lay_230 dX1_lay_231 ?_
                      refine lv_iconst (v := nI 1) X.1 X.2.1 dX1_lay_234 (by decide) ?_
                      refine lv_iload X.1 X.2.1 dX1_lay_235 (lv_at hl 4 rfl) ?_
                      refine zm_f X O hl 0 rfl 3 (by decide) q203 rfl dX1_lay_237 dX1_lay_238 ?_
                      refine lv_iconst (v := nI 1) X.1 X.2.1 dX1_lay_241 (by decide) ?_
                      refine zw_ld X O 3 rfl (by decide) (by decide) dX1_lay_242 ?_
                      refine zw_icmp_le (tgt := 251) X (by omega) (by rw [zp_up_n (by decide), w1, y1]; omega) dX1_lay_243 (by decide) (fun c2 => ?_) (fun c2 => ?_)
                      · refine zm_f X O hl 0 rfl 3 (by decide) q203 rfl dX1_lay_251 dX1_lay_252 ?_
                        refine lv_iconst (v := nI 1) X.1 X.2.1 dX1_lay_255 (by decide) ?_
                        refine zw_ld X O 3 rfl (by decide) (by decide) dX1_lay_256 ?_
                        refine zw_st X O 3 rfl (by decide) (by decide) dX1_lay_257 (fun H locs O => ?_)
                        have O : zw_O D dA A s H locs 1 h0 (fM a kn) (sM a g lf rw (va_up (va_up w 0 (zp_sm (zp_lat g rw i) (i + 1))) 1 ((va_up w 0 (zp_sm (zp_lat g rw i) (i + 1))) 1)) le cn fi) := O
                        refine lv_iinc (v := nI (i + 1)) (lv' := [(2, .int (nI (i + 1))), (0, .ref h0), (1, .int (nI (zp_ear rw (i + 1)))), (3, .int (nI (zp_sm (zp_lat g rw i) (i + 1)))), (4, .int (nI (zp_sm (zp_pt1 g rw i) (i + 1)))), (5, .int (nI (i + 1)))]) X.1 X.2.1 dX1_lay_258 hl (k := 2) rfl (zi_inc _) (by decide) rfl (fun ls hl => ?_)
                        refine lv_goto (tgt := 24) X.1 X.2.1 dX1_lay_261 (by decide) ?_
                        exact ih (i + 1) (va_up (va_up w 0 (zp_sm (zp_lat g rw i) (i + 1))) 1 ((va_up w 0 (zp_sm (zp_lat g rw i) (i + 1))) 1)) (by omega) (by rw [zp_up_n (by decide), zp_up_s]; show _ = max (zp_mx (zp_ct g rw) i) (zp_sm (zp_lat g rw i) (i + 1)); rw [w0, y0] at c1; omega) (by rw [zp_up_s]; show _ = max (zp_mx (zp_pt g rw) i) (zp_sm (zp_pt1 g rw i) (i + 1)); rw [zp_up_n (by decide), w1, y1] at c2 ⊢; omega) (by rw [zp_up_n (by decide), zp_up_n (by decide), w2, y2]; rfl) (by rw [zp_up_n (by decide), zp_up_n (by decide), w3, y3]; rfl) (fun q hq => by rw [zp_up_n (by omega), zp_up_n (by omega), w4 q hq]; exact y4 q hq) _ _ O ls (lv_sub hl [1, 2, 0] rfl)
                      · refine lv_iload X.1 X.2.1 dX1_lay_246 (lv_at hl 4 rfl) ?_
                        refine lv_goto (tgt := 257) X.1 X.2.1 dX1_lay_248 (by decide) ?_
                        refine zw_st X O 3 rfl (by decide) (by decide) dX1_lay_257 (fun H locs O => ?_)
                        have O : zw_O D dA A s H locs 1 h0 (fM a kn) (sM a g lf rw (va_up (va_up w 0 (zp_sm (zp_lat g rw i) (i + 1))) 1 (zp_sm (zp_pt1 g rw i) (i + 1))) le cn fi) := O
                        refine lv_iinc (v := nI (i + 1)) (lv' := [(2, .int (nI (i + 1))), (0, .ref h0), (1, .int (nI (zp_ear rw (i + 1)))), (3, .int (nI (zp_sm (zp_lat g rw i) (i + 1)))), (4, .int (nI (zp_sm (zp_pt1 g rw i) (i + 1)))), (5, .int (nI (i + 1)))]) X.1 X.2.1 dX1_lay_258 hl (k := 2) rfl (zi_inc _) (by decide) rfl (fun ls hl => ?_)
                        refine lv_goto (tgt := 24) X.1 X.2.1 dX1_lay_261 (by decide) ?_
                        exact ih (i + 1) (va_up (va_up w 0 (zp_sm (zp_lat g rw i) (i + 1))) 1 (zp_sm (zp_pt1 g rw i) (i + 1))) (by omega) (by rw [zp_up_n (by decide), zp_up_s]; show _ = max (zp_mx (zp_ct g rw) i) (zp_sm (zp_lat g rw i) (i + 1)); rw [w0, y0] at c1; omega) (by rw [zp_up_s]; show _ = max (zp_mx (zp_pt g rw) i) (zp_sm (zp_pt1 g rw i) (i + 1)); rw [zp_up_n (by decide), w1, y1] at c2; omega) (by rw [zp_up_n (by decide), zp_up_n (by decide), w2, y2]; rfl) (by rw [zp_up_n (by decide), zp_up_n (by decide), w3, y3]; rfl) (fun q hq => by rw [zp_up_n (by omega), zp_up_n (by omega), w4 q hq]; exact y4 q hq) _ _ O ls (lv_sub hl [1, 2, 0] rfl)
                  · exact absurd d (by omega)
                | succ n ih =>
                  intro k w hk w0 w1 w2 w3 w4 H locs O ls hl
                  have ih2 := ih
                  refine lv_iload X.1 X.2.1 dX1_lay_49 (lv_at hl 5 rfl) ?_
                  refine lv_iload_n X.1 X.2.1 dX1_lay_51 rfl (lv_at hl 2 rfl) ?_
                  refine zw_icmp_gt (tgt := 204) X (by omega) (Nat.lt_trans cb (by decide)) dX1_lay_52 (by decide) (fun d => ?_) (fun d => ?_)
                  · exact absurd d (by omega)
                  · refine lv_aload_n X.1 X.2.1 dX1_lay_55 rfl (lv_at hl 0 rfl) ?_
                    refine zm_f X O hl 0 rfl 0 (by decide) q200 rfl dX1_lay_56 dX1_lay_57 ?_
                    refine zm_f X O hl 0 rfl 2 (by decide) q202 rfl dX1_lay_60 dX1_lay_61 ?_
                    refine lv_iload X.1 X.2.1 dX1_lay_64 (lv_at hl 5 rfl) ?_
                    refine zw_ld X O 2 rfl (by omega) (by decide) dX1_lay_66 ?_
                    refine zw_ld X O 0 rfl (hr k (by omega)) (by decide) dX1_lay_67 ?_
                    refine lv_iload_n X.1 X.2.1 dX1_lay_68 rfl (lv_at hl 1 rfl) ?_
                    refine zw_sdn X (hg _ (hr k (by omega))) hE dX1_lay_69 dX1_lay_70 dX1_lay_71 ?_
                    refine zw_calli X O (zM_bits l D dA h0 a g lf rw w le cn fi kn (zp_sd (g (rw k)) (zp_ear rw (i + 1))) (zp_sd_lt (hg _ (hr k (by omega))))) rfl 1 (lw_V q245 q247 qs18 q32 q248) rfl rfl (by decide +kernel) ⟨Nat.le_of_ble_eq_true rfl, Nat.le_of_ble_eq_true rfl⟩ rfl hl.1 rfl (Nat.le_of_ble_eq_true rfl) dX1_lay_72 ⟨Nat.zero_le _, Nat.zero_le _⟩ (fun r fs' as' H locs hp O => ?_)
                    obtain ⟨rfl, rfl, rfl⟩ := hp
                    refine lv_istore (lv' := [(6, .int (nI (zp_lat g rw i k))), (0, .ref h0), (1, .int (nI (zp_ear rw (i + 1)))), (2, .int (nI i)), (3, .int (nI (zp_sm (zp_lat g rw i) k))), (4, .int (nI (zp_sm (zp_pt1 g rw i) k))), (5, .int (nI k))]) X.1 X.2.1 dX1_lay_75 hl (by decide) rfl (fun ls hl => ?_)
                    refine lv_iload_n X.1 X.2.1 dX1_lay_77 rfl (lv_at hl 4 rfl) ?_
                    refine lv_iload X.1 X.2.1 dX1_lay_78 (lv_at hl 0 rfl) ?_
                    refine zw_add X dX1_lay_80 ?_
                    refine zw_topn (zp_sm (zp_lat g rw i) (k + 1)) rfl ?_
                    refine lv_istore_n (lv' := [(3, .int (nI (zp_sm (zp_lat g rw i) (k + 1)))), (6, .int (nI (zp_lat g rw i k))), (0, .ref h0), (1, .int (nI (zp_ear rw (i + 1)))), (2, .int (nI i)), (4, .int (nI (zp_sm (zp_pt1 g rw i) k))), (5, .int (nI k))]) X.1 X.2.1 dX1_lay_81 rfl hl (by decide) rfl (fun ls hl => ?_)
                    have J96 : ∀ (ls : Array Slot), lv_has ls 8 [(3, .int (nI (zp_sm (zp_lat g rw i) (k + 1)))), (6, .int (nI (zp_lat g rw i k))), (0, .ref h0), (1, .int (nI (zp_ear rw (i + 1)))), (2, .int (nI i)), (4, .int (nI (zp_sm (zp_pt1 g rw i) k))), (5, .int (nI k))] → W p l e rX1_lay s m args below meth c H locs 0 0 Q (F0 m 96 ls [.int (nI (zp_sm (zp_pt1 g rw i) (k + 1)))]) := by
                      intro  ls hl
                      refine lv_istore (lv' := [(4, .int (nI (zp_sm (zp_pt1 g rw i) (k + 1)))), (3, .int (nI (zp_sm (zp_lat g rw i) (k + 1)))), (6, .int (nI (zp_lat g rw i k))), (0, .ref h0), (1, .int (nI (zp_ear rw (i + 1)))), (2, .int (nI i)), (5, .int (nI k))]) X.1 X.2.1 dX1_lay_96 hl (by decide) rfl (fun ls hl => ?_)
                      have JT : ((g (rw k)).testBit (rw i) = true) → ∀ (ls : Array Slot), lv_has ls 8 [(4, .int (nI (zp_sm (zp_pt1 g rw i) (k + 1)))), (3, .int (nI (zp_sm (zp_lat g rw i) (k + 1)))), (6, .int (nI (zp_lat g rw i k))), (0, .ref h0), (1, .int (nI (zp_ear rw (i + 1)))), (2, .int (nI i)), (5, .int (nI k))] → W p l e rX1_lay s m args below meth c H locs 0 0 Q (F0 m 128 ls [.int (nI 1)]) := by
                        intro hj ls hl
                        refine lv_istore (lv' := [(7, .int (nI 1)), (4, .int (nI (zp_sm (zp_pt1 g rw i) (k + 1)))), (3, .int (nI (zp_sm (zp_lat g rw i) (k + 1)))), (6, .int (nI (zp_lat g rw i k))), (0, .ref h0), (1, .int (nI (zp_ear rw (i + 1)))), (2, .int (nI i)), (5, .int (nI k))]) X.1 X.2.1 dX1_lay_128 hl (by decide) rfl (fun ls hl => ?_)
                        refine zm_f X O hl 4 rfl 3 (by decide) q203 rfl dX1_lay_130 dX1_lay_131 ?_
                        refine lv_iconst (v := nI 2) X.1 X.2.1 dX1_lay_134 (by decide) ?_
                        refine lv_iload X.1 X.2.1 dX1_lay_135 (lv_at hl 0 rfl) ?_
                        refine zw_if_eq (tgt := 160) X (by decide) dX1_lay_137 (by decide) (fun e8 => ?_) (fun e8 => ?_)
                        · exact absurd e8 (by decide)
                        · have hst : zp_st1 g rw i k = i - k := by unfold zp_st1; rw [if_pos hj]
                          refine lv_iload_n X.1 X.2.1 dX1_lay_140 rfl (lv_at hl 6 rfl) ?_
                          refine lv_iload X.1 X.2.1 dX1_lay_141 (lv_at hl 7 rfl) ?_
                          refine zw_sub X (by omega) dX1_lay_143 ?_
                          refine zm_f X O hl 4 rfl 3 (by decide) q203 rfl dX1_lay_144 dX1_lay_145 ?_
                          refine lv_iconst (v := nI 2) X.1 X.2.1 dX1_lay_148 (by decide) ?_
                          refine zw_ld X O 3 rfl (by decide) (by decide) dX1_lay_149 ?_
                          refine zw_icmp_le (tgt := 160) X (by omega) (by have := zp_stM_le g rw i k; rw [w2, y2]; omega) dX1_lay_150 (by decide) (fun c7 => ?_) (fun c7 => ?_)
                          · refine zm_f X O hl 4 rfl 3 (by decide) q203 rfl dX1_lay_160 dX1_lay_161 ?_
                            refine lv_iconst (v := nI 2) X.1 X.2.1 dX1_lay_164 (by decide) ?_
                            refine zw_ld X O 3 rfl (by decide) (by decide) dX1_lay_165 ?_
                            refine zw_st X O 3 rfl (by decide) (by decide) dX1_lay_166 (fun H locs O => ?_)
                            have O : zw_O D dA A s H locs 1 h0 (fM a kn) (sM a g lf rw (va_up w 2 (w 2)) le cn fi) := O
                            refine zm_f X O hl 4 rfl 3 (by decide) q203 rfl dX1_lay_167 dX1_lay_168 ?_
                            refine lv_iconst (v := nI 3) X.1 X.2.1 dX1_lay_171 (by decide) ?_
                            refine lv_iload X.1 X.2.1 dX1_lay_172 (lv_at hl 0 rfl) ?_
                            refine zw_if_eq (tgt := 191) X (by decide) dX1_lay_174 (by decide) (fun e9 => ?_) (fun e9 => ?_)
                            · exact absurd e9 (by decide)
                            · refine zm_f X O hl 4 rfl 3 (by decide) q203 rfl dX1_lay_177 dX1_lay_178 ?_
                              refine lv_iconst (v := nI 3) X.1 X.2.1 dX1_lay_181 (by decide) ?_
                              refine zw_ld X O 3 rfl (by decide) (by decide) dX1_lay_182 ?_
                              refine lv_iload_n X.1 X.2.1 dX1_lay_183 rfl (lv_at hl 6 rfl) ?_
                              refine zw_add X dX1_lay_184 ?_
                              refine lv_iload X.1 X.2.1 dX1_lay_185 (lv_at hl 7 rfl) ?_
                              refine zw_sub X (by omega) dX1_lay_187 ?_
                              refine lv_goto (tgt := 197) X.1 X.2.1 dX1_lay_188 (by decide) ?_
                              refine zw_st X O 3 rfl (by decide) (by decide) dX1_lay_197 (fun H locs O => ?_)
                              have O : zw_O D dA A s H locs 1 h0 (fM a kn) (sM a g lf rw (va_up (va_up w 2 (w 2)) 3 ((((va_up w 2 (w 2)) 3) + i) - k)) le cn fi) := O
                              refine lv_iinc (v := nI (k + 1)) (lv' := [(5, .int (nI (k + 1))), (7, .int (nI 1)), (4, .int (nI (zp_sm (zp_pt1 g rw i) (k + 1)))), (3, .int (nI (zp_sm (zp_lat g rw i) (k + 1)))), (6, .int (nI (zp_lat g rw i k))), (0, .ref h0), (1, .int (nI (zp_ear rw (i + 1)))), (2, .int (nI i))]) X.1 X.2.1 dX1_lay_198 hl (k := 7) rfl (zi_inc _) (by decide) rfl (fun ls hl => ?_)
                              refine lv_goto (tgt := 49) X.1 X.2.1 dX1_lay_201 (by decide) ?_
                              exact ih2 (k + 1) (va_up (va_up w 2 (w 2)) 3 ((((va_up w 2 (w 2)) 3) + i) - k)) (by omega) (by rw [zp_up_n (by decide), zp_up_n (by decide)]; exact w0) (by rw [zp_up_n (by decide), zp_up_n (by decide)]; exact w1) (by rw [zp_up_n (by decide), zp_up_s]; show _ = max (y 2) (max (zp_mx (zp_st1 g rw i) k) (zp_st1 g rw i k)); rw [hst]; rw [w2] at c7 ⊢; omega) (by rw [zp_up_s, zp_up_n (by decide), w3]; show _ = y 3 + (zp_sm (zp_st1 g rw i) k + zp_st1 g rw i k); rw [hst]; omega) (fun q hq => by rw [zp_up_n (by omega), zp_up_n (by omega)]; exact w4 q hq) _ _ O ls (lv_sub hl [5, 6, 7, 3, 2, 0] rfl)
                          · refine lv_iload_n X.1 X.2.1 dX1_lay_153 rfl (lv_at hl 6 rfl) ?_
                            refine lv_iload X.1 X.2.1 dX1_lay_154 (lv_at hl 7 rfl) ?_
                            refine zw_sub X (by omega) dX1_lay_156 ?_
                            refine lv_goto (tgt := 166) X.1 X.2.1 dX1_lay_157 (by decide) ?_
                            refine zw_st X O 3 rfl (by decide) (by decide) dX1_lay_166 (fun H locs O => ?_)
                            have O : zw_O D dA A s H locs 1 h0 (fM a kn) (sM a g lf rw (va_up w 2 (i - k)) le cn fi) := O
                            refine zm_f X O hl 4 rfl 3 (by decide) q203 rfl dX1_lay_167 dX1_lay_168 ?_
                            refine lv_iconst (v := nI 3) X.1 X.2.1 dX1_lay_171 (by decide) ?_
                            refine lv_iload X.1 X.2.1 dX1_lay_172 (lv_at hl 0 rfl) ?_
                            refine zw_if_eq (tgt := 191) X (by decide) dX1_lay_174 (by decide) (fun e9 => ?_) (fun e9 => ?_)
                            · exact absurd e9 (by decide)
                            · refine zm_f X O hl 4 rfl 3 (by decide) q203 rfl dX1_lay_177 dX1_lay_178 ?_
                              refine lv_iconst (v := nI 3) X.1 X.2.1 dX1_lay_181 (by decide) ?_
                              refine zw_ld X O 3 rfl (by decide) (by decide) dX1_lay_182 ?_
                              refine lv_iload_n X.1 X.2.1 dX1_lay_183 rfl (lv_at hl 6 rfl) ?_
                              refine zw_add X dX1_lay_184 ?_
                              refine lv_iload X.1 X.2.1 dX1_lay_185 (lv_at hl 7 rfl) ?_
                              refine zw_sub X (by omega) dX1_lay_187 ?_
                              refine lv_goto (tgt := 197) X.1 X.2.1 dX1_lay_188 (by decide) ?_
                              refine zw_st X O 3 rfl (by decide) (by decide) dX1_lay_197 (fun H locs O => ?_)
                              have O : zw_O D dA A s H locs 1 h0 (fM a kn) (sM a g lf rw (va_up (va_up w 2 (i - k)) 3 ((((va_up w 2 (i - k)) 3) + i) - k)) le cn fi) := O
                              refine lv_iinc (v := nI (k + 1)) (lv' := [(5, .int (nI (k + 1))), (7, .int (nI 1)), (4, .int (nI (zp_sm (zp_pt1 g rw i) (k + 1)))), (3, .int (nI (zp_sm (zp_lat g rw i) (k + 1)))), (6, .int (nI (zp_lat g rw i k))), (0, .ref h0), (1, .int (nI (zp_ear rw (i + 1)))), (2, .int (nI i))]) X.1 X.2.1 dX1_lay_198 hl (k := 7) rfl (zi_inc _) (by decide) rfl (fun ls hl => ?_)
                              refine lv_goto (tgt := 49) X.1 X.2.1 dX1_lay_201 (by decide) ?_
                              exact ih2 (k + 1) (va_up (va_up w 2 (i - k)) 3 ((((va_up w 2 (i - k)) 3) + i) - k)) (by omega) (by rw [zp_up_n (by decide), zp_up_n (by decide)]; exact w0) (by rw [zp_up_n (by decide), zp_up_n (by decide)]; exact w1) (by rw [zp_up_n (by decide), zp_up_s]; show _ = max (y 2) (max (zp_mx (zp_st1 g rw i) k) (zp_st1 g rw i k)); rw [hst]; rw [w2] at c7; omega) (by rw [zp_up_s, zp_up_n (by decide), w3]; show _ = y 3 + (zp_sm (zp_st1 g rw i) k + zp_st1 g rw i k); rw [hst]; omega) (fun q hq => by rw [zp_up_n (by omega), zp_up_n (by omega)]; exact w4 q hq) _ _ O ls (lv_sub hl [5, 6, 7, 3, 2, 0] rfl)
                      have JF : ((g (rw k)).testBit (rw i) = false) → ∀ (ls : Array Slot), lv_has ls 8 [(4, .int (nI (zp_sm (zp_pt1 g rw i) (k + 1)))), (3, .int (nI (zp_sm (zp_lat g rw i) (k + 1)))), (6, .int (nI (zp_lat g rw i k))), (0, .ref h0), (1, .int (nI (zp_ear rw (i + 1)))), (2, .int (nI i)), (5, .int (nI k))] → W p l e rX1_lay s m args below meth c H locs 0 0 Q (F0 m 128 ls [.int (nI 0)]) := by
                        intro hj ls hl
                        refine lv_istore (lv' := [(7, .int (nI 0)), (4, .int (nI (zp_sm (zp_pt1 g rw i) (k + 1)))), (3, .int (nI (zp_sm (zp_lat g rw i) (k + 1)))), (6, .int (nI (zp_lat g rw i k))), (0, .ref h0), (1, .int (nI (zp_ear rw (i + 1)))), (2, .int (nI i)), (5, .int (nI k))]) X.1 X.2.1 dX1_lay_128 hl (by decide) rfl (fun ls hl => ?_)
                        refine zm_f X O hl 4 rfl 3 (by decide) q203 rfl dX1_lay_130 dX1_lay_131 ?_
                        refine lv_iconst (v := nI 2) X.1 X.2.1 dX1_lay_134 (by decide) ?_
                        refine lv_iload X.1 X.2.1 dX1_lay_135 (lv_at hl 0 rfl) ?_
                        refine zw_if_eq (tgt := 160) X (by decide) dX1_lay_137 (by decide) (fun e8 => ?_) (fun e8 => ?_)
                        · have hst : zp_st1 g rw i k = 0 := by unfold zp_st1; rw [if_neg (by rw [hj]; decide)]
                          refine zm_f X O hl 4 rfl 3 (by decide) q203 rfl dX1_lay_160 dX1_lay_161 ?_
                          refine lv_iconst (v := nI 2) X.1 X.2.1 dX1_lay_164 (by decide) ?_
                          refine zw_ld X O 3 rfl (by decide) (by decide) dX1_lay_165 ?_
                          refine zw_st X O 3 rfl (by decide) (by decide) dX1_lay_166 (fun H locs O => ?_)
                          have O : zw_O D dA A s H locs 1 h0 (fM a kn) (sM a g lf rw (va_up w 2 (w 2)) le cn fi) := O
                          refine zm_f X O hl 4 rfl 3 (by decide) q203 rfl dX1_lay_167 dX1_lay_168 ?_
                          refine lv_iconst (v := nI 3) X.1 X.2.1 dX1_lay_171 (by decide) ?_
                          refine lv_iload X.1 X.2.1 dX1_lay_172 (lv_at hl 0 rfl) ?_
                          refine zw_if_eq (tgt := 191) X (by decide) dX1_lay_174 (by decide) (fun e9 => ?_) (fun e9 => ?_)
                          · refine zm_f X O hl 4 rfl 3 (by decide) q203 rfl dX1_lay_191 dX1_lay_192 ?_
                            refine lv_iconst (v := nI 3) X.1 X.2.1 dX1_lay_195 (by decide) ?_
                            refine zw_ld X O 3 rfl (by decide) (by decide) dX1_lay_196 ?_
                            refine zw_st X O 3 rfl (by decide) (by decide) dX1_lay_197 (fun H locs O => ?_)
                            have O : zw_O D dA A s H locs 1 h0 (fM a kn) (sM a g lf rw (va_up (va_up w 2 (w 2)) 3 ((va_up w 2 (w 2)) 3)) le cn fi) := O
                            refine lv_iinc (v := nI (k + 1)) (lv' := [(5, .int (nI (k + 1))), (7, .int (nI 0)), (4, .int (nI (zp_sm (zp_pt1 g rw i) (k + 1)))), (3, .int (nI (zp_sm (zp_lat g rw i) (k + 1)))), (6, .int (nI (zp_lat g rw i k))), (0, .ref h0), (1, .int (nI (zp_ear rw (i + 1)))), (2, .int (nI i))]) X.1 X.2.1 dX1_lay_198 hl (k := 7) rfl (zi_inc _) (by decide) rfl (fun ls hl => ?_)
                            refine lv_goto (tgt := 49) X.1 X.2.1 dX1_lay_201 (by decide) ?_
                            exact ih2 (k + 1) (va_up (va_up w 2 (w 2)) 3 ((va_up w 2 (w 2)) 3)) (by omega) (by rw [zp_up_n (by decide), zp_up_n (by decide)]; exact w0) (by rw [zp_up_n (by decide), zp_up_n (by decide)]; exact w1) (by rw [zp_up_n (by decide), zp_up_s]; show _ = max (y 2) (max (zp_mx (zp_st1 g rw i) k) (zp_st1 g rw i k)); rw [hst, w2]; omega) (by rw [zp_up_s, zp_up_n (by decide), w3]; show _ = y 3 + (zp_sm (zp_st1 g rw i) k + zp_st1 g rw i k); rw [hst]; rfl) (fun q hq => by rw [zp_up_n (by omega), zp_up_n (by omega)]; exact w4 q hq) _ _ O ls (lv_sub hl [5, 6, 7, 3, 2, 0] rfl)
                          · exact absurd rfl e9
                        · exact absurd rfl e8
                      refine zm_f X O hl 3 rfl 0 (by decide) q200 rfl dX1_lay_98 dX1_lay_99 ?_
                      refine zm_f X O hl 3 rfl 2 (by decide) q202 rfl dX1_lay_102 dX1_lay_103 ?_
                      refine lv_iload X.1 X.2.1 dX1_lay_106 (lv_at hl 6 rfl) ?_
                      refine zw_ld X O 2 rfl (by omega) (by decide) dX1_lay_108 ?_
                      refine zw_ld X O 0 rfl (hr k (by omega)) (by decide) dX1_lay_109 ?_
                      refine zm_f X O hl 3 rfl 2 (by decide) q202 rfl dX1_lay_110 dX1_lay_111 ?_
                      refine lv_iload_n X.1 X.2.1 dX1_lay_114 rfl (lv_at hl 5 rfl) ?_
                      refine zw_ld X O 2 rfl cb (by decide) dX1_lay_115 ?_
                      refine zw_bit X (hg _ (hr k (by omega))) (hr i cb) dX1_lay_116 dX1_lay_117 dX1_lay_118 ?_
                      refine zw_tbne (tgt := 127) X dX1_lay_119 dX1_lay_120 (by decide) (fun hj => ?_) (fun hj => ?_)
                      · refine lv_iconst (v := nI 0) X.1 X.2.1 dX1_lay_127 (by decide) ?_
                        exact JF hj ls hl
                      · refine lv_iconst (v := nI 1) X.1 X.2.1 dX1_lay_123 (by decide) ?_
                        refine lv_goto (tgt := 128) X.1 X.2.1 dX1_lay_124 (by decide) ?_
                        exact JT hj ls hl
                    refine lv_iload X.1 X.2.1 dX1_lay_82 (lv_at hl 1 rfl) ?_
                    refine zw_if_le (tgt := 94) X (Nat.lt_of_le_of_lt (zp_lat_le g rw i k) (by decide)) dX1_lay_84 (by decide) (fun c5 => ?_) (fun c5 => ?_)
                    · refine lv_iload X.1 X.2.1 dX1_lay_94 (lv_at hl 5 rfl) ?_
                      have hq : zp_sm (zp_pt1 g rw i) k = zp_sm (zp_pt1 g rw i) (k + 1) := by
                        show _ = zp_sm (zp_pt1 g rw i) k + zp_pt1 g rw i k
                        unfold zp_pt1; rw [if_neg (by omega)]; rfl
                      refine zw_topn (zp_sm (zp_pt1 g rw i) (k + 1)) hq ?_
                      exact J96 ls hl
                    · refine lv_iload X.1 X.2.1 dX1_lay_87 (lv_at hl 5 rfl) ?_
                      refine lv_iconst (v := nI 1) X.1 X.2.1 dX1_lay_89 (by decide) ?_
                      refine zw_add X dX1_lay_90 ?_
                      refine lv_goto (tgt := 96) X.1 X.2.1 dX1_lay_91 (by decide) ?_
                      have hq : (zp_sm (zp_pt1 g rw i) k) + 1 = zp_sm (zp_pt1 g rw i) (k + 1) := by
                        show _ = zp_sm (zp_pt1 g rw i) k + zp_pt1 g rw i k
                        unfold zp_pt1; rw [if_pos c5]
                      refine zw_topn (zp_sm (zp_pt1 g rw i) (k + 1)) hq ?_
                      exact J96 ls hl
              exact L49 (i + 1) 0 y (by omega) rfl rfl (by rw [show zp_mx (zp_st1 g rw i) 0 = 0 from rfl]; omega) rfl (fun q _ => rfl) _ _ O ls (lv_sub hl [4, 3, 5, 2, 1, 0] rfl)
        exact L24 6 0 y (by omega) (hy 0 (by omega)) (hy 1 (by omega)) (hy 2 (by omega)) (hy 3 (by omega)) hy4 _ _ O ls (lv_sub hl [2, 1, 0] rfl)
      · exact absurd cb (by omega)
    | succ n ih =>
      intro i y hi hy hy4 H locs O ls hl
      refine lv_iload_n X.1 X.2.1 dX1_lay_2 rfl (lv_at hl 1 rfl) ?_
      refine lv_iconst (v := nI 4) X.1 X.2.1 dX1_lay_3 (by decide) ?_
      refine zw_icmp_ge (tgt := 20) X (by omega) (by decide) dX1_lay_4 (by decide) (fun cb => ?_) (fun cb => ?_)
      · exact absurd cb (by omega)
      · refine zm_f X O hl 0 rfl 3 (by decide) q203 rfl dX1_lay_7 dX1_lay_8 ?_
        refine lv_iload_n X.1 X.2.1 dX1_lay_11 rfl (lv_at hl 1 rfl) ?_
        refine lv_iconst (v := nI 0) X.1 X.2.1 dX1_lay_12 (by decide) ?_
        refine zw_st X O 3 rfl (by omega) (by decide) dX1_lay_13 (fun H locs O => ?_)
        have O : zw_O D dA A s H locs 1 h0 (fM a kn) (sM a g lf rw (va_up y i 0) le cn fi) := O
        refine lv_iinc (v := nI (i + 1)) (lv' := [(1, .int (nI (i + 1))), (0, .ref h0)]) X.1 X.2.1 dX1_lay_14 hl (k := 1) rfl (zi_inc _) (by decide) rfl (fun ls hl => ?_)
        refine lv_goto (tgt := 2) X.1 X.2.1 dX1_lay_17 (by decide) ?_
        exact ih (i + 1) (va_up y i 0) (by omega) (fun q hq => by
          by_cases e : q = i
          · rw [e, zp_up_s]
          · rw [zp_up_n e]; exact hy q (by omega)) (fun q hq => by rw [zp_up_n (by omega)]; exact hy4 q hq) _ _ O ls (lv_sub hl [1, 0] rfl)
  exact L2 4 0 nu (by omega) (fun q hq => absurd hq (by omega)) (fun q _ => rfl) _ _ O ls (lv_sub hl [1, 0] rfl)
abbrev rX1_takeApart : Room := { frames := 2, cells := 0, slots := 0, locals := 47 }
set_option maxHeartbeats 4000000 in
set_option maxRecDepth 100000 in
/-- width and fill of the order in the row -/
theorem zM_takeApart (l : Launch) (D : va_G) (dA : ClassId) (h0 : Nat) (a : Nat → Nat) (g lf rw nu le cn fi : Nat → Nat) (kn : Nat) (hg : ∀ p, p < 6 → g p < 64) (hr : ∀ p, p < 6 → rw p < 6)  : zw_Cv l D dA yX1_takeApart cX1_takeApart 5 rX1_takeApart 1 h0 [] (fM a kn) (sM a g lf rw nu le cn fi) (fun fs as => fs = fM a kn ∧ as = sM a g (zp_lf g rw 6) rw (zp_ta g rw nu) le cn fi) := by
  refine zw_Cv.mk (own := RX1) (lv0 := [(0, .ref h0)]) rfl (by decide +kernel) (Nat.le_of_ble_eq_true rfl) rfl ?_
  intro p e s m args below meth c A Q X RET ls hl O
  refine lv_iconst (v := nI 0) X.1 X.2.1 dX1_takeApart_0 (by decide) ?_
  refine lv_istore_n (lv' := [(1, .int (nI 0)), (0, .ref h0)]) X.1 X.2.1 dX1_takeApart_1 rfl hl (by decide) rfl (fun ls hl => ?_)
  have L2 : ∀ (n : Nat) (i : Nat) (y : Nat → Nat), (i + n = 6) → (∀ q, q < i → y q = g q) → ∀ (H : Heap) (locs : List Loc), zw_O D dA A s H locs 1 h0 (fM a kn) (sM a g y rw nu le cn fi) → ∀ (ls : Array Slot), lv_has ls 5 [(0, .ref h0), (1, .int (nI i))] → W p l e rX1_takeApart s m args below meth c H locs 0 0 Q (F0 m 2 ls []) := by
    intro n
    induction n with
    | zero =>
      intro i y hi hy H locs O ls hl
      refine lv_iload_n X.1 X.2.1 dX1_takeApart_2 rfl (lv_at hl 1 rfl) ?_
      refine lv_bipush (v := nI 6) X.1 X.2.1 dX1_takeApart_3 (by decide) ?_
      refine zw_icmp_ge (tgt := 26) X (by omega) (by decide) dX1_takeApart_5 (by decide) (fun cb => ?_) (fun cb => ?_)
      · have O := zw_O_ext O 1 rfl g (fun q hq => hy q (by omega))
        refine zm_f X O hl 0 rfl 3 (by decide) q203 rfl dX1_takeApart_26 dX1_takeApart_27 ?_
        refine lv_iconst (v := nI 4) X.1 X.2.1 dX1_takeApart_30 (by decide) ?_
        refine lv_iconst (v := nI 0) X.1 X.2.1 dX1_takeApart_31 (by decide) ?_
        refine zw_st X O 3 rfl (by decide) (by decide) dX1_takeApart_32 (fun H locs O => ?_)
        have O : zw_O D dA A s H locs 1 h0 (fM a kn) (sM a g g rw (va_up nu 4 0) le cn fi) := O
        refine zm_f X O hl 0 rfl 3 (by decide) q203 rfl dX1_takeApart_33 dX1_takeApart_34 ?_
        refine lv_iconst (v := nI 5) X.1 X.2.1 dX1_takeApart_37 (by decide) ?_
        refine lv_iconst (v := nI 0) X.1 X.2.1 dX1_takeApart_38 (by decide) ?_
        refine zw_st X O 3 rfl (by decide) (by decide) dX1_takeApart_39 (fun H locs O => ?_)
        have O : zw_O D dA A s H locs 1 h0 (fM a kn) (sM a g g rw (va_up (va_up nu 4 0) 5 0) le cn fi) := O
        refine lv_iconst (v := nI 0) X.1 X.2.1 dX1_takeApart_40 (by decide) ?_
        refine lv_istore_n (lv' := [(1, .int (nI 0)), (0, .ref h0)]) X.1 X.2.1 dX1_takeApart_41 rfl hl (by decide) rfl (fun ls hl => ?_)
        have O : zw_O D dA A s H locs 1 h0 (fM a kn) (sM a g (zp_lf g rw 0) rw (va_up (va_up nu 4 0) 5 0) le cn fi) := O
        have L42 : ∀ (n : Nat) (i : Nat) (y : Nat → Nat), (i + n = 6) → (y 4 = zp_mx (fun i => zp_pop (zp_lf g rw i (rw i))) i) → (y 5 = zp_sm (fun i => zp_put (zp_lf g rw i) (zp_lf g rw i (rw i))) i) → (∀ q, q < 4 → y q = nu q) → ∀ (H : Heap) (locs : List Loc), zw_O D dA A s H locs 1 h0 (fM a kn) (sM a g (zp_lf g rw i) rw y le cn fi) → ∀ (ls : Array Slot), lv_has ls 5 [(0, .ref h0), (1, .int (nI i))] → W p l e rX1_takeApart s m args below meth c H locs 0 0 Q (F0 m 42 ls []) := by
          intro n
          induction n with
          | zero =>
            intro i y hi y4 y5 y0 H locs O ls hl
            refine lv_iload_n X.1 X.2.1 dX1_takeApart_42 rfl (lv_at hl 1 rfl) ?_
            refine lv_bipush (v := nI 6) X.1 X.2.1 dX1_takeApart_43 (by decide) ?_
            refine zw_icmp_ge (tgt := 157) X (by omega) (by decide) dX1_takeApart_45 (by decide) (fun cb => ?_) (fun cb => ?_)
            · have e6 : i = 6 := by omega
              subst e6
              have O := zw_O_ext O 3 rfl (zp_ta g rw nu) (fun q hq => by
                unfold zp_ta zp_nm
                rcases (show q = 4 ∨ q = 5 ∨ q < 4 by omega) with e | e | e
                · subst e; exact y4
                · subst e; exact y5
                · rw [if_neg (by omega)]; exact y0 q e)
              exact RET _ _ _ _ _ _ O ⟨rfl, rfl⟩ dX1_takeApart_157
            · exact absurd cb (by omega)
          | succ n ih =>
            intro i y hi y4 y5 y0 H locs O ls hl
            refine lv_iload_n X.1 X.2.1 dX1_takeApart_42 rfl (lv_at hl 1 rfl) ?_
            refine lv_bipush (v := nI 6) X.1 X.2.1 dX1_takeApart_43 (by decide) ?_
            refine zw_icmp_ge (tgt := 157) X (by omega) (by decide) dX1_takeApart_45 (by decide) (fun cb => ?_) (fun cb => ?_)
            · exact absurd cb (by omega)
            · have hLF : ∀ p, p < 6 → zp_lf g rw i p < 64 := zp_lf_lt hg hr i (by omega)
              have hSE : zp_lf g rw i (rw i) < 64 := hLF _ (hr i cb)
              refine zm_f X O hl 0 rfl 1 (by decide) q201 rfl dX1_takeApart_48 dX1_takeApart_49 ?_
              refine zm_f X O hl 0 rfl 2 (by decide) q202 rfl dX1_takeApart_52 dX1_takeApart_53 ?_
              refine lv_iload_n X.1 X.2.1 dX1_takeApart_56 rfl (lv_at hl 1 rfl) ?_
              refine zw_ld X O 2 rfl cb (by decide) dX1_takeApart_57 ?_
              refine zw_ld X O 1 rfl (hr i cb) (by decide) dX1_takeApart_58 ?_
              refine lv_istore_n (lv' := [(2, .int (nI ((zp_lf g rw i) (rw i)))), (0, .ref h0), (1, .int (nI i))]) X.1 X.2.1 dX1_takeApart_59 rfl hl (by decide) rfl (fun ls hl => ?_)
              refine lv_aload_n X.1 X.2.1 dX1_takeApart_60 rfl (lv_at hl 1 rfl) ?_
              refine lv_iload_n X.1 X.2.1 dX1_takeApart_61 rfl (lv_at hl 0 rfl) ?_
              refine zw_calli X O (zM_bits l D dA h0 a g (zp_lf g rw i) rw y le cn fi kn ((zp_lf g rw i) (rw i)) hSE) rfl 1 (lw_V q245 q247 qs18 q32 q248) rfl rfl (by decide +kernel) ⟨Nat.le_of_ble_eq_true rfl, Nat.le_of_ble_eq_true rfl⟩ rfl hl.1 rfl (Nat.le_of_ble_eq_true rfl) dX1_takeApart_62 ⟨Nat.zero_le _, Nat.zero_le _⟩ (fun r fs' as' H locs hp O => ?_)
              obtain ⟨rfl, rfl, rfl⟩ := hp
              have b4 : zp_mx (fun i => zp_pop (zp_lf g rw i (rw i))) i ≤ 6 := zp_mx_le i (fun q _ => zp_pop_le _)
              have b5 := zp_pop_le ((zp_lf g rw i) (rw i))
              refine lv_istore_n (lv' := [(3, .int (nI (zp_pop ((zp_lf g rw i) (rw i))))), (2, .int (nI ((zp_lf g rw i) (rw i)))), (0, .ref h0), (1, .int (nI i))]) X.1 X.2.1 dX1_takeApart_65 rfl hl (by decide) rfl (fun ls hl => ?_)
              refine zm_f X O hl 2 rfl 3 (by decide) q203 rfl dX1_takeApart_66 dX1_takeApart_67 ?_
              refine lv_iconst (v := nI 4) X.1 X.2.1 dX1_takeApart_70 (by decide) ?_
              refine lv_iload_n X.1 X.2.1 dX1_takeApart_71 rfl (lv_at hl 0 rfl) ?_
              refine zm_f X O hl 2 rfl 3 (by decide) q203 rfl dX1_takeApart_72 dX1_takeApart_73 ?_
              refine lv_iconst (v := nI 4) X.1 X.2.1 dX1_takeApart_76 (by decide) ?_
              refine zw_ld X O 3 rfl (by decide) (by decide) dX1_takeApart_77 ?_
              refine zw_icmp_le (tgt := 85) X (by omega) (by rw [y4]; omega) dX1_takeApart_78 (by decide) (fun c2 => ?_) (fun c2 => ?_)
              · refine zm_f X O hl 2 rfl 3 (by decide) q203 rfl dX1_takeApart_85 dX1_takeApart_86 ?_
                refine lv_iconst (v := nI 4) X.1 X.2.1 dX1_takeApart_89 (by decide) ?_
                refine zw_ld X O 3 rfl (by decide) (by decide) dX1_takeApart_90 ?_
                refine zw_st X O 3 rfl (by decide) (by decide) dX1_takeApart_91 (fun H locs O => ?_)
                have O : zw_O D dA A s H locs 1 h0 (fM a kn) (sM a g (zp_lf g rw i) rw (va_up y 4 (y 4)) le cn fi) := O
                refine zm_f X O hl 2 rfl 3 (by decide) q203 rfl dX1_takeApart_92 dX1_takeApart_93 ?_
                refine lv_iconst (v := nI 5) X.1 X.2.1 dX1_takeApart_96 (by decide) ?_
                refine zm_f X O hl 2 rfl 3 (by decide) q203 rfl dX1_takeApart_97 dX1_takeApart_98 ?_
                refine lv_iconst (v := nI 5) X.1 X.2.1 dX1_takeApart_101 (by decide) ?_
                refine zw_ld X O 3 rfl (by decide) (by decide) dX1_takeApart_102 ?_
                refine lv_aload_n X.1 X.2.1 dX1_takeApart_103 rfl (lv_at hl 2 rfl) ?_
                refine lv_iload_n X.1 X.2.1 dX1_takeApart_104 rfl (lv_at hl 1 rfl) ?_
                refine zw_calli X O (zM_joinN l D dA h0 a g (zp_lf g rw i) rw (va_up y 4 (y 4)) le cn fi kn hLF ((zp_lf g rw i) (rw i)) hSE) rfl 1 (lw_V q278 q280 qs25 q32 q281) rfl rfl (by decide +kernel) ⟨Nat.le_of_ble_eq_true rfl, Nat.le_of_ble_eq_true rfl⟩ rfl hl.1 rfl (Nat.le_of_ble_eq_true rfl) dX1_takeApart_105 ⟨Nat.zero_le _, Nat.zero_le _⟩ (fun r fs' as' H locs hp O => ?_)
                obtain ⟨rfl, rfl, rfl⟩ := hp
                refine zw_add X dX1_takeApart_108 ?_
                refine zw_st X O 3 rfl (by decide) (by decide) dX1_takeApart_109 (fun H locs O => ?_)
                have O : zw_O D dA A s H locs 1 h0 (fM a kn) (sM a g (zp_join (zp_lf g rw i) ((zp_lf g rw i) (rw i))) rw (va_up (va_up y 4 (y 4)) 5 (((va_up y 4 (y 4)) 5) + (zp_put (zp_lf g rw i) ((zp_lf g rw i) (rw i))))) le cn fi) := O
                refine lv_iconst (v := nI 0) X.1 X.2.1 dX1_takeApart_110 (by decide) ?_
                refine lv_istore (lv' := [(4, .int (nI 0)), (3, .int (nI (zp_pop ((zp_lf g rw i) (rw i))))), (2, .int (nI ((zp_lf g rw i) (rw i)))), (0, .ref h0), (1, .int (nI i))]) X.1 X.2.1 dX1_takeApart_111 hl (by decide) rfl (fun ls hl => ?_)
                have hJ := zp_join_lt hLF hSE
                have L113 : ∀ (n : Nat) (j : Nat) (z : Nat → Nat), (j + n = 6) → (∀ q, q < j → z q = zp_lf g rw (i + 1) q) → (∀ q, j ≤ q → q < 6 → z q = zp_join (zp_lf g rw i) ((zp_lf g rw i) (rw i)) q) → ∀ (H : Heap) (locs : List Loc), zw_O D dA A s H locs 1 h0 (fM a kn) (sM a g z rw (va_up (va_up y 4 (y 4)) 5 (((va_up y 4 (y 4)) 5) + (zp_put (zp_lf g rw i) ((zp_lf g rw i) (rw i))))) le cn fi) → ∀ (ls : Array Slot), lv_has ls 5 [(0, .ref h0), (1, .int (nI i)), (2, .int (nI ((zp_lf g rw i) (rw i)))), (4, .int (nI j))] → W p l e rX1_takeApart s m args below meth c H locs 0 0 Q (F0 m 113 ls []) := by
                  intro n
                  induction n with
                  | zero =>
                    intro j z hj h1 h2 H locs O ls hl
                    refine lv_iload X.1 X.2.1 dX1_takeApart_113 (lv_at hl 3 rfl) ?_
                    refine lv_bipush (v := nI 6) X.1 X.2.1 dX1_takeApart_115 (by decide) ?_
                    refine zw_icmp_ge (tgt := 151) X (by omega) (by decide) dX1_takeApart_117 (by decide) (fun d => ?_) (fun d => ?_)
                    · have O := zw_O_ext O 1 rfl (zp_lf g rw (i + 1)) (fun q hq => h1 q (by omega))
                      refine lv_iinc (v := nI (i + 1)) (lv' := [(1, .int (nI (i + 1))), (0, .ref h0), (2, .int (nI ((zp_lf g rw i) (rw i)))), (4, .int (nI j))]) X.1 X.2.1 dX1_takeApart_151 hl (k := 1) rfl (zi_inc _) (by decide) rfl (fun ls hl => ?_)
                      refine lv_goto (tgt := 42) X.1 X.2.1 dX1_takeApart_154 (by decide) ?_
                      exact ih (i + 1) (va_up (va_up y 4 (y 4)) 5 (((va_up y 4 (y 4)) 5) + (zp_put (zp_lf g rw i) ((zp_lf g rw i) (rw i))))) (by omega) (by rw [zp_up_n (by decide), zp_up_s]; show _ = max (zp_mx (fun i => zp_pop (zp_lf g rw i (rw i))) i) (zp_pop ((zp_lf g rw i) (rw i))); rw [y4] at c2 ⊢; omega) (by rw [zp_up_s, zp_up_n (by decide), y5]; rfl) (fun q hq => by rw [zp_up_n (by omega), zp_up_n (by omega)]; exact y0 q hq) _ _ O ls (lv_sub hl [1, 0] rfl)
                    · exact absurd d (by omega)
                  | succ n ih =>
                    intro j z hj h1 h2 H locs O ls hl
                    have ih2 := ih
                    refine lv_iload X.1 X.2.1 dX1_takeApart_113 (lv_at hl 3 rfl) ?_
                    refine lv_bipush (v := nI 6) X.1 X.2.1 dX1_takeApart_115 (by decide) ?_
                    refine zw_icmp_ge (tgt := 151) X (by omega) (by decide) dX1_takeApart_117 (by decide) (fun d => ?_) (fun d => ?_)
                    · exact absurd d (by omega)
                    · have h3 := h2 j (Nat.le_refl _) d
                      refine zm_f X O hl 0 rfl 1 (by decide) q201 rfl dX1_takeApart_120 dX1_takeApart_121 ?_
                      refine lv_iload X.1 X.2.1 dX1_takeApart_124 (lv_at hl 3 rfl) ?_
                      refine zm_f X O hl 0 rfl 1 (by decide) q201 rfl dX1_takeApart_126 dX1_takeApart_127 ?_
                      refine lv_iload X.1 X.2.1 dX1_takeApart_130 (lv_at hl 3 rfl) ?_
                      refine zw_ld X O 1 rfl d (by decide) dX1_takeApart_132 ?_
                      refine zw_topn ((zp_join (zp_lf g rw i) ((zp_lf g rw i) (rw i))) j) h3 ?_
                      refine lv_iconst (v := nI 1) X.1 X.2.1 dX1_takeApart_133 (by decide) ?_
                      refine zm_f X O hl 0 rfl 2 (by decide) q202 rfl dX1_takeApart_134 dX1_takeApart_135 ?_
                      refine lv_iload_n X.1 X.2.1 dX1_takeApart_138 rfl (lv_at hl 1 rfl) ?_
                      refine zw_ld X O 2 rfl cb (by decide) dX1_takeApart_139 ?_
                      refine zw_shl X (hr i cb) dX1_takeApart_140 ?_
                      refine zw_sdn X (hJ j d) (zp_pw_lt _ (hr i cb)) dX1_takeApart_141 dX1_takeApart_142 dX1_takeApart_143 ?_
                      refine zw_st X O 1 rfl d (by decide) dX1_takeApart_144 (fun H locs O => ?_)
                      have O : zw_O D dA A s H locs 1 h0 (fM a kn) (sM a g (va_up z j (zp_sd ((zp_join (zp_lf g rw i) ((zp_lf g rw i) (rw i))) j) (2 ^ (rw i)))) rw (va_up (va_up y 4 (y 4)) 5 (((va_up y 4 (y 4)) 5) + (zp_put (zp_lf g rw i) ((zp_lf g rw i) (rw i))))) le cn fi) := O
                      refine lv_iinc (v := nI (j + 1)) (lv' := [(4, .int (nI (j + 1))), (0, .ref h0), (1, .int (nI i)), (2, .int (nI ((zp_lf g rw i) (rw i))))]) X.1 X.2.1 dX1_takeApart_145 hl (k := 3) rfl (zi_inc _) (by decide) rfl (fun ls hl => ?_)
                      refine lv_goto (tgt := 113) X.1 X.2.1 dX1_takeApart_148 (by decide) ?_
                      exact ih2 (j + 1) (va_up z j (zp_sd ((zp_join (zp_lf g rw i) ((zp_lf g rw i) (rw i))) j) (2 ^ (rw i)))) (by omega) (fun q hq => by
                        by_cases e : q = j
                        · rw [e, zp_up_s]; rfl
                        · rw [zp_up_n e]; exact h1 q (by omega)) (fun q hq hq6 => by rw [zp_up_n (by omega)]; exact h2 q (by omega) hq6) _ _ O ls (lv_sub hl [1, 2, 3, 0] rfl)
                exact L113 6 0 (zp_join (zp_lf g rw i) ((zp_lf g rw i) (rw i))) (by omega) (fun q hq => absurd hq (by omega)) (fun q _ _ => rfl) _ _ O ls (lv_sub hl [3, 4, 2, 0] rfl)
              · refine lv_iload_n X.1 X.2.1 dX1_takeApart_81 rfl (lv_at hl 0 rfl) ?_
                refine lv_goto (tgt := 91) X.1 X.2.1 dX1_takeApart_82 (by decide) ?_
                refine zw_st X O 3 rfl (by decide) (by decide) dX1_takeApart_91 (fun H locs O => ?_)
                have O : zw_O D dA A s H locs 1 h0 (fM a kn) (sM a g (zp_lf g rw i) rw (va_up y 4 (zp_pop ((zp_lf g rw i) (rw i)))) le cn fi) := O
                refine zm_f X O hl 2 rfl 3 (by decide) q203 rfl dX1_takeApart_92 dX1_takeApart_93 ?_
                refine lv_iconst (v := nI 5) X.1 X.2.1 dX1_takeApart_96 (by decide) ?_
                refine zm_f X O hl 2 rfl 3 (by decide) q203 rfl dX1_takeApart_97 dX1_takeApart_98 ?_
                refine lv_iconst (v := nI 5) X.1 X.2.1 dX1_takeApart_101 (by decide) ?_
                refine zw_ld X O 3 rfl (by decide) (by decide) dX1_takeApart_102 ?_
                refine lv_aload_n X.1 X.2.1 dX1_takeApart_103 rfl (lv_at hl 2 rfl) ?_
                refine lv_iload_n X.1 X.2.1 dX1_takeApart_104 rfl (lv_at hl 1 rfl) ?_
                refine zw_calli X O (zM_joinN l D dA h0 a g (zp_lf g rw i) rw (va_up y 4 (zp_pop ((zp_lf g rw i) (rw i)))) le cn fi kn hLF ((zp_lf g rw i) (rw i)) hSE) rfl 1 (lw_V q278 q280 qs25 q32 q281) rfl rfl (by decide +kernel) ⟨Nat.le_of_ble_eq_true rfl, Nat.le_of_ble_eq_true rfl⟩ rfl hl.1 rfl (Nat.le_of_ble_eq_true rfl) dX1_takeApart_105 ⟨Nat.zero_le _, Nat.zero_le _⟩ (fun r fs' as' H locs hp O => ?_)
                obtain ⟨rfl, rfl, rfl⟩ := hp
                refine zw_add X dX1_takeApart_108 ?_
                refine zw_st X O 3 rfl (by decide) (by decide) dX1_takeApart_109 (fun H locs O => ?_)
                have O : zw_O D dA A s H locs 1 h0 (fM a kn) (sM a g (zp_join (zp_lf g rw i) ((zp_lf g rw i) (rw i))) rw (va_up (va_up y 4 (zp_pop ((zp_lf g rw i) (rw i)))) 5 (((va_up y 4 (zp_pop ((zp_lf g rw i) (rw i)))) 5) + (zp_put (zp_lf g rw i) ((zp_lf g rw i) (rw i))))) le cn fi) := O
                refine lv_iconst (v := nI 0) X.1 X.2.1 dX1_takeApart_110 (by decide) ?_
                refine lv_istore (lv' := [(4, .int (nI 0)), (3, .int (nI (zp_pop ((zp_lf g rw i) (rw i))))), (2, .int (nI ((zp_lf g rw i) (rw i)))), (0, .ref h0), (1, .int (nI i))]) X.1 X.2.1 dX1_takeApart_111 hl (by decide) rfl (fun ls hl => ?_)
                have hJ := zp_join_lt hLF hSE
                have L113 : ∀ (n : Nat) (j : Nat) (z : Nat → Nat), (j + n = 6) → (∀ q, q < j → z q = zp_lf g rw (i + 1) q) → (∀ q, j ≤ q → q < 6 → z q = zp_join (zp_lf g rw i) ((zp_lf g rw i) (rw i)) q) → ∀ (H : Heap) (locs : List Loc), zw_O D dA A s H locs 1 h0 (fM a kn) (sM a g z rw (va_up (va_up y 4 (zp_pop ((zp_lf g rw i) (rw i)))) 5 (((va_up y 4 (zp_pop ((zp_lf g rw i) (rw i)))) 5) + (zp_put (zp_lf g rw i) ((zp_lf g rw i) (rw i))))) le cn fi) → ∀ (ls : Array Slot), lv_has ls 5 [(0, .ref h0), (1, .int (nI i)), (2, .int (nI ((zp_lf g rw i) (rw i)))), (4, .int (nI j))] → W p l e rX1_takeApart s m args below meth c H locs 0 0 Q (F0 m 113 ls []) := by
                  intro n
                  induction n with
                  | zero =>
                    intro j z hj h1 h2 H locs O ls hl
                    refine lv_iload X.1 X.2.1 dX1_takeApart_113 (lv_at hl 3 rfl) ?_
                    refine lv_bipush (v := nI 6) X.1 X.2.1 dX1_takeApart_115 (by decide) ?_
                    refine zw_icmp_ge (tgt := 151) X (by omega) (by decide) dX1_takeApart_117 (by decide) (fun d => ?_) (fun d => ?_)
                    · have O := zw_O_ext O 1 rfl (zp_lf g rw (i + 1)) (fun q hq => h1 q (by omega))
                      refine lv_iinc (v := nI (i + 1)) (lv' := [(1, .int (nI (i + 1))), (0, .ref h0), (2, .int (nI ((zp_lf g rw i) (rw i)))), (4, .int (nI j))]) X.1 X.2.1 dX1_takeApart_151 hl (k := 1) rfl (zi_inc _) (by decide) rfl (fun ls hl => ?_)
                      refine lv_goto (tgt := 42) X.1 X.2.1 dX1_takeApart_154 (by decide) ?_
                      exact ih (i + 1) (va_up (va_up y 4 (zp_pop ((zp_lf g rw i) (rw i)))) 5 (((va_up y 4 (zp_pop ((zp_lf g rw i) (rw i)))) 5) + (zp_put (zp_lf g rw i) ((zp_lf g rw i) (rw i))))) (by omega) (by rw [zp_up_n (by decide), zp_up_s]; show _ = max (zp_mx (fun i => zp_pop (zp_lf g rw i (rw i))) i) (zp_pop ((zp_lf g rw i) (rw i))); rw [y4] at c2; omega) (by rw [zp_up_s, zp_up_n (by decide), y5]; rfl) (fun q hq => by rw [zp_up_n (by omega), zp_up_n (by omega)]; exact y0 q hq) _ _ O ls (lv_sub hl [1, 0] rfl)
                    · exact absurd d (by omega)
                  | succ n ih =>
                    intro j z hj h1 h2 H locs O ls hl
                    have ih2 := ih
                    refine lv_iload X.1 X.2.1 dX1_takeApart_113 (lv_at hl 3 rfl) ?_
                    refine lv_bipush (v := nI 6) X.1 X.2.1 dX1_takeApart_115 (by decide) ?_
                    refine zw_icmp_ge (tgt := 151) X (by omega) (by decide) dX1_takeApart_117 (by decide) (fun d => ?_) (fun d => ?_)
                    · exact absurd d (by omega)
                    · have h3 := h2 j (Nat.le_refl _) d
                      refine zm_f X O hl 0 rfl 1 (by decide) q201 rfl dX1_takeApart_120 dX1_takeApart_121 ?_
                      refine lv_iload X.1 X.2.1 dX1_takeApart_124 (lv_at hl 3 rfl) ?_
                      refine zm_f X O hl 0 rfl 1 (by decide) q201 rfl dX1_takeApart_126 dX1_takeApart_127 ?_
                      refine lv_iload X.1 X.2.1 dX1_takeApart_130 (lv_at hl 3 rfl) ?_
                      refine zw_ld X O 1 rfl d (by decide) dX1_takeApart_132 ?_
                      refine zw_topn ((zp_join (zp_lf g rw i) ((zp_lf g rw i) (rw i))) j) h3 ?_
                      refine lv_iconst (v := nI 1) X.1 X.2.1 dX1_takeApart_133 (by decide) ?_
                      refine zm_f X O hl 0 rfl 2 (by decide) q202 rfl dX1_takeApart_134 dX1_takeApart_135 ?_
                      refine lv_iload_n X.1 X.2.1 dX1_takeApart_138 rfl (lv_at hl 1 rfl) ?_
                      refine zw_ld X O 2 rfl cb (by decide) dX1_takeApart_139 ?_
                      refine zw_shl X (hr i cb) dX1_takeApart_140 ?_
                      refine zw_sdn X (hJ j d) (zp_pw_lt _ (hr i cb)) dX1_takeApart_141 dX1_takeApart_142 dX1_takeApart_143 ?_
                      refine zw_st X O 1 rfl d (by decide) dX1_takeApart_144 (fun H locs O => ?_)
                      have O : zw_O D dA A s H locs 1 h0 (fM a kn) (sM a g (va_up z j (zp_sd ((zp_join (zp_lf g rw i) ((zp_lf g rw i) (rw i))) j) (2 ^ (rw i)))) rw (va_up (va_up y 4 (zp_pop ((zp_lf g rw i) (rw i)))) 5 (((va_up y 4 (zp_pop ((zp_lf g rw i) (rw i)))) 5) + (zp_put (zp_lf g rw i) ((zp_lf g rw i) (rw i))))) le cn fi) := O
                      refine lv_iinc (v := nI (j + 1)) (lv' := [(4, .int (nI (j + 1))), (0, .ref h0), (1, .int (nI i)), (2, .int (nI ((zp_lf g rw i) (rw i))))]) X.1 X.2.1 dX1_takeApart_145 hl (k := 3) rfl (zi_inc _) (by decide) rfl (fun ls hl => ?_)
                      refine lv_goto (tgt := 113) X.1 X.2.1 dX1_takeApart_148 (by decide) ?_
                      exact ih2 (j + 1) (va_up z j (zp_sd ((zp_join (zp_lf g rw i) ((zp_lf g rw i) (rw i))) j) (2 ^ (rw i)))) (by omega) (fun q hq => by
                        by_cases e : q = j
                        · rw [e, zp_up_s]; rfl
                        · rw [zp_up_n e]; exact h1 q (by omega)) (fun q hq hq6 => by rw [zp_up_n (by omega)]; exact h2 q (by omega) hq6) _ _ O ls (lv_sub hl [1, 2, 3, 0] rfl)
                exact L113 6 0 (zp_join (zp_lf g rw i) ((zp_lf g rw i) (rw i))) (by omega) (fun q hq => absurd hq (by omega)) (fun q _ _ => rfl) _ _ O ls (lv_sub hl [3, 4, 2, 0] rfl)
        exact L42 6 0 (va_up (va_up nu 4 0) 5 0) (by omega) (by rw [zp_up_n (by decide), zp_up_s]; rfl) (by rw [zp_up_s]; rfl) (fun q hq => by rw [zp_up_n (by omega), zp_up_n (by omega)]) _ _ O ls (lv_sub hl [1, 0] rfl)
      · exact absurd cb (by omega)
    | succ n ih =>
      intro i y hi hy H locs O ls hl
      refine lv_iload_n X.1 X.2.1 dX1_takeApart_2 rfl (lv_at hl 1 rfl) ?_
      refine lv_bipush (v := nI 6) X.1 X.2.1 dX1_takeApart_3 (by decide) ?_
      refine zw_icmp_ge (tgt := 26) X (by omega) (by decide) dX1_takeApart_5 (by decide) (fun cb => ?_) (fun cb => ?_)
      · exact absurd cb (by omega)
      · refine zm_f X O hl 0 rfl 1 (by decide) q201 rfl dX1_takeApart_8 dX1_takeApart_9 ?_
        refine lv_iload_n X.1 X.2.1 dX1_takeApart_12 rfl (lv_at hl 1 rfl) ?_
        refine zm_f X O hl 0 rfl 0 (by decide) q200 rfl dX1_takeApart_13 dX1_takeApart_14 ?_
        refine lv_iload_n X.1 X.2.1 dX1_takeApart_17 rfl (lv_at hl 1 rfl) ?_
        refine zw_ld X O 0 rfl (by omega) (by decide) dX1_takeApart_18 ?_
        refine zw_st X O 1 rfl (by omega) (by decide) dX1_takeApart_19 (fun H locs O => ?_)
        have O : zw_O D dA A s H locs 1 h0 (fM a kn) (sM a g (va_up y i (g i)) rw nu le cn fi) := O
        refine lv_iinc (v := nI (i + 1)) (lv' := [(1, .int (nI (i + 1))), (0, .ref h0)]) X.1 X.2.1 dX1_takeApart_20 hl (k := 1) rfl (zi_inc _) (by decide) rfl (fun ls hl => ?_)
        refine lv_goto (tgt := 2) X.1 X.2.1 dX1_takeApart_23 (by decide) ?_
        exact ih (i + 1) (va_up y i (g i)) (by omega) (fun q hq => by
          by_cases e : q = i
          · rw [e, zp_up_s]
          · rw [zp_up_n e]; exact hy q (by omega)) _ _ O ls (lv_sub hl [1, 0] rfl)
  exact L2 6 0 lf (by omega) (fun q hq => absurd hq (by omega)) _ _ O ls (lv_sub hl [1, 0] rfl)
end
section
/-! LayoutWidthsModel: contracts, the rest (written by gen/m3.py) -/
abbrev rX1_goOver : Room := { frames := 3, cells := 0, slots := 0, locals := 71 }
set_option maxHeartbeats 4000000 in
set_option maxRecDepth 100000 in
/-- over all orders, if lines changed -/
theorem zM_goOver (l : Launch) (D : va_G) (dA : ClassId) (h0 : Nat) (a : Nat → Nat) (g lf rw nu le cn fi : Nat → Nat) (kn : Nat) (hg : ∀ p, p < 6 → g p < 64) (hkn : kn = 0 ∨ (kn = 1 ∧ zp_KN g le cn fi))  : zw_Cv l D dA yX1_goOver cX1_goOver 3 rX1_goOver 1 h0 [] (fM a kn) (sM a g lf rw nu le cn fi) (fun fs as => ∃ lf' rw' nu' le' cn' fi', zp_KN g le' cn' fi' ∧ fs = fM a 1 ∧ as = sM a g lf' rw' nu' le' cn' fi') := by
  refine zw_Cv.mk (own := RX1) (lv0 := [(0, .ref h0)]) rfl (by decide +kernel) (Nat.le_of_ble_eq_true rfl) rfl ?_
  intro p e s m args below meth c A Q X RET ls hl O
  refine zm_f X O hl 0 rfl 7 (by decide) q207 rfl dX1_goOver_0 dX1_goOver_1 ?_
  refine zw_if_eq (tgt := 8) X (by rcases hkn with q | q; omega; omega) dX1_goOver_4 (by decide) (fun c1 => ?_) (fun c1 => ?_)
  · refine lv_aload_n X.1 X.2.1 dX1_goOver_8 rfl (lv_at hl 0 rfl) ?_
    refine lv_iconst (v := nI 1) X.1 X.2.1 dX1_goOver_9 (by decide) ?_
    refine zm_put X O q207 rfl rfl (Nat.le_of_ble_eq_true rfl) dX1_goOver_10 (fun H locs O => ?_)
    have O : zw_O D dA A s H locs 1 h0 (fM a 1) (sM a g lf rw nu le cn fi) := O
    refine lv_iconst (v := nI 0) X.1 X.2.1 dX1_goOver_13 (by decide) ?_
    refine lv_istore_n (lv' := [(1, .int (nI 0)), (0, .ref h0)]) X.1 X.2.1 dX1_goOver_14 rfl hl (by decide) rfl (fun ls hl => ?_)
    have L15 : ∀ (n : Nat) (i : Nat) (y : Nat → Nat), (i + n = 6) → (∀ q, q < i → y q = 1000) → ∀ (H : Heap) (locs : List Loc), zw_O D dA A s H locs 1 h0 (fM a 1) (sM a g lf rw nu y cn fi) → ∀ (ls : Array Slot), lv_has ls 3 [(0, .ref h0), (1, .int (nI i))] → W p l e rX1_goOver s m args below meth c H locs 0 0 Q (F0 m 15 ls []) := by
      intro n
      induction n with
      | zero =>
        intro i y hi hy H locs O ls hl
        refine lv_iload_n X.1 X.2.1 dX1_goOver_15 rfl (lv_at hl 1 rfl) ?_
        refine lv_bipush (v := nI 6) X.1 X.2.1 dX1_goOver_16 (by decide) ?_
        refine zw_icmp_ge (tgt := 36) X (by omega) (by decide) dX1_goOver_18 (by decide) (fun cb => ?_) (fun cb => ?_)
        · refine lv_iconst (v := nI 0) X.1 X.2.1 dX1_goOver_36 (by decide) ?_
          refine lv_istore_n (lv' := [(1, .int (nI 0)), (0, .ref h0)]) X.1 X.2.1 dX1_goOver_37 rfl hl (by decide) rfl (fun ls hl => ?_)
          have L38 : ∀ (n : Nat) (t : Nat) (lf : Nat → Nat) (rw : Nat → Nat) (nu : Nat → Nat) (L : Nat → Nat) (C : Nat → Nat) (F : Nat → Nat), (t + n = 720) → (∀ k, k < 6 → L k = zp_le (zp_v g k) t ∧ C k = zp_cn (zp_v g k) (cn k) t ∧ F k = zp_fi (zp_v g k) (fi k) t) → ∀ (H : Heap) (locs : List Loc), zw_O D dA A s H locs 1 h0 (fM a 1) (sM a g lf rw nu L C F) → ∀ (ls : Array Slot), lv_has ls 3 [(0, .ref h0), (1, .int (nI t))] → W p l e rX1_goOver s m args below meth c H locs 0 0 Q (F0 m 38 ls []) := by
            intro n
            induction n with
            | zero =>
              intro t lf rw nu L C F ht hA H locs O ls hl
              refine lv_iload_n X.1 X.2.1 dX1_goOver_38 rfl (lv_at hl 1 rfl) ?_
              refine lv_sipush (v := nI 720) X.1 X.2.1 dX1_goOver_39 (by decide) ?_
              refine zw_icmp_ge (tgt := 202) X (by omega) (by decide) dX1_goOver_42 (by decide) (fun cb => ?_) (fun cb => ?_)
              · have e7 : t = 720 := by omega
                subst e7
                exact RET _ _ _ _ _ _ O ⟨_, _, _, _, _, _, fun k hk => ⟨(hA k hk).1, ⟨_, (hA k hk).2.1⟩, ⟨_, (hA k hk).2.2⟩⟩, rfl, rfl⟩ dX1_goOver_202
              · exact absurd cb (by omega)
            | succ n ih =>
              intro t lf rw nu L C F ht hA H locs O ls hl
              refine lv_iload_n X.1 X.2.1 dX1_goOver_38 rfl (lv_at hl 1 rfl) ?_
              refine lv_sipush (v := nI 720) X.1 X.2.1 dX1_goOver_39 (by decide) ?_
              refine zw_icmp_ge (tgt := 202) X (by omega) (by decide) dX1_goOver_42 (by decide) (fun cb => ?_) (fun cb => ?_)
              · exact absurd cb (by omega)
              · refine lv_aload_n X.1 X.2.1 dX1_goOver_45 rfl (lv_at hl 0 rfl) ?_
                refine lv_iload_n X.1 X.2.1 dX1_goOver_46 rfl (lv_at hl 1 rfl) ?_
                refine zw_callv X O (zM_setOrder l D dA h0 a g lf rw nu L C F 1 t cb) rfl 1 (lw_V q262 q264 qs21 q32 q265) rfl rfl (by decide +kernel) ⟨Nat.le_of_ble_eq_true rfl, Nat.le_of_ble_eq_true rfl⟩ rfl hl.1 rfl (Nat.le_of_ble_eq_true rfl) dX1_goOver_47 ⟨Nat.zero_le _, Nat.zero_le _⟩ (fun fs' as' H locs hp O => ?_)
                obtain ⟨rfl, rfl⟩ := hp
                refine lv_aload_n X.1 X.2.1 dX1_goOver_50 rfl (lv_at hl 0 rfl) ?_
                refine zw_callv X O (zM_lay l D dA h0 a g lf (zp_row t) nu L C F 1 hg (fun p _ => zp_row_lt t p)) rfl 0 (lw_V q270 q272 qs23 q32 q273) rfl rfl (by decide +kernel) ⟨Nat.le_of_ble_eq_true rfl, Nat.le_of_ble_eq_true rfl⟩ rfl hl.1 rfl (Nat.le_of_ble_eq_true rfl) dX1_goOver_51 ⟨Nat.zero_le _, Nat.zero_le _⟩ (fun fs' as' H locs hp O => ?_)
                obtain ⟨rfl, rfl⟩ := hp
                refine lv_aload_n X.1 X.2.1 dX1_goOver_54 rfl (lv_at hl 0 rfl) ?_
                refine zw_callv X O (zM_takeApart l D dA h0 a g lf (zp_row t) (zp_ly g (zp_row t) nu) L C F 1 hg (fun p _ => zp_row_lt t p)) rfl 0 (lw_V q274 q276 qs24 q32 q277) rfl rfl (by decide +kernel) ⟨Nat.le_of_ble_eq_true rfl, Nat.le_of_ble_eq_true rfl⟩ rfl hl.1 rfl (Nat.le_of_ble_eq_true rfl) dX1_goOver_55 ⟨Nat.zero_le _, Nat.zero_le _⟩ (fun fs' as' H locs hp O => ?_)
                obtain ⟨rfl, rfl⟩ := hp
                have O := zw_O_ext O 3 rfl (fun k => zp_v g k t) (fun q hq => by
                  unfold zp_ta zp_ly zp_v
                  by_cases e : q = 4 ∨ q = 5
                  · rw [if_pos e]
                  · rw [if_neg e, if_pos (by omega)])
                refine lv_iconst (v := nI 0) X.1 X.2.1 dX1_goOver_58 (by decide) ?_
                refine lv_istore_n (lv' := [(2, .int (nI 0)), (0, .ref h0), (1, .int (nI t))]) X.1 X.2.1 dX1_goOver_59 rfl hl (by decide) rfl (fun ls hl => ?_)
                have L60 : ∀ (n : Nat) (j : Nat) (L' : Nat → Nat) (C' : Nat → Nat) (F' : Nat → Nat), (j + n = 6) → (∀ k, k < j → L' k = zp_le (zp_v g k) (t + 1) ∧ C' k = zp_cn (zp_v g k) (cn k) (t + 1) ∧ F' k = zp_fi (zp_v g k) (fi k) (t + 1)) → (∀ k, j ≤ k → k < 6 → L' k = zp_le (zp_v g k) (t) ∧ C' k = zp_cn (zp_v g k) (cn k) (t) ∧ F' k = zp_fi (zp_v g k) (fi k) (t)) → ∀ (H : Heap) (locs : List Loc), zw_O D dA A s H locs 1 h0 (fM a 1) (sM a g (zp_lf g (zp_row t) 6) (zp_row t) (fun k => zp_v g k t) L' C' F') → ∀ (ls : Array Slot), lv_has ls 3 [(0, .ref h0), (1, .int (nI t)), (2, .int (nI j))] → W p l e rX1_goOver s m args below meth c H locs 0 0 Q (F0 m 60 ls []) := by
                  intro n
                  induction n with
                  | zero =>
                    intro j L' C' F' hj h1 h2 H locs O ls hl
                    refine lv_iload_n X.1 X.2.1 dX1_goOver_60 rfl (lv_at hl 2 rfl) ?_
                    refine lv_bipush (v := nI 6) X.1 X.2.1 dX1_goOver_61 (by decide) ?_
                    refine zw_icmp_ge (tgt := 196) X (by omega) (by decide) dX1_goOver_63 (by decide) (fun d => ?_) (fun d => ?_)
                    · refine lv_iinc (v := nI (t + 1)) (lv' := [(1, .int (nI (t + 1))), (0, .ref h0), (2, .int (nI j))]) X.1 X.2.1 dX1_goOver_196 hl (k := 1) rfl (zi_inc _) (by decide) rfl (fun ls hl => ?_)
                      refine lv_goto (tgt := 38) X.1 X.2.1 dX1_goOver_199 (by decide) ?_
                      exact ih (t + 1) (zp_lf g (zp_row t) 6) (zp_row t) (fun k => zp_v g k t) L' C' F' (by omega) (fun k hk => h1 k (by omega)) _ _ O ls (lv_sub hl [1, 0] rfl)
                    · exact absurd d (by omega)
                  | succ n ih =>
                    intro j L' C' F' hj h1 h2 H locs O ls hl
                    have ih2 := ih
                    refine lv_iload_n X.1 X.2.1 dX1_goOver_60 rfl (lv_at hl 2 rfl) ?_
                    refine lv_bipush (v := nI 6) X.1 X.2.1 dX1_goOver_61 (by decide) ?_
                    refine zw_icmp_ge (tgt := 196) X (by omega) (by decide) dX1_goOver_63 (by decide) (fun d => ?_) (fun d => ?_)
                    · exact absurd d (by omega)
                    · obtain ⟨e1, e2, e3⟩ := h2 j (Nat.le_refl _) d
                      have bv : zp_v g j t ≤ 216 := zp_nm_le _ _ _
                      have bl := zp_le_le (zp_v g j) t
                      refine zm_f X O hl 0 rfl 5 (by decide) q205 rfl dX1_goOver_66 dX1_goOver_67 ?_
                      refine lv_iload_n X.1 X.2.1 dX1_goOver_70 rfl (lv_at hl 2 rfl) ?_
                      refine zm_f X O hl 0 rfl 3 (by decide) q203 rfl dX1_goOver_71 dX1_goOver_72 ?_
                      refine lv_iload_n X.1 X.2.1 dX1_goOver_75 rfl (lv_at hl 2 rfl) ?_
                      refine zw_ld X O 3 rfl d (by decide) dX1_goOver_76 ?_
                      refine zm_f X O hl 0 rfl 4 (by decide) q204 rfl dX1_goOver_77 dX1_goOver_78 ?_
                      refine lv_iload_n X.1 X.2.1 dX1_goOver_81 rfl (lv_at hl 2 rfl) ?_
                      refine zw_ld X O 4 rfl d (by decide) dX1_goOver_82 ?_
                      refine zw_icmp_ge (tgt := 90) X (Nat.lt_of_le_of_lt bv (by decide)) (by omega) dX1_goOver_83 (by decide) (fun c2 => ?_) (fun c2 => ?_)
                      · have c2 : L' j ≤ zp_v g j t := c2
                        refine zm_f X O hl 0 rfl 3 (by decide) q203 rfl dX1_goOver_90 dX1_goOver_91 ?_
                        refine lv_iload_n X.1 X.2.1 dX1_goOver_94 rfl (lv_at hl 2 rfl) ?_
                        refine zw_ld X O 3 rfl d (by decide) dX1_goOver_95 ?_
                        refine zm_f X O hl 0 rfl 4 (by decide) q204 rfl dX1_goOver_96 dX1_goOver_97 ?_
                        refine lv_iload_n X.1 X.2.1 dX1_goOver_100 rfl (lv_at hl 2 rfl) ?_
                        refine zw_ld X O 4 rfl d (by decide) dX1_goOver_101 ?_
                        refine zw_icmp_ne (tgt := 116) X (Nat.lt_of_le_of_lt bv (by decide)) (by omega) dX1_goOver_102 (by decide) (fun c3 => ?_) (fun c3 => ?_)
                        · have c3 : ¬ zp_v g j t = L' j := c3
                          refine zm_f X O hl 0 rfl 5 (by decide) q205 rfl dX1_goOver_116 dX1_goOver_117 ?_
                          refine lv_iload_n X.1 X.2.1 dX1_goOver_120 rfl (lv_at hl 2 rfl) ?_
                          refine zw_ld X O 5 rfl d (by decide) dX1_goOver_121 ?_
                          refine zw_st X O 5 rfl d (by decide) dX1_goOver_122 (fun H locs O => ?_)
                          have O : zw_O D dA A s H locs 1 h0 (fM a 1) (sM a g (zp_lf g (zp_row t) 6) (zp_row t) (fun k => zp_v g k t) L' (va_up C' j (C' j)) F') := O
                          refine zm_f X O hl 0 rfl 6 (by decide) q206 rfl dX1_goOver_123 dX1_goOver_124 ?_
                          refine lv_iload_n X.1 X.2.1 dX1_goOver_127 rfl (lv_at hl 2 rfl) ?_
                          refine zm_f X O hl 0 rfl 3 (by decide) q203 rfl dX1_goOver_128 dX1_goOver_129 ?_
                          refine lv_iload_n X.1 X.2.1 dX1_goOver_132 rfl (lv_at hl 2 rfl) ?_
                          refine zw_ld X O 3 rfl d (by decide) dX1_goOver_133 ?_
                          refine zm_f X O hl 0 rfl 4 (by decide) q204 rfl dX1_goOver_134 dX1_goOver_135 ?_
                          refine lv_iload_n X.1 X.2.1 dX1_goOver_138 rfl (lv_at hl 2 rfl) ?_
                          refine zw_ld X O 4 rfl d (by decide) dX1_goOver_139 ?_
                          refine zw_icmp_ge (tgt := 147) X (Nat.lt_of_le_of_lt bv (by decide)) (by omega) dX1_goOver_140 (by decide) (fun c4 => ?_) (fun c4 => ?_)
                          · refine zm_f X O hl 0 rfl 6 (by decide) q206 rfl dX1_goOver_147 dX1_goOver_148 ?_
                            refine lv_iload_n X.1 X.2.1 dX1_goOver_151 rfl (lv_at hl 2 rfl) ?_
                            refine zw_ld X O 6 rfl d (by decide) dX1_goOver_152 ?_
                            refine zw_st X O 6 rfl d (by decide) dX1_goOver_153 (fun H locs O => ?_)
                            have O : zw_O D dA A s H locs 1 h0 (fM a 1) (sM a g (zp_lf g (zp_row t) 6) (zp_row t) (fun k => zp_v g k t) L' (va_up C' j (C' j)) (va_up F' j (F' j))) := O
                            refine zm_f X O hl 0 rfl 4 (by decide) q204 rfl dX1_goOver_154 dX1_goOver_155 ?_
                            refine lv_iload_n X.1 X.2.1 dX1_goOver_158 rfl (lv_at hl 2 rfl) ?_
                            refine zm_f X O hl 0 rfl 3 (by decide) q203 rfl dX1_goOver_159 dX1_goOver_160 ?_
                            refine lv_iload_n X.1 X.2.1 dX1_goOver_163 rfl (lv_at hl 2 rfl) ?_
                            refine zw_ld X O 3 rfl d (by decide) dX1_goOver_164 ?_
                            refine zm_f X O hl 0 rfl 4 (by decide) q204 rfl dX1_goOver_165 dX1_goOver_166 ?_
                            refine lv_iload_n X.1 X.2.1 dX1_goOver_169 rfl (lv_at hl 2 rfl) ?_
                            refine zw_ld X O 4 rfl d (by decide) dX1_goOver_170 ?_
                            refine zw_icmp_ge (tgt := 183) X (Nat.lt_of_le_of_lt bv (by decide)) (by omega) dX1_goOver_171 (by decide) (fun c5 => ?_) (fun c5 => ?_)
                            · refine zm_f X O hl 0 rfl 4 (by decide) q204 rfl dX1_goOver_183 dX1_goOver_184 ?_
                              refine lv_iload_n X.1 X.2.1 dX1_goOver_187 rfl (lv_at hl 2 rfl) ?_
                              refine zw_ld X O 4 rfl d (by decide) dX1_goOver_188 ?_
                              refine zw_st X O 4 rfl d (by decide) dX1_goOver_189 (fun H locs O => ?_)
                              have O : zw_O D dA A s H locs 1 h0 (fM a 1) (sM a g (zp_lf g (zp_row t) 6) (zp_row t) (fun k => zp_v g k t) (va_up L' j (L' j)) (va_up C' j (C' j)) (va_up F' j (F' j))) := O
                              refine lv_iinc (v := nI (j + 1)) (lv' := [(2, .int (nI (j + 1))), (0, .ref h0), (1, .int (nI t))]) X.1 X.2.1 dX1_goOver_190 hl (k := 2) rfl (zi_inc _) (by decide) rfl (fun ls hl => ?_)
                              refine lv_goto (tgt := 60) X.1 X.2.1 dX1_goOver_193 (by decide) ?_
                              have cc : zp_v g j t > zp_le (zp_v g j) t := by rw [← e1]; exact Nat.lt_of_le_of_ne c2 (fun q => c3 q.symm)
                              exact ih2 (j + 1) (va_up L' j (L' j)) (va_up C' j (C' j)) (va_up F' j (F' j)) (by omega) (fun k hk => by
                                by_cases e : k = j
                                · subst e
                                  refine ⟨?_, ?_, ?_⟩
                                  · rw [zp_up_s, zp_le_s]; rw [if_neg (by omega)]; exact e1
                                  · rw [zp_up_s, zp_cn_s]; rw [if_neg (by omega), if_neg (by omega)]; exact e2
                                  · rw [zp_up_s, zp_fi_s]; rw [if_neg (by omega)]; exact e3
                                · rw [zp_up_n e, zp_up_n e, zp_up_n e]; exact h1 k (by omega)) (fun k hk hk6 => by rw [zp_up_n (by omega), zp_up_n (by omega), zp_up_n (by omega)]; exact h2 k (by omega) hk6) _ _ O ls (lv_sub hl [1, 2, 0] rfl)
                            · exact absurd c5 (by omega)
                          · exact absurd c4 (by omega)
                        · have c3 : zp_v g j t = L' j := c3
                          refine zm_f X O hl 0 rfl 5 (by decide) q205 rfl dX1_goOver_105 dX1_goOver_106 ?_
                          refine lv_iload_n X.1 X.2.1 dX1_goOver_109 rfl (lv_at hl 2 rfl) ?_
                          refine zw_ld X O 5 rfl d (by decide) dX1_goOver_110 ?_
                          refine lv_iconst (v := nI 1) X.1 X.2.1 dX1_goOver_111 (by decide) ?_
                          refine zw_add X dX1_goOver_112 ?_
                          refine lv_goto (tgt := 122) X.1 X.2.1 dX1_goOver_113 (by decide) ?_
                          refine zw_st X O 5 rfl d (by decide) dX1_goOver_122 (fun H locs O => ?_)
                          have O : zw_O D dA A s H locs 1 h0 (fM a 1) (sM a g (zp_lf g (zp_row t) 6) (zp_row t) (fun k => zp_v g k t) L' (va_up C' j ((C' j) + 1)) F') := O
                          refine zm_f X O hl 0 rfl 6 (by decide) q206 rfl dX1_goOver_123 dX1_goOver_124 ?_
                          refine lv_iload_n X.1 X.2.1 dX1_goOver_127 rfl (lv_at hl 2 rfl) ?_
                          refine zm_f X O hl 0 rfl 3 (by decide) q203 rfl dX1_goOver_128 dX1_goOver_129 ?_
                          refine lv_iload_n X.1 X.2.1 dX1_goOver_132 rfl (lv_at hl 2 rfl) ?_
                          refine zw_ld X O 3 rfl d (by decide) dX1_goOver_133 ?_
                          refine zm_f X O hl 0 rfl 4 (by decide) q204 rfl dX1_goOver_134 dX1_goOver_135 ?_
                          refine lv_iload_n X.1 X.2.1 dX1_goOver_138 rfl (lv_at hl 2 rfl) ?_
                          refine zw_ld X O 4 rfl d (by decide) dX1_goOver_139 ?_
                          refine zw_icmp_ge (tgt := 147) X (Nat.lt_of_le_of_lt bv (by decide)) (by omega) dX1_goOver_140 (by decide) (fun c4 => ?_) (fun c4 => ?_)
                          · refine zm_f X O hl 0 rfl 6 (by decide) q206 rfl dX1_goOver_147 dX1_goOver_148 ?_
                            refine lv_iload_n X.1 X.2.1 dX1_goOver_151 rfl (lv_at hl 2 rfl) ?_
                            refine zw_ld X O 6 rfl d (by decide) dX1_goOver_152 ?_
                            refine zw_st X O 6 rfl d (by decide) dX1_goOver_153 (fun H locs O => ?_)
                            have O : zw_O D dA A s H locs 1 h0 (fM a 1) (sM a g (zp_lf g (zp_row t) 6) (zp_row t) (fun k => zp_v g k t) L' (va_up C' j ((C' j) + 1)) (va_up F' j (F' j))) := O
                            refine zm_f X O hl 0 rfl 4 (by decide) q204 rfl dX1_goOver_154 dX1_goOver_155 ?_
                            refine lv_iload_n X.1 X.2.1 dX1_goOver_158 rfl (lv_at hl 2 rfl) ?_
                            refine zm_f X O hl 0 rfl 3 (by decide) q203 rfl dX1_goOver_159 dX1_goOver_160 ?_
                            refine lv_iload_n X.1 X.2.1 dX1_goOver_163 rfl (lv_at hl 2 rfl) ?_
                            refine zw_ld X O 3 rfl d (by decide) dX1_goOver_164 ?_
                            refine zm_f X O hl 0 rfl 4 (by decide) q204 rfl dX1_goOver_165 dX1_goOver_166 ?_
                            refine lv_iload_n X.1 X.2.1 dX1_goOver_169 rfl (lv_at hl 2 rfl) ?_
                            refine zw_ld X O 4 rfl d (by decide) dX1_goOver_170 ?_
                            refine zw_icmp_ge (tgt := 183) X (Nat.lt_of_le_of_lt bv (by decide)) (by omega) dX1_goOver_171 (by decide) (fun c5 => ?_) (fun c5 => ?_)
                            · refine zm_f X O hl 0 rfl 4 (by decide) q204 rfl dX1_goOver_183 dX1_goOver_184 ?_
                              refine lv_iload_n X.1 X.2.1 dX1_goOver_187 rfl (lv_at hl 2 rfl) ?_
                              refine zw_ld X O 4 rfl d (by decide) dX1_goOver_188 ?_
                              refine zw_st X O 4 rfl d (by decide) dX1_goOver_189 (fun H locs O => ?_)
                              have O : zw_O D dA A s H locs 1 h0 (fM a 1) (sM a g (zp_lf g (zp_row t) 6) (zp_row t) (fun k => zp_v g k t) (va_up L' j (L' j)) (va_up C' j ((C' j) + 1)) (va_up F' j (F' j))) := O
                              refine lv_iinc (v := nI (j + 1)) (lv' := [(2, .int (nI (j + 1))), (0, .ref h0), (1, .int (nI t))]) X.1 X.2.1 dX1_goOver_190 hl (k := 2) rfl (zi_inc _) (by decide) rfl (fun ls hl => ?_)
                              refine lv_goto (tgt := 60) X.1 X.2.1 dX1_goOver_193 (by decide) ?_
                              have cc : zp_v g j t = zp_le (zp_v g j) t := by rw [← e1]; exact c3
                              exact ih2 (j + 1) (va_up L' j (L' j)) (va_up C' j ((C' j) + 1)) (va_up F' j (F' j)) (by omega) (fun k hk => by
                                by_cases e : k = j
                                · subst e
                                  refine ⟨?_, ?_, ?_⟩
                                  · rw [zp_up_s, zp_le_s]; rw [if_neg (by omega)]; exact e1
                                  · rw [zp_up_s, zp_cn_s]; rw [if_neg (by omega), if_pos cc, e2]
                                  · rw [zp_up_s, zp_fi_s]; rw [if_neg (by omega)]; exact e3
                                · rw [zp_up_n e, zp_up_n e, zp_up_n e]; exact h1 k (by omega)) (fun k hk hk6 => by rw [zp_up_n (by omega), zp_up_n (by omega), zp_up_n (by omega)]; exact h2 k (by omega) hk6) _ _ O ls (lv_sub hl [1, 2, 0] rfl)
                            · exact absurd c5 (by omega)
                          · exact absurd c4 (by omega)
                      · have c2 : zp_v g j t < L' j := c2
                        refine lv_iconst (v := nI 1) X.1 X.2.1 dX1_goOver_86 (by decide) ?_
                        refine lv_goto (tgt := 122) X.1 X.2.1 dX1_goOver_87 (by decide) ?_
                        refine zw_st X O 5 rfl d (by decide) dX1_goOver_122 (fun H locs O => ?_)
                        have O : zw_O D dA A s H locs 1 h0 (fM a 1) (sM a g (zp_lf g (zp_row t) 6) (zp_row t) (fun k => zp_v g k t) L' (va_up C' j 1) F') := O
                        refine zm_f X O hl 0 rfl 6 (by decide) q206 rfl dX1_goOver_123 dX1_goOver_124 ?_
                        refine lv_iload_n X.1 X.2.1 dX1_goOver_127 rfl (lv_at hl 2 rfl) ?_
                        refine zm_f X O hl 0 rfl 3 (by decide) q203 rfl dX1_goOver_128 dX1_goOver_129 ?_
                        refine lv_iload_n X.1 X.2.1 dX1_goOver_132 rfl (lv_at hl 2 rfl) ?_
                        refine zw_ld X O 3 rfl d (by decide) dX1_goOver_133 ?_
                        refine zm_f X O hl 0 rfl 4 (by decide) q204 rfl dX1_goOver_134 dX1_goOver_135 ?_
                        refine lv_iload_n X.1 X.2.1 dX1_goOver_138 rfl (lv_at hl 2 rfl) ?_
                        refine zw_ld X O 4 rfl d (by decide) dX1_goOver_139 ?_
                        refine zw_icmp_ge (tgt := 147) X (Nat.lt_of_le_of_lt bv (by decide)) (by omega) dX1_goOver_140 (by decide) (fun c4 => ?_) (fun c4 => ?_)
                        · exact absurd c4 (by omega)
                        · refine lv_iload_n X.1 X.2.1 dX1_goOver_143 rfl (lv_at hl 1 rfl) ?_
                          refine lv_goto (tgt := 153) X.1 X.2.1 dX1_goOver_144 (by decide) ?_
                          refine zw_st X O 6 rfl d (by decide) dX1_goOver_153 (fun H locs O => ?_)
                          have O : zw_O D dA A s H locs 1 h0 (fM a 1) (sM a g (zp_lf g (zp_row t) 6) (zp_row t) (fun k => zp_v g k t) L' (va_up C' j 1) (va_up F' j t)) := O
                          refine zm_f X O hl 0 rfl 4 (by decide) q204 rfl dX1_goOver_154 dX1_goOver_155 ?_
                          refine lv_iload_n X.1 X.2.1 dX1_goOver_158 rfl (lv_at hl 2 rfl) ?_
                          refine zm_f X O hl 0 rfl 3 (by decide) q203 rfl dX1_goOver_159 dX1_goOver_160 ?_
                          refine lv_iload_n X.1 X.2.1 dX1_goOver_163 rfl (lv_at hl 2 rfl) ?_
                          refine zw_ld X O 3 rfl d (by decide) dX1_goOver_164 ?_
                          refine zm_f X O hl 0 rfl 4 (by decide) q204 rfl dX1_goOver_165 dX1_goOver_166 ?_
                          refine lv_iload_n X.1 X.2.1 dX1_goOver_169 rfl (lv_at hl 2 rfl) ?_
                          refine zw_ld X O 4 rfl d (by decide) dX1_goOver_170 ?_
                          refine zw_icmp_ge (tgt := 183) X (Nat.lt_of_le_of_lt bv (by decide)) (by omega) dX1_goOver_171 (by decide) (fun c5 => ?_) (fun c5 => ?_)
                          · exact absurd c5 (by omega)
                          · refine zm_f X O hl 0 rfl 3 (by decide) q203 rfl dX1_goOver_174 dX1_goOver_175 ?_
                            refine lv_iload_n X.1 X.2.1 dX1_goOver_178 rfl (lv_at hl 2 rfl) ?_
                            refine zw_ld X O 3 rfl d (by decide) dX1_goOver_179 ?_
                            refine lv_goto (tgt := 189) X.1 X.2.1 dX1_goOver_180 (by decide) ?_
                            refine zw_st X O 4 rfl d (by decide) dX1_goOver_189 (fun H locs O => ?_)
                            have O : zw_O D dA A s H locs 1 h0 (fM a 1) (sM a g (zp_lf g (zp_row t) 6) (zp_row t) (fun k => zp_v g k t) (va_up L' j ((fun k => zp_v g k t) j)) (va_up C' j 1) (va_up F' j t)) := O
                            refine lv_iinc (v := nI (j + 1)) (lv' := [(2, .int (nI (j + 1))), (0, .ref h0), (1, .int (nI t))]) X.1 X.2.1 dX1_goOver_190 hl (k := 2) rfl (zi_inc _) (by decide) rfl (fun ls hl => ?_)
                            refine lv_goto (tgt := 60) X.1 X.2.1 dX1_goOver_193 (by decide) ?_
                            have cc : zp_v g j t < zp_le (zp_v g j) t := by rw [← e1]; exact c2
                            exact ih2 (j + 1) (va_up L' j ((fun k => zp_v g k t) j)) (va_up C' j 1) (va_up F' j t) (by omega) (fun k hk => by
                              by_cases e : k = j
                              · subst e
                                refine ⟨?_, ?_, ?_⟩
                                · rw [zp_up_s, zp_le_s]; rw [if_pos cc]
                                · rw [zp_up_s, zp_cn_s]; rw [if_pos cc]
                                · rw [zp_up_s, zp_fi_s]; rw [if_pos cc]
                              · rw [zp_up_n e, zp_up_n e, zp_up_n e]; exact h1 k (by omega)) (fun k hk hk6 => by rw [zp_up_n (by omega), zp_up_n (by omega), zp_up_n (by omega)]; exact h2 k (by omega) hk6) _ _ O ls (lv_sub hl [1, 2, 0] rfl)
                exact L60 6 0 L C F (by omega) (fun k hk => absurd hk (by omega)) (fun k _ hk6 => hA k hk6) _ _ O ls (lv_sub hl [1, 2, 0] rfl)
          exact L38 720 0 lf rw nu y cn fi (by omega) (fun k hk => ⟨hy k (by omega), rfl, rfl⟩) _ _ O ls (lv_sub hl [1, 0] rfl)
        · exact absurd cb (by omega)
      | succ n ih =>
        intro i y hi hy H locs O ls hl
        refine lv_iload_n X.1 X.2.1 dX1_goOver_15 rfl (lv_at hl 1 rfl) ?_
        refine lv_bipush (v := nI 6) X.1 X.2.1 dX1_goOver_16 (by decide) ?_
        refine zw_icmp_ge (tgt := 36) X (by omega) (by decide) dX1_goOver_18 (by decide) (fun cb => ?_) (fun cb => ?_)
        · exact absurd cb (by omega)
        · refine zm_f X O hl 0 rfl 4 (by decide) q204 rfl dX1_goOver_21 dX1_goOver_22 ?_
          refine lv_iload_n X.1 X.2.1 dX1_goOver_25 rfl (lv_at hl 1 rfl) ?_
          refine lv_sipush (v := nI 1000) X.1 X.2.1 dX1_goOver_26 (by decide) ?_
          refine zw_st X O 4 rfl (by omega) (by decide) dX1_goOver_29 (fun H locs O => ?_)
          have O : zw_O D dA A s H locs 1 h0 (fM a 1) (sM a g lf rw nu (va_up y i 1000) cn fi) := O
          refine lv_iinc (v := nI (i + 1)) (lv' := [(1, .int (nI (i + 1))), (0, .ref h0)]) X.1 X.2.1 dX1_goOver_30 hl (k := 1) rfl (zi_inc _) (by decide) rfl (fun ls hl => ?_)
          refine lv_goto (tgt := 15) X.1 X.2.1 dX1_goOver_33 (by decide) ?_
          exact ih (i + 1) (va_up y i 1000) (by omega) (fun q hq => by
            by_cases e : q = i
            · rw [e, zp_up_s]
            · rw [zp_up_n e]; exact hy q (by omega)) _ _ O ls (lv_sub hl [1, 0] rfl)
    exact L15 6 0 le (by omega) (fun q hq => absurd hq (by omega)) _ _ O ls (lv_sub hl [1, 0] rfl)
  · rcases hkn with q | ⟨q, hK⟩
    · exact absurd q c1
    · subst q
      exact RET _ _ _ _ _ _ O ⟨_, _, _, _, _, _, hK, rfl, rfl⟩ dX1_goOver_7
abbrev rX1_least : Room := { frames := 4, cells := 0, slots := 0, locals := 93 }
set_option maxHeartbeats 4000000 in
set_option maxRecDepth 100000 in
theorem zM_least (l : Launch) (D : va_G) (dA : ClassId) (h0 : Nat) (a : Nat → Nat) (g lf rw nu le cn fi : Nat → Nat) (kn : Nat) (hg : ∀ p, p < 6 → g p < 64) (hkn : kn = 0 ∨ (kn = 1 ∧ zp_KN g le cn fi)) (k : Nat) (hk : k < 6) : zw_Ci l D dA yX1_least cX1_least 2 (some .int) rX1_least 1 h0 [.int (nI k)] (fM a kn) (sM a g lf rw nu le cn fi) (fun r fs as => ∃ lf' rw' nu' le' cn' fi', zp_KN g le' cn' fi' ∧ r = nI (le' k) ∧ fs = fM a 1 ∧ as = sM a g lf' rw' nu' le' cn' fi') := by
  refine zw_Ci.mk (ty := .int) (own := RX1) (lv0 := [(0, .ref h0), (1, .int (nI k))]) rfl rfl (by decide +kernel) (Nat.le_of_ble_eq_true rfl) rfl ?_
  intro p e s m args below meth c A Q X RET ls hl O
  refine lv_aload_n X.1 X.2.1 dX1_least_0 rfl (lv_at hl 0 rfl) ?_
  refine zw_callv X O (zM_goOver l D dA h0 a g lf rw nu le cn fi kn hg hkn) rfl 0 (lw_V q258 q260 qs20 q32 q261) rfl rfl (by decide +kernel) ⟨Nat.le_of_ble_eq_true rfl, Nat.le_of_ble_eq_true rfl⟩ rfl hl.1 rfl (Nat.le_of_ble_eq_true rfl) dX1_least_1 ⟨Nat.zero_le _, Nat.zero_le _⟩ (fun fs' as' H locs hp O => ?_)
  obtain ⟨lf', rw', nu', le', cn', fi', hK, rfl, rfl⟩ := hp
  refine zm_f X O hl 0 rfl 4 (by decide) q204 rfl dX1_least_4 dX1_least_5 ?_
  refine lv_iload_n X.1 X.2.1 dX1_least_8 rfl (lv_at hl 1 rfl) ?_
  refine zw_ld X O 4 rfl hk (by decide) dX1_least_9 ?_
  exact RET _ _ _ _ _ _ _ O ⟨_, _, _, _, _, _, hK, rfl, rfl, rfl⟩ rfl dX1_least_10
abbrev rX1_countLeast : Room := { frames := 4, cells := 0, slots := 0, locals := 93 }
set_option maxHeartbeats 4000000 in
set_option maxRecDepth 100000 in
theorem zM_countLeast (l : Launch) (D : va_G) (dA : ClassId) (h0 : Nat) (a : Nat → Nat) (g lf rw nu le cn fi : Nat → Nat) (kn : Nat) (hg : ∀ p, p < 6 → g p < 64) (hkn : kn = 0 ∨ (kn = 1 ∧ zp_KN g le cn fi)) (k : Nat) (hk : k < 6) : zw_Ci l D dA yX1_countLeast cX1_countLeast 2 (some .int) rX1_countLeast 1 h0 [.int (nI k)] (fM a kn) (sM a g lf rw nu le cn fi) (fun r fs as => ∃ lf' rw' nu' le' cn' fi', zp_KN g le' cn' fi' ∧ r = nI (cn' k) ∧ fs = fM a 1 ∧ as = sM a g lf' rw' nu' le' cn' fi') := by
  refine zw_Ci.mk (ty := .int) (own := RX1) (lv0 := [(0, .ref h0), (1, .int (nI k))]) rfl rfl (by decide +kernel) (Nat.le_of_ble_eq_true rfl) rfl ?_
  intro p e s m args below meth c A Q X RET ls hl O
  refine lv_aload_n X.1 X.2.1 dX1_countLeast_0 rfl (lv_at hl 0 rfl) ?_
  refine zw_callv X O (zM_goOver l D dA h0 a g lf rw nu le cn fi kn hg hkn) rfl 0 (lw_V q258 q260 qs20 q32 q261) rfl rfl (by decide +kernel) ⟨Nat.le_of_ble_eq_true rfl, Nat.le_of_ble_eq_true rfl⟩ rfl hl.1 rfl (Nat.le_of_ble_eq_true rfl) dX1_countLeast_1 ⟨Nat.zero_le _, Nat.zero_le _⟩ (fun fs' as' H locs hp O => ?_)
  obtain ⟨lf', rw', nu', le', cn', fi', hK, rfl, rfl⟩ := hp
  refine zm_f X O hl 0 rfl 5 (by decide) q205 rfl dX1_countLeast_4 dX1_countLeast_5 ?_
  refine lv_iload_n X.1 X.2.1 dX1_countLeast_8 rfl (lv_at hl 1 rfl) ?_
  refine zw_ld X O 5 rfl hk (by decide) dX1_countLeast_9 ?_
  exact RET _ _ _ _ _ _ _ O ⟨_, _, _, _, _, _, hK, rfl, rfl, rfl⟩ rfl dX1_countLeast_10
abbrev rX1_firstLeast : Room := { frames := 4, cells := 0, slots := 0, locals := 93 }
set_option maxHeartbeats 4000000 in
set_option maxRecDepth 100000 in
theorem zM_firstLeast (l : Launch) (D : va_G) (dA : ClassId) (h0 : Nat) (a : Nat → Nat) (g lf rw nu le cn fi : Nat → Nat) (kn : Nat) (hg : ∀ p, p < 6 → g p < 64) (hkn : kn = 0 ∨ (kn = 1 ∧ zp_KN g le cn fi)) (k d : Nat) (hk : k < 6) (hd : d < 6) : zw_Ci l D dA yX1_firstLeast cX1_firstLeast 3 (some .int) rX1_firstLeast 1 h0 [.int (nI k), .int (nI d)] (fM a kn) (sM a g lf rw nu le cn fi) (fun r fs as => ∃ lf' rw' nu' le' cn' fi', zp_KN g le' cn' fi' ∧ r = nI (zp_row (fi' k) d) ∧ fs = fM a 1 ∧ as = sM a g lf' rw' nu' le' cn' fi') := by
  refine zw_Ci.mk (ty := .int) (own := RX1) (lv0 := [(0, .ref h0), (1, .int (nI k)), (2, .int (nI d))]) rfl rfl (by decide +kernel) (Nat.le_of_ble_eq_true rfl) rfl ?_
  intro p e s m args below meth c A Q X RET ls hl O
  refine lv_iload_n X.1 X.2.1 dX1_firstLeast_0 rfl (lv_at hl 2 rfl) ?_
  refine zw_if_lt (tgt := 9) X (by omega) dX1_firstLeast_1 (by decide) ?_
  refine lv_iload_n X.1 X.2.1 dX1_firstLeast_4 rfl (lv_at hl 2 rfl) ?_
  refine lv_iconst (v := nI 5) X.1 X.2.1 dX1_firstLeast_5 (by decide) ?_
  refine zw_icmp_le (tgt := 12) X (by omega) (by decide) dX1_firstLeast_6 (by decide) (fun c1 => ?_) (fun c1 => ?_)
  · refine lv_aload_n X.1 X.2.1 dX1_firstLeast_12 rfl (lv_at hl 0 rfl) ?_
    refine zw_callv X O (zM_goOver l D dA h0 a g lf rw nu le cn fi kn hg hkn) rfl 0 (lw_V q258 q260 qs20 q32 q261) rfl rfl (by decide +kernel) ⟨Nat.le_of_ble_eq_true rfl, Nat.le_of_ble_eq_true rfl⟩ rfl hl.1 rfl (Nat.le_of_ble_eq_true rfl) dX1_firstLeast_13 ⟨Nat.zero_le _, Nat.zero_le _⟩ (fun fs' as' H locs hp O => ?_)
    obtain ⟨lf', rw', nu', le', cn', fi', hK, rfl, rfl⟩ := hp
    have hfi : fi' k < 720 := by
      obtain ⟨c0, e⟩ := (hK k hk).2.2
      rw [e]
      exact zp_fi_lt (fun i => zp_nm_le _ _ _) c0 719
    refine lv_aload_n X.1 X.2.1 dX1_firstLeast_16 rfl (lv_at hl 0 rfl) ?_
    refine zm_f X O hl 0 rfl 6 (by decide) q206 rfl dX1_firstLeast_17 dX1_firstLeast_18 ?_
    refine lv_iload_n X.1 X.2.1 dX1_firstLeast_21 rfl (lv_at hl 1 rfl) ?_
    refine zw_ld X O 6 rfl hk (by decide) dX1_firstLeast_22 ?_
    refine zw_callv X O (zM_setOrder l D dA h0 a g lf' rw' nu' le' cn' fi' 1 (fi' k) hfi) rfl 1 (lw_V q262 q264 qs21 q32 q265) rfl rfl (by decide +kernel) ⟨Nat.le_of_ble_eq_true rfl, Nat.le_of_ble_eq_true rfl⟩ rfl hl.1 rfl (Nat.le_of_ble_eq_true rfl) dX1_firstLeast_23 ⟨Nat.zero_le _, Nat.zero_le _⟩ (fun fs' as' H locs hp O => ?_)
    obtain ⟨rfl, rfl⟩ := hp
    refine zm_f X O hl 0 rfl 2 (by decide) q202 rfl dX1_firstLeast_26 dX1_firstLeast_27 ?_
    refine lv_iload_n X.1 X.2.1 dX1_firstLeast_30 rfl (lv_at hl 2 rfl) ?_
    refine zw_ld X O 2 rfl hd (by decide) dX1_firstLeast_31 ?_
    exact RET _ _ _ _ _ _ _ O ⟨_, _, _, _, _, _, hK, rfl, rfl, rfl⟩ rfl dX1_firstLeast_32
  · exact absurd c1 (by omega)
set_option maxHeartbeats 4000000 in
set_option maxRecDepth 100000 in
theorem zM_firstLeastB (l : Launch) (D : va_G) (dA : ClassId) (h0 : Nat) (a : Nat → Nat) (g lf rw nu le cn fi : Nat → Nat) (kn : Nat) (k : Nat) (x : Int32) (hb : zp_bad x = 1) : zw_Ci l D dA yX1_firstLeast cX1_firstLeast 3 (some .int) rX1_firstLeast 1 h0 [.int (nI k), .int x] (fM a kn) (sM a g lf rw nu le cn fi) (fun r fs as => r = -4 ∧ fs = fM a kn ∧ as = sM a g lf rw nu le cn fi) := by
  refine zw_Ci.mk (ty := .int) (own := RX1) (lv0 := [(0, .ref h0), (1, .int (nI k)), (2, .int x)]) rfl rfl (by decide +kernel) (Nat.le_of_ble_eq_true rfl) rfl ?_
  intro p e s m args below meth c A Q X RET ls hl O
  refine lv_iload_n X.1 X.2.1 dX1_firstLeast_0 rfl (lv_at hl 2 rfl) ?_
  refine lv_if_lt (tgt := 9) X.1 X.2.1 dX1_firstLeast_1 (by decide) (fun c1 => ?_) (fun c1 => ?_)
  · refine lv_bipush (v := -4) X.1 X.2.1 dX1_firstLeast_9 (by decide) ?_
    exact RET _ _ _ _ _ _ _ O ⟨rfl, rfl, rfl⟩ rfl dX1_firstLeast_11
  · refine lv_iload_n X.1 X.2.1 dX1_firstLeast_4 rfl (lv_at hl 2 rfl) ?_
    refine lv_iconst (v := nI 5) X.1 X.2.1 dX1_firstLeast_5 (by decide) ?_
    refine lv_icmp_le (tgt := 12) X.1 X.2.1 dX1_firstLeast_6 (by decide) (fun c2 => ?_) (fun c2 => ?_)
    · exact absurd (zp_bad_in c1 (Int32.not_lt.mpr c2)) (by rw [hb]; decide)
    · refine lv_bipush (v := -4) X.1 X.2.1 dX1_firstLeast_9 (by decide) ?_
      exact RET _ _ _ _ _ _ _ O ⟨rfl, rfl, rfl⟩ rfl dX1_firstLeast_11
abbrev rX1_widthNow : Room := { frames := 3, cells := 0, slots := 0, locals := 71 }
set_option maxHeartbeats 4000000 in
set_option maxRecDepth 100000 in
/-- the width as the lines are now -/
theorem zM_widthNow (l : Launch) (D : va_G) (dA : ClassId) (h0 : Nat) (a : Nat → Nat) (g lf rw nu le cn fi : Nat → Nat) (kn : Nat) (hg : ∀ p, p < 6 → g p < 64)  : zw_Ci l D dA yX1_widthNow cX1_widthNow 3 (some .int) rX1_widthNow 1 h0 [] (fM a kn) (sM a g lf rw nu le cn fi) (fun r fs as => ∃ lf' rw' nu', r = nI (zp_le (zp_v g 4) 720) ∧ fs = fM a kn ∧ as = sM a g lf' rw' nu' le cn fi) := by
  refine zw_Ci.mk (ty := .int) (own := RX1) (lv0 := [(0, .ref h0)]) rfl rfl (by decide +kernel) (Nat.le_of_ble_eq_true rfl) rfl ?_
  intro p e s m args below meth c A Q X RET ls hl O
  refine lv_sipush (v := nI 1000) X.1 X.2.1 dX1_widthNow_0 (by decide) ?_
  refine lv_istore_n (lv' := [(1, .int (nI 1000)), (0, .ref h0)]) X.1 X.2.1 dX1_widthNow_3 rfl hl (by decide) rfl (fun ls hl => ?_)
  refine lv_iconst (v := nI 0) X.1 X.2.1 dX1_widthNow_4 (by decide) ?_
  refine lv_istore_n (lv' := [(2, .int (nI 0)), (1, .int (nI 1000)), (0, .ref h0)]) X.1 X.2.1 dX1_widthNow_5 rfl hl (by decide) rfl (fun ls hl => ?_)
  have L6 : ∀ (n : Nat) (t : Nat) (lf : Nat → Nat) (rw : Nat → Nat) (nu : Nat → Nat), (t + n = 720) → ∀ (H : Heap) (locs : List Loc), zw_O D dA A s H locs 1 h0 (fM a kn) (sM a g lf rw nu le cn fi) → ∀ (ls : Array Slot), lv_has ls 3 [(0, .ref h0), (1, .int (nI (zp_le (zp_v g 4) t))), (2, .int (nI t))] → W p l e rX1_widthNow s m args below meth c H locs 0 0 Q (F0 m 6 ls []) := by
    intro n
    induction n with
    | zero =>
      intro t lf rw nu ht H locs O ls hl
      refine lv_iload_n X.1 X.2.1 dX1_widthNow_6 rfl (lv_at hl 2 rfl) ?_
      refine lv_sipush (v := nI 720) X.1 X.2.1 dX1_widthNow_7 (by decide) ?_
      refine zw_icmp_ge (tgt := 49) X (by omega) (by decide) dX1_widthNow_10 (by decide) (fun cb => ?_) (fun cb => ?_)
      · refine lv_iload_n X.1 X.2.1 dX1_widthNow_49 rfl (lv_at hl 1 rfl) ?_
        exact RET _ _ _ _ _ _ _ O ⟨_, _, _, by rw [show t = 720 by omega], rfl, rfl⟩ rfl dX1_widthNow_50
      · exact absurd cb (by omega)
    | succ n ih =>
      intro t lf rw nu ht H locs O ls hl
      refine lv_iload_n X.1 X.2.1 dX1_widthNow_6 rfl (lv_at hl 2 rfl) ?_
      refine lv_sipush (v := nI 720) X.1 X.2.1 dX1_widthNow_7 (by decide) ?_
      refine zw_icmp_ge (tgt := 49) X (by omega) (by decide) dX1_widthNow_10 (by decide) (fun cb => ?_) (fun cb => ?_)
      · exact absurd cb (by omega)
      · refine lv_aload_n X.1 X.2.1 dX1_widthNow_13 rfl (lv_at hl 0 rfl) ?_
        refine lv_iload_n X.1 X.2.1 dX1_widthNow_14 rfl (lv_at hl 2 rfl) ?_
        refine zw_callv X O (zM_setOrder l D dA h0 a g lf rw nu le cn fi kn t cb) rfl 1 (lw_V q262 q264 qs21 q32 q265) rfl rfl (by decide +kernel) ⟨Nat.le_of_ble_eq_true rfl, Nat.le_of_ble_eq_true rfl⟩ rfl hl.1 rfl (Nat.le_of_ble_eq_true rfl) dX1_widthNow_15 ⟨Nat.zero_le _, Nat.zero_le _⟩ (fun fs' as' H locs hp O => ?_)
        obtain ⟨rfl, rfl⟩ := hp
        refine lv_aload_n X.1 X.2.1 dX1_widthNow_18 rfl (lv_at hl 0 rfl) ?_
        refine zw_callv X O (zM_takeApart l D dA h0 a g lf (zp_row t) nu le cn fi kn hg (fun p _ => zp_row_lt t p)) rfl 0 (lw_V q274 q276 qs24 q32 q277) rfl rfl (by decide +kernel) ⟨Nat.le_of_ble_eq_true rfl, Nat.le_of_ble_eq_true rfl⟩ rfl hl.1 rfl (Nat.le_of_ble_eq_true rfl) dX1_widthNow_19 ⟨Nat.zero_le _, Nat.zero_le _⟩ (fun fs' as' H locs hp O => ?_)
        obtain ⟨rfl, rfl⟩ := hp
        have bv : zp_v g 4 t ≤ 216 := zp_nm_le _ _ _
        have bl := zp_le_le (zp_v g 4) t
        refine zm_f X O hl 0 rfl 3 (by decide) q203 rfl dX1_widthNow_22 dX1_widthNow_23 ?_
        refine lv_iconst (v := nI 4) X.1 X.2.1 dX1_widthNow_26 (by decide) ?_
        refine zw_ld X O 3 rfl (by decide) (by decide) dX1_widthNow_27 ?_
        refine zw_topn (zp_v g 4 t) rfl ?_
        refine lv_iload_n X.1 X.2.1 dX1_widthNow_28 rfl (lv_at hl 1 rfl) ?_
        refine zw_icmp_ge (tgt := 41) X (by omega) (by omega) dX1_widthNow_29 (by decide) (fun c2 => ?_) (fun c2 => ?_)
        · refine lv_iload_n X.1 X.2.1 dX1_widthNow_41 rfl (lv_at hl 1 rfl) ?_
          have hq : zp_le (zp_v g 4) t = zp_le (zp_v g 4) (t + 1) := by rw [zp_le_s, if_neg (by omega)]
          refine zw_topn (zp_le (zp_v g 4) (t + 1)) hq ?_
          refine lv_istore_n (lv' := [(1, .int (nI (zp_le (zp_v g 4) (t + 1)))), (0, .ref h0), (2, .int (nI t))]) X.1 X.2.1 dX1_widthNow_42 rfl hl (by decide) rfl (fun ls hl => ?_)
          refine lv_iinc (v := nI (t + 1)) (lv' := [(2, .int (nI (t + 1))), (1, .int (nI (zp_le (zp_v g 4) (t + 1)))), (0, .ref h0)]) X.1 X.2.1 dX1_widthNow_43 hl (k := 2) rfl (zi_inc _) (by decide) rfl (fun ls hl => ?_)
          refine lv_goto (tgt := 6) X.1 X.2.1 dX1_widthNow_46 (by decide) ?_
          exact ih (t + 1) (zp_lf g (zp_row t) 6) (zp_row t) (zp_ta g (zp_row t) nu) (by omega) _ _ O ls (lv_sub hl [2, 1, 0] rfl)
        · refine zm_f X O hl 0 rfl 3 (by decide) q203 rfl dX1_widthNow_32 dX1_widthNow_33 ?_
          refine lv_iconst (v := nI 4) X.1 X.2.1 dX1_widthNow_36 (by decide) ?_
          refine zw_ld X O 3 rfl (by decide) (by decide) dX1_widthNow_37 ?_
          refine zw_topn (zp_v g 4 t) rfl ?_
          refine lv_goto (tgt := 42) X.1 X.2.1 dX1_widthNow_38 (by decide) ?_
          have hq : zp_v g 4 t = zp_le (zp_v g 4) (t + 1) := by rw [zp_le_s, if_pos c2]
          refine zw_topn (zp_le (zp_v g 4) (t + 1)) hq ?_
          refine lv_istore_n (lv' := [(1, .int (nI (zp_le (zp_v g 4) (t + 1)))), (0, .ref h0), (2, .int (nI t))]) X.1 X.2.1 dX1_widthNow_42 rfl hl (by decide) rfl (fun ls hl => ?_)
          refine lv_iinc (v := nI (t + 1)) (lv' := [(2, .int (nI (t + 1))), (1, .int (nI (zp_le (zp_v g 4) (t + 1)))), (0, .ref h0)]) X.1 X.2.1 dX1_widthNow_43 hl (k := 2) rfl (zi_inc _) (by decide) rfl (fun ls hl => ?_)
          refine lv_goto (tgt := 6) X.1 X.2.1 dX1_widthNow_46 (by decide) ?_
          exact ih (t + 1) (zp_lf g (zp_row t) 6) (zp_row t) (zp_ta g (zp_row t) nu) (by omega) _ _ O ls (lv_sub hl [2, 1, 0] rfl)
  exact L6 720 0 lf rw nu (by omega) _ _ O ls (lv_sub hl [2, 1, 0] rfl)
abbrev rX1_cutWidth : Room := { frames := 5, cells := 0, slots := 0, locals := 114 }
set_option maxHeartbeats 4000000 in
set_option maxRecDepth 100000 in
theorem zM_cutWidth (l : Launch) (D : va_G) (dA : ClassId) (h0 : Nat) (a : Nat → Nat) (g lf rw nu le cn fi : Nat → Nat) (kn : Nat) (hg : ∀ p, p < 6 → g p < 64) (hkn : kn = 0 ∨ (kn = 1 ∧ zp_KN g le cn fi))  : zw_Ci l D dA yX1_cutWidth cX1_cutWidth 1 (some .int) rX1_cutWidth 1 h0 [] (fM a kn) (sM a g lf rw nu le cn fi) (fun r fs as => ∃ lf' rw' nu' le' cn' fi', zp_KN g le' cn' fi' ∧ r = nI (le' 0) ∧ fs = fM a 1 ∧ as = sM a g lf' rw' nu' le' cn' fi') := by
  refine zw_Ci.mk (ty := .int) (own := RX1) (lv0 := [(0, .ref h0)]) rfl rfl (by decide +kernel) (Nat.le_of_ble_eq_true rfl) rfl ?_
  intro p e s m args below meth c A Q X RET ls hl O
  refine lv_aload_n X.1 X.2.1 dX1_cutWidth_0 rfl (lv_at hl 0 rfl) ?_
  refine lv_iconst (v := nI 0) X.1 X.2.1 dX1_cutWidth_1 (by decide) ?_
  refine zw_calli X O (zM_least l D dA h0 a g lf rw nu le cn fi kn hg hkn 0 (by decide)) rfl 1 (lw_V q254 q256 qs19 q32 q257) rfl rfl (by decide +kernel) ⟨Nat.le_of_ble_eq_true rfl, Nat.le_of_ble_eq_true rfl⟩ rfl hl.1 rfl (Nat.le_of_ble_eq_true rfl) dX1_cutWidth_2 ⟨Nat.zero_le _, Nat.zero_le _⟩ (fun r fs' as' H locs hp O => ?_)
  obtain ⟨lf', rw', nu', le', cn', fi', hK, rfl, rfl, rfl⟩ := hp
  exact RET _ _ _ _ _ _ _ O ⟨_, _, _, _, _, _, hK, rfl, rfl, rfl⟩ rfl dX1_cutWidth_5
abbrev rX1_separation : Room := { frames := 5, cells := 0, slots := 0, locals := 114 }
set_option maxHeartbeats 4000000 in
set_option maxRecDepth 100000 in
theorem zM_separation (l : Launch) (D : va_G) (dA : ClassId) (h0 : Nat) (a : Nat → Nat) (g lf rw nu le cn fi : Nat → Nat) (kn : Nat) (hg : ∀ p, p < 6 → g p < 64) (hkn : kn = 0 ∨ (kn = 1 ∧ zp_KN g le cn fi))  : zw_Ci l D dA yX1_separation cX1_separation 1 (some .int) rX1_separation 1 h0 [] (fM a kn) (sM a g lf rw nu le cn fi) (fun r fs as => ∃ lf' rw' nu' le' cn' fi', zp_KN g le' cn' fi' ∧ r = nI (le' 1) ∧ fs = fM a 1 ∧ as = sM a g lf' rw' nu' le' cn' fi') := by
  refine zw_Ci.mk (ty := .int) (own := RX1) (lv0 := [(0, .ref h0)]) rfl rfl (by decide +kernel) (Nat.le_of_ble_eq_true rfl) rfl ?_
  intro p e s m args below meth c A Q X RET ls hl O
  refine lv_aload_n X.1 X.2.1 dX1_separation_0 rfl (lv_at hl 0 rfl) ?_
  refine lv_iconst (v := nI 1) X.1 X.2.1 dX1_separation_1 (by decide) ?_
  refine zw_calli X O (zM_least l D dA h0 a g lf rw nu le cn fi kn hg hkn 1 (by decide)) rfl 1 (lw_V q254 q256 qs19 q32 q257) rfl rfl (by decide +kernel) ⟨Nat.le_of_ble_eq_true rfl, Nat.le_of_ble_eq_true rfl⟩ rfl hl.1 rfl (Nat.le_of_ble_eq_true rfl) dX1_separation_2 ⟨Nat.zero_le _, Nat.zero_le _⟩ (fun r fs' as' H locs hp O => ?_)
  obtain ⟨lf', rw', nu', le', cn', fi', hK, rfl, rfl, rfl⟩ := hp
  exact RET _ _ _ _ _ _ _ O ⟨_, _, _, _, _, _, hK, rfl, rfl, rfl⟩ rfl dX1_separation_5
abbrev rX1_stretch : Room := { frames := 5, cells := 0, slots := 0, locals := 114 }
set_option maxHeartbeats 4000000 in
set_option maxRecDepth 100000 in
theorem zM_stretch (l : Launch) (D : va_G) (dA : ClassId) (h0 : Nat) (a : Nat → Nat) (g lf rw nu le cn fi : Nat → Nat) (kn : Nat) (hg : ∀ p, p < 6 → g p < 64) (hkn : kn = 0 ∨ (kn = 1 ∧ zp_KN g le cn fi))  : zw_Ci l D dA yX1_stretch cX1_stretch 1 (some .int) rX1_stretch 1 h0 [] (fM a kn) (sM a g lf rw nu le cn fi) (fun r fs as => ∃ lf' rw' nu' le' cn' fi', zp_KN g le' cn' fi' ∧ r = nI (le' 2) ∧ fs = fM a 1 ∧ as = sM a g lf' rw' nu' le' cn' fi') := by
  refine zw_Ci.mk (ty := .int) (own := RX1) (lv0 := [(0, .ref h0)]) rfl rfl (by decide +kernel) (Nat.le_of_ble_eq_true rfl) rfl ?_
  intro p e s m args below meth c A Q X RET ls hl O
  refine lv_aload_n X.1 X.2.1 dX1_stretch_0 rfl (lv_at hl 0 rfl) ?_
  refine lv_iconst (v := nI 2) X.1 X.2.1 dX1_stretch_1 (by decide) ?_
  refine zw_calli X O (zM_least l D dA h0 a g lf rw nu le cn fi kn hg hkn 2 (by decide)) rfl 1 (lw_V q254 q256 qs19 q32 q257) rfl rfl (by decide +kernel) ⟨Nat.le_of_ble_eq_true rfl, Nat.le_of_ble_eq_true rfl⟩ rfl hl.1 rfl (Nat.le_of_ble_eq_true rfl) dX1_stretch_2 ⟨Nat.zero_le _, Nat.zero_le _⟩ (fun r fs' as' H locs hp O => ?_)
  obtain ⟨lf', rw', nu', le', cn', fi', hK, rfl, rfl, rfl⟩ := hp
  exact RET _ _ _ _ _ _ _ O ⟨_, _, _, _, _, _, hK, rfl, rfl, rfl⟩ rfl dX1_stretch_5
abbrev rX1_length : Room := { frames := 5, cells := 0, slots := 0, locals := 114 }
set_option maxHeartbeats 4000000 in
set_option maxRecDepth 100000 in
theorem zM_length (l : Launch) (D : va_G) (dA : ClassId) (h0 : Nat) (a : Nat → Nat) (g lf rw nu le cn fi : Nat → Nat) (kn : Nat) (hg : ∀ p, p < 6 → g p < 64) (hkn : kn = 0 ∨ (kn = 1 ∧ zp_KN g le cn fi))  : zw_Ci l D dA yX1_length cX1_length 1 (some .int) rX1_length 1 h0 [] (fM a kn) (sM a g lf rw nu le cn fi) (fun r fs as => ∃ lf' rw' nu' le' cn' fi', zp_KN g le' cn' fi' ∧ r = nI (le' 3) ∧ fs = fM a 1 ∧ as = sM a g lf' rw' nu' le' cn' fi') := by
  refine zw_Ci.mk (ty := .int) (own := RX1) (lv0 := [(0, .ref h0)]) rfl rfl (by decide +kernel) (Nat.le_of_ble_eq_true rfl) rfl ?_
  intro p e s m args below meth c A Q X RET ls hl O
  refine lv_aload_n X.1 X.2.1 dX1_length_0 rfl (lv_at hl 0 rfl) ?_
  refine lv_iconst (v := nI 3) X.1 X.2.1 dX1_length_1 (by decide) ?_
  refine zw_calli X O (zM_least l D dA h0 a g lf rw nu le cn fi kn hg hkn 3 (by decide)) rfl 1 (lw_V q254 q256 qs19 q32 q257) rfl rfl (by decide +kernel) ⟨Nat.le_of_ble_eq_true rfl, Nat.le_of_ble_eq_true rfl⟩ rfl hl.1 rfl (Nat.le_of_ble_eq_true rfl) dX1_length_2 ⟨Nat.zero_le _, Nat.zero_le _⟩ (fun r fs' as' H locs hp O => ?_)
  obtain ⟨lf', rw', nu', le', cn', fi', hK, rfl, rfl, rfl⟩ := hp
  exact RET _ _ _ _ _ _ _ O ⟨_, _, _, _, _, _, hK, rfl, rfl, rfl⟩ rfl dX1_length_5
abbrev rX1_width : Room := { frames := 5, cells := 0, slots := 0, locals := 114 }
set_option maxHeartbeats 4000000 in
set_option maxRecDepth 100000 in
theorem zM_width (l : Launch) (D : va_G) (dA : ClassId) (h0 : Nat) (a : Nat → Nat) (g lf rw nu le cn fi : Nat → Nat) (kn : Nat) (hg : ∀ p, p < 6 → g p < 64) (hkn : kn = 0 ∨ (kn = 1 ∧ zp_KN g le cn fi))  : zw_Ci l D dA yX1_width cX1_width 1 (some .int) rX1_width 1 h0 [] (fM a kn) (sM a g lf rw nu le cn fi) (fun r fs as => ∃ lf' rw' nu' le' cn' fi', zp_KN g le' cn' fi' ∧ r = nI (le' 4) ∧ fs = fM a 1 ∧ as = sM a g lf' rw' nu' le' cn' fi') := by
  refine zw_Ci.mk (ty := .int) (own := RX1) (lv0 := [(0, .ref h0)]) rfl rfl (by decide +kernel) (Nat.le_of_ble_eq_true rfl) rfl ?_
  intro p e s m args below meth c A Q X RET ls hl O
  refine lv_aload_n X.1 X.2.1 dX1_width_0 rfl (lv_at hl 0 rfl) ?_
  refine lv_iconst (v := nI 4) X.1 X.2.1 dX1_width_1 (by decide) ?_
  refine zw_calli X O (zM_least l D dA h0 a g lf rw nu le cn fi kn hg hkn 4 (by decide)) rfl 1 (lw_V q254 q256 qs19 q32 q257) rfl rfl (by decide +kernel) ⟨Nat.le_of_ble_eq_true rfl, Nat.le_of_ble_eq_true rfl⟩ rfl hl.1 rfl (Nat.le_of_ble_eq_true rfl) dX1_width_2 ⟨Nat.zero_le _, Nat.zero_le _⟩ (fun r fs' as' H locs hp O => ?_)
  obtain ⟨lf', rw', nu', le', cn', fi', hK, rfl, rfl, rfl⟩ := hp
  exact RET _ _ _ _ _ _ _ O ⟨_, _, _, _, _, _, hK, rfl, rfl, rfl⟩ rfl dX1_width_5
abbrev rX1_fill : Room := { frames := 5, cells := 0, slots := 0, locals := 114 }
set_option maxHeartbeats 4000000 in
set_option maxRecDepth 100000 in
theorem zM_fill (l : Launch) (D : va_G) (dA : ClassId) (h0 : Nat) (a : Nat → Nat) (g lf rw nu le cn fi : Nat → Nat) (kn : Nat) (hg : ∀ p, p < 6 → g p < 64) (hkn : kn = 0 ∨ (kn = 1 ∧ zp_KN g le cn fi))  : zw_Ci l D dA yX1_fill cX1_fill 1 (some .int) rX1_fill 1 h0 [] (fM a kn) (sM a g lf rw nu le cn fi) (fun r fs as => ∃ lf' rw' nu' le' cn' fi', zp_KN g le' cn' fi' ∧ r = nI (le' 5) ∧ fs = fM a 1 ∧ as = sM a g lf' rw' nu' le' cn' fi') := by
  refine zw_Ci.mk (ty := .int) (own := RX1) (lv0 := [(0, .ref h0)]) rfl rfl (by decide +kernel) (Nat.le_of_ble_eq_true rfl) rfl ?_
  intro p e s m args below meth c A Q X RET ls hl O
  refine lv_aload_n X.1 X.2.1 dX1_fill_0 rfl (lv_at hl 0 rfl) ?_
  refine lv_iconst (v := nI 5) X.1 X.2.1 dX1_fill_1 (by decide) ?_
  refine zw_calli X O (zM_least l D dA h0 a g lf rw nu le cn fi kn hg hkn 5 (by decide)) rfl 1 (lw_V q254 q256 qs19 q32 q257) rfl rfl (by decide +kernel) ⟨Nat.le_of_ble_eq_true rfl, Nat.le_of_ble_eq_true rfl⟩ rfl hl.1 rfl (Nat.le_of_ble_eq_true rfl) dX1_fill_2 ⟨Nat.zero_le _, Nat.zero_le _⟩ (fun r fs' as' H locs hp O => ?_)
  obtain ⟨lf', rw', nu', le', cn', fi', hK, rfl, rfl, rfl⟩ := hp
  exact RET _ _ _ _ _ _ _ O ⟨_, _, _, _, _, _, hK, rfl, rfl, rfl⟩ rfl dX1_fill_5
abbrev rX1_cutOrders : Room := { frames := 5, cells := 0, slots := 0, locals := 114 }
set_option maxHeartbeats 4000000 in
set_option maxRecDepth 100000 in
theorem zM_cutOrders (l : Launch) (D : va_G) (dA : ClassId) (h0 : Nat) (a : Nat → Nat) (g lf rw nu le cn fi : Nat → Nat) (kn : Nat) (hg : ∀ p, p < 6 → g p < 64) (hkn : kn = 0 ∨ (kn = 1 ∧ zp_KN g le cn fi))  : zw_Ci l D dA yX1_cutOrders cX1_cutOrders 1 (some .int) rX1_cutOrders 1 h0 [] (fM a kn) (sM a g lf rw nu le cn fi) (fun r fs as => ∃ lf' rw' nu' le' cn' fi', zp_KN g le' cn' fi' ∧ r = nI (cn' 0) ∧ fs = fM a 1 ∧ as = sM a g lf' rw' nu' le' cn' fi') := by
  refine zw_Ci.mk (ty := .int) (own := RX1) (lv0 := [(0, .ref h0)]) rfl rfl (by decide +kernel) (Nat.le_of_ble_eq_true rfl) rfl ?_
  intro p e s m args below meth c A Q X RET ls hl O
  refine lv_aload_n X.1 X.2.1 dX1_cutOrders_0 rfl (lv_at hl 0 rfl) ?_
  refine lv_iconst (v := nI 0) X.1 X.2.1 dX1_cutOrders_1 (by decide) ?_
  refine zw_calli X O (zM_countLeast l D dA h0 a g lf rw nu le cn fi kn hg hkn 0 (by decide)) rfl 1 (lw_V q306 q308 qs26 q32 q309) rfl rfl (by decide +kernel) ⟨Nat.le_of_ble_eq_true rfl, Nat.le_of_ble_eq_true rfl⟩ rfl hl.1 rfl (Nat.le_of_ble_eq_true rfl) dX1_cutOrders_2 ⟨Nat.zero_le _, Nat.zero_le _⟩ (fun r fs' as' H locs hp O => ?_)
  obtain ⟨lf', rw', nu', le', cn', fi', hK, rfl, rfl, rfl⟩ := hp
  exact RET _ _ _ _ _ _ _ O ⟨_, _, _, _, _, _, hK, rfl, rfl, rfl⟩ rfl dX1_cutOrders_5
abbrev rX1_lengthOrders : Room := { frames := 5, cells := 0, slots := 0, locals := 114 }
set_option maxHeartbeats 4000000 in
set_option maxRecDepth 100000 in
theorem zM_lengthOrders (l : Launch) (D : va_G) (dA : ClassId) (h0 : Nat) (a : Nat → Nat) (g lf rw nu le cn fi : Nat → Nat) (kn : Nat) (hg : ∀ p, p < 6 → g p < 64) (hkn : kn = 0 ∨ (kn = 1 ∧ zp_KN g le cn fi))  : zw_Ci l D dA yX1_lengthOrders cX1_lengthOrders 1 (some .int) rX1_lengthOrders 1 h0 [] (fM a kn) (sM a g lf rw nu le cn fi) (fun r fs as => ∃ lf' rw' nu' le' cn' fi', zp_KN g le' cn' fi' ∧ r = nI (cn' 3) ∧ fs = fM a 1 ∧ as = sM a g lf' rw' nu' le' cn' fi') := by
  refine zw_Ci.mk (ty := .int) (own := RX1) (lv0 := [(0, .ref h0)]) rfl rfl (by decide +kernel) (Nat.le_of_ble_eq_true rfl) rfl ?_
  intro p e s m args below meth c A Q X RET ls hl O
  refine lv_aload_n X.1 X.2.1 dX1_lengthOrders_0 rfl (lv_at hl 0 rfl) ?_
  refine lv_iconst (v := nI 3) X.1 X.2.1 dX1_lengthOrders_1 (by decide) ?_
  refine zw_calli X O (zM_countLeast l D dA h0 a g lf rw nu le cn fi kn hg hkn 3 (by decide)) rfl 1 (lw_V q306 q308 qs26 q32 q309) rfl rfl (by decide +kernel) ⟨Nat.le_of_ble_eq_true rfl, Nat.le_of_ble_eq_true rfl⟩ rfl hl.1 rfl (Nat.le_of_ble_eq_true rfl) dX1_lengthOrders_2 ⟨Nat.zero_le _, Nat.zero_le _⟩ (fun r fs' as' H locs hp O => ?_)
  obtain ⟨lf', rw', nu', le', cn', fi', hK, rfl, rfl, rfl⟩ := hp
  exact RET _ _ _ _ _ _ _ O ⟨_, _, _, _, _, _, hK, rfl, rfl, rfl⟩ rfl dX1_lengthOrders_5
abbrev rX1_fillOrders : Room := { frames := 5, cells := 0, slots := 0, locals := 114 }
set_option maxHeartbeats 4000000 in
set_option maxRecDepth 100000 in
theorem zM_fillOrders (l : Launch) (D : va_G) (dA : ClassId) (h0 : Nat) (a : Nat → Nat) (g lf rw nu le cn fi : Nat → Nat) (kn : Nat) (hg : ∀ p, p < 6 → g p < 64) (hkn : kn = 0 ∨ (kn = 1 ∧ zp_KN g le cn fi))  : zw_Ci l D dA yX1_fillOrders cX1_fillOrders 1 (some .int) rX1_fillOrders 1 h0 [] (fM a kn) (sM a g lf rw nu le cn fi) (fun r fs as => ∃ lf' rw' nu' le' cn' fi', zp_KN g le' cn' fi' ∧ r = nI (cn' 5) ∧ fs = fM a 1 ∧ as = sM a g lf' rw' nu' le' cn' fi') := by
  refine zw_Ci.mk (ty := .int) (own := RX1) (lv0 := [(0, .ref h0)]) rfl rfl (by decide +kernel) (Nat.le_of_ble_eq_true rfl) rfl ?_
  intro p e s m args below meth c A Q X RET ls hl O
  refine lv_aload_n X.1 X.2.1 dX1_fillOrders_0 rfl (lv_at hl 0 rfl) ?_
  refine lv_iconst (v := nI 5) X.1 X.2.1 dX1_fillOrders_1 (by decide) ?_
  refine zw_calli X O (zM_countLeast l D dA h0 a g lf rw nu le cn fi kn hg hkn 5 (by decide)) rfl 1 (lw_V q306 q308 qs26 q32 q309) rfl rfl (by decide +kernel) ⟨Nat.le_of_ble_eq_true rfl, Nat.le_of_ble_eq_true rfl⟩ rfl hl.1 rfl (Nat.le_of_ble_eq_true rfl) dX1_fillOrders_2 ⟨Nat.zero_le _, Nat.zero_le _⟩ (fun r fs' as' H locs hp O => ?_)
  obtain ⟨lf', rw', nu', le', cn', fi', hK, rfl, rfl, rfl⟩ := hp
  exact RET _ _ _ _ _ _ _ O ⟨_, _, _, _, _, _, hK, rfl, rfl, rfl⟩ rfl dX1_fillOrders_5
abbrev rX1_lengthOrder : Room := { frames := 5, cells := 0, slots := 0, locals := 115 }
set_option maxHeartbeats 4000000 in
set_option maxRecDepth 100000 in
theorem zM_lengthOrder (l : Launch) (D : va_G) (dA : ClassId) (h0 : Nat) (a : Nat → Nat) (g lf rw nu le cn fi : Nat → Nat) (kn : Nat) (hg : ∀ p, p < 6 → g p < 64) (hkn : kn = 0 ∨ (kn = 1 ∧ zp_KN g le cn fi)) (d : Nat) (hd : d < 6) : zw_Ci l D dA yX1_lengthOrder cX1_lengthOrder 2 (some .int) rX1_lengthOrder 1 h0 [.int (nI d)] (fM a kn) (sM a g lf rw nu le cn fi) (fun r fs as => ∃ lf' rw' nu' le' cn' fi', zp_KN g le' cn' fi' ∧ r = nI (zp_row (fi' 3) d) ∧ fs = fM a 1 ∧ as = sM a g lf' rw' nu' le' cn' fi') := by
  refine zw_Ci.mk (ty := .int) (own := RX1) (lv0 := [(0, .ref h0), (1, .int (nI d))]) rfl rfl (by decide +kernel) (Nat.le_of_ble_eq_true rfl) rfl ?_
  intro p e s m args below meth c A Q X RET ls hl O
  refine lv_aload_n X.1 X.2.1 dX1_lengthOrder_0 rfl (lv_at hl 0 rfl) ?_
  refine lv_iconst (v := nI 3) X.1 X.2.1 dX1_lengthOrder_1 (by decide) ?_
  refine lv_iload_n X.1 X.2.1 dX1_lengthOrder_2 rfl (lv_at hl 1 rfl) ?_
  refine zw_calli X O (zM_firstLeast l D dA h0 a g lf rw nu le cn fi kn hg hkn 3 d (by decide) hd) rfl 2 (lw_V q322 q324 qs27 q32 q325) rfl rfl (by decide +kernel) ⟨Nat.le_of_ble_eq_true rfl, Nat.le_of_ble_eq_true rfl⟩ rfl hl.1 rfl (Nat.le_of_ble_eq_true rfl) dX1_lengthOrder_3 ⟨Nat.zero_le _, Nat.zero_le _⟩ (fun r fs' as' H locs hp O => ?_)
  obtain ⟨lf', rw', nu', le', cn', fi', hK, rfl, rfl, rfl⟩ := hp
  exact RET _ _ _ _ _ _ _ O ⟨_, _, _, _, _, _, hK, rfl, rfl, rfl⟩ rfl dX1_lengthOrder_6
set_option maxHeartbeats 4000000 in
set_option maxRecDepth 100000 in
theorem zM_lengthOrderB (l : Launch) (D : va_G) (dA : ClassId) (h0 : Nat) (a : Nat → Nat) (g lf rw nu le cn fi : Nat → Nat) (kn : Nat) (x : Int32) (hb : zp_bad x = 1) : zw_Ci l D dA yX1_lengthOrder cX1_lengthOrder 2 (some .int) rX1_lengthOrder 1 h0 [.int x] (fM a kn) (sM a g lf rw nu le cn fi) (fun r fs as => r = -4 ∧ fs = fM a kn ∧ as = sM a g lf rw nu le cn fi) := by
  refine zw_Ci.mk (ty := .int) (own := RX1) (lv0 := [(0, .ref h0), (1, .int x)]) rfl rfl (by decide +kernel) (Nat.le_of_ble_eq_true rfl) rfl ?_
  intro p e s m args below meth c A Q X RET ls hl O
  refine lv_aload_n X.1 X.2.1 dX1_lengthOrder_0 rfl (lv_at hl 0 rfl) ?_
  refine lv_iconst (v := nI 3) X.1 X.2.1 dX1_lengthOrder_1 (by decide) ?_
  refine lv_iload_n X.1 X.2.1 dX1_lengthOrder_2 rfl (lv_at hl 1 rfl) ?_
  refine zw_calli X O (zM_firstLeastB l D dA h0 a g lf rw nu le cn fi kn 3 x hb) rfl 2 (lw_V q322 q324 qs27 q32 q325) rfl rfl (by decide +kernel) ⟨Nat.le_of_ble_eq_true rfl, Nat.le_of_ble_eq_true rfl⟩ rfl hl.1 rfl (Nat.le_of_ble_eq_true rfl) dX1_lengthOrder_3 ⟨Nat.zero_le _, Nat.zero_le _⟩ (fun r fs' as' H locs hp O => ?_)
  obtain ⟨rfl, rfl, rfl⟩ := hp
  exact RET _ _ _ _ _ _ _ O ⟨rfl, rfl, rfl⟩ rfl dX1_lengthOrder_6
abbrev rX1_widthOrder : Room := { frames := 5, cells := 0, slots := 0, locals := 115 }
set_option maxHeartbeats 4000000 in
set_option maxRecDepth 100000 in
theorem zM_widthOrder (l : Launch) (D : va_G) (dA : ClassId) (h0 : Nat) (a : Nat → Nat) (g lf rw nu le cn fi : Nat → Nat) (kn : Nat) (hg : ∀ p, p < 6 → g p < 64) (hkn : kn = 0 ∨ (kn = 1 ∧ zp_KN g le cn fi)) (d : Nat) (hd : d < 6) : zw_Ci l D dA yX1_widthOrder cX1_widthOrder 2 (some .int) rX1_widthOrder 1 h0 [.int (nI d)] (fM a kn) (sM a g lf rw nu le cn fi) (fun r fs as => ∃ lf' rw' nu' le' cn' fi', zp_KN g le' cn' fi' ∧ r = nI (zp_row (fi' 4) d) ∧ fs = fM a 1 ∧ as = sM a g lf' rw' nu' le' cn' fi') := by
  refine zw_Ci.mk (ty := .int) (own := RX1) (lv0 := [(0, .ref h0), (1, .int (nI d))]) rfl rfl (by decide +kernel) (Nat.le_of_ble_eq_true rfl) rfl ?_
  intro p e s m args below meth c A Q X RET ls hl O
  refine lv_aload_n X.1 X.2.1 dX1_widthOrder_0 rfl (lv_at hl 0 rfl) ?_
  refine lv_iconst (v := nI 4) X.1 X.2.1 dX1_widthOrder_1 (by decide) ?_
  refine lv_iload_n X.1 X.2.1 dX1_widthOrder_2 rfl (lv_at hl 1 rfl) ?_
  refine zw_calli X O (zM_firstLeast l D dA h0 a g lf rw nu le cn fi kn hg hkn 4 d (by decide) hd) rfl 2 (lw_V q322 q324 qs27 q32 q325) rfl rfl (by decide +kernel) ⟨Nat.le_of_ble_eq_true rfl, Nat.le_of_ble_eq_true rfl⟩ rfl hl.1 rfl (Nat.le_of_ble_eq_true rfl) dX1_widthOrder_3 ⟨Nat.zero_le _, Nat.zero_le _⟩ (fun r fs' as' H locs hp O => ?_)
  obtain ⟨lf', rw', nu', le', cn', fi', hK, rfl, rfl, rfl⟩ := hp
  exact RET _ _ _ _ _ _ _ O ⟨_, _, _, _, _, _, hK, rfl, rfl, rfl⟩ rfl dX1_widthOrder_6
set_option maxHeartbeats 4000000 in
set_option maxRecDepth 100000 in
theorem zM_widthOrderB (l : Launch) (D : va_G) (dA : ClassId) (h0 : Nat) (a : Nat → Nat) (g lf rw nu le cn fi : Nat → Nat) (kn : Nat) (x : Int32) (hb : zp_bad x = 1) : zw_Ci l D dA yX1_widthOrder cX1_widthOrder 2 (some .int) rX1_widthOrder 1 h0 [.int x] (fM a kn) (sM a g lf rw nu le cn fi) (fun r fs as => r = -4 ∧ fs = fM a kn ∧ as = sM a g lf rw nu le cn fi) := by
  refine zw_Ci.mk (ty := .int) (own := RX1) (lv0 := [(0, .ref h0), (1, .int x)]) rfl rfl (by decide +kernel) (Nat.le_of_ble_eq_true rfl) rfl ?_
  intro p e s m args below meth c A Q X RET ls hl O
  refine lv_aload_n X.1 X.2.1 dX1_widthOrder_0 rfl (lv_at hl 0 rfl) ?_
  refine lv_iconst (v := nI 4) X.1 X.2.1 dX1_widthOrder_1 (by decide) ?_
  refine lv_iload_n X.1 X.2.1 dX1_widthOrder_2 rfl (lv_at hl 1 rfl) ?_
  refine zw_calli X O (zM_firstLeastB l D dA h0 a g lf rw nu le cn fi kn 4 x hb) rfl 2 (lw_V q322 q324 qs27 q32 q325) rfl rfl (by decide +kernel) ⟨Nat.le_of_ble_eq_true rfl, Nat.le_of_ble_eq_true rfl⟩ rfl hl.1 rfl (Nat.le_of_ble_eq_true rfl) dX1_widthOrder_3 ⟨Nat.zero_le _, Nat.zero_le _⟩ (fun r fs' as' H locs hp O => ?_)
  obtain ⟨rfl, rfl, rfl⟩ := hp
  exact RET _ _ _ _ _ _ _ O ⟨rfl, rfl, rfl⟩ rfl dX1_widthOrder_6
abbrev rX1_whole : Room := { frames := 5, cells := 0, slots := 0, locals := 114 }
set_option maxHeartbeats 4000000 in
set_option maxRecDepth 100000 in
theorem zM_whole (l : Launch) (D : va_G) (dA : ClassId) (h0 : Nat) (a : Nat → Nat) (g lf rw nu le cn fi : Nat → Nat) (kn : Nat) (hg : ∀ p, p < 6 → g p < 64) (hkn : kn = 0 ∨ (kn = 1 ∧ zp_KN g le cn fi))  : zw_Ci l D dA yX1_whole cX1_whole 1 (some .boolean) rX1_whole 1 h0 [] (fM a kn) (sM a g lf rw nu le cn fi) (fun r fs as => ∃ lf' rw' nu' le' cn' fi', zp_KN g le' cn' fi' ∧ r = nI (if le' 5 = 0 then 1 else 0) ∧ fs = fM a 1 ∧ as = sM a g lf' rw' nu' le' cn' fi') := by
  refine zw_Ci.mk (ty := .boolean) (own := RX1) (lv0 := [(0, .ref h0)]) rfl rfl (by decide +kernel) (Nat.le_of_ble_eq_true rfl) rfl ?_
  intro p e s m args below meth c A Q X RET ls hl O
  refine lv_aload_n X.1 X.2.1 dX1_whole_0 rfl (lv_at hl 0 rfl) ?_
  refine lv_iconst (v := nI 5) X.1 X.2.1 dX1_whole_1 (by decide) ?_
  refine zw_calli X O (zM_least l D dA h0 a g lf rw nu le cn fi kn hg hkn 5 (by decide)) rfl 1 (lw_V q254 q256 qs19 q32 q257) rfl rfl (by decide +kernel) ⟨Nat.le_of_ble_eq_true rfl, Nat.le_of_ble_eq_true rfl⟩ rfl hl.1 rfl (Nat.le_of_ble_eq_true rfl) dX1_whole_2 ⟨Nat.zero_le _, Nat.zero_le _⟩ (fun r fs' as' H locs hp O => ?_)
  obtain ⟨lf', rw', nu', le', cn', fi', hK, rfl, rfl, rfl⟩ := hp
  have hb := zp_le_le (zp_v g 5) 720
  have hb2 := (hK 5 (by decide)).1
  refine zw_if_ne (tgt := 12) X (by omega) dX1_whole_5 (by decide) (fun c1 => ?_) (fun c1 => ?_)
  · refine lv_iconst (v := nI 0) X.1 X.2.1 dX1_whole_12 (by decide) ?_
    exact RET _ _ _ _ _ _ _ O ⟨_, _, _, _, _, _, hK, by rw [if_neg c1], rfl, rfl⟩ rfl dX1_whole_13
  · refine lv_iconst (v := nI 1) X.1 X.2.1 dX1_whole_8 (by decide) ?_
    refine lv_goto (tgt := 13) X.1 X.2.1 dX1_whole_9 (by decide) ?_
    exact RET _ _ _ _ _ _ _ O ⟨_, _, _, _, _, _, hK, by rw [if_pos c1], rfl, rfl⟩ rfl dX1_whole_13
abbrev rX1_growth : Room := { frames := 5, cells := 0, slots := 0, locals := 114 }
set_option maxHeartbeats 4000000 in
set_option maxRecDepth 100000 in
/-- growth(i, j) of two points without a line -/
theorem zM_growth (l : Launch) (D : va_G) (dA : ClassId) (h0 : Nat) (a : Nat → Nat) (g lf rw nu le cn fi : Nat → Nat) (kn : Nat) (hg : ∀ p, p < 6 → g p < 64) (hkn : kn = 0 ∨ (kn = 1 ∧ zp_KN g le cn fi)) (i j : Nat) (hi : i < 6) (hj : j < 6) (hij : i ≠ j) (ht : (g i).testBit j = false) : zw_Ci l D dA yX1_growth cX1_growth 5 (some .int) rX1_growth 1 h0 [.int (nI i), .int (nI j)] (fM a kn) (sM a g lf rw nu le cn fi) (fun r fs as => ∃ lf' rw' nu' le' cn' fi', zp_KN g le' cn' fi' ∧ r = nI (zp_le (zp_v (zp_tn g i j) 4) 720) - nI (le' 4) ∧ fs = fM a 1 ∧ as = sM a g lf' rw' nu' le' cn' fi') := by
  refine zw_Ci.mk (ty := .int) (own := RX1) (lv0 := [(0, .ref h0), (1, .int (nI i)), (2, .int (nI j))]) rfl rfl (by decide +kernel) (Nat.le_of_ble_eq_true rfl) rfl ?_
  intro p e s m args below meth c A Q X RET ls hl O
  refine lv_aload_n X.1 X.2.1 dX1_growth_0 rfl (lv_at hl 0 rfl) ?_
  refine lv_iload_n X.1 X.2.1 dX1_growth_1 rfl (lv_at hl 1 rfl) ?_
  refine lv_iload_n X.1 X.2.1 dX1_growth_2 rfl (lv_at hl 2 rfl) ?_
  refine zw_calli X O (zM_isPair l D dA h0 a g lf rw nu le cn fi kn (nI i) (nI j)) rfl 2 (lw_V q229 q231 qs16 q32 q232) rfl rfl (by decide +kernel) ⟨Nat.le_of_ble_eq_true rfl, Nat.le_of_ble_eq_true rfl⟩ rfl hl.1 rfl (Nat.le_of_ble_eq_true rfl) dX1_growth_3 ⟨Nat.zero_le _, Nat.zero_le _⟩ (fun r fs' as' H locs hp O => ?_)
  obtain ⟨rfl, rfl, rfl⟩ := hp
  refine zw_topn (1) (zp_ip_ok i hi j hj hij) ?_
  refine zw_if_ne (tgt := 11) X (by decide) dX1_growth_6 (by decide) (fun c1 => ?_) (fun c1 => ?_)
  · refine zm_f X O hl 0 rfl 0 (by decide) q200 rfl dX1_growth_11 dX1_growth_12 ?_
    refine lv_iload_n X.1 X.2.1 dX1_growth_15 rfl (lv_at hl 1 rfl) ?_
    refine zw_ld X O 0 rfl hi (by decide) dX1_growth_16 ?_
    refine lv_iload_n X.1 X.2.1 dX1_growth_17 rfl (lv_at hl 2 rfl) ?_
    refine zw_bit X (hg _ hi) hj dX1_growth_18 dX1_growth_19 dX1_growth_20 ?_
    refine zw_tbne (tgt := 27) X dX1_growth_21 dX1_growth_22 (by decide) (fun c2 => ?_) (fun c2 => ?_)
    · refine lv_aload_n X.1 X.2.1 dX1_growth_27 rfl (lv_at hl 0 rfl) ?_
      refine lv_iconst (v := nI 4) X.1 X.2.1 dX1_growth_28 (by decide) ?_
      refine zw_calli X O (zM_least l D dA h0 a g lf rw nu le cn fi kn hg hkn 4 (by decide)) rfl 1 (lw_V q254 q256 qs19 q32 q257) rfl rfl (by decide +kernel) ⟨Nat.le_of_ble_eq_true rfl, Nat.le_of_ble_eq_true rfl⟩ rfl hl.1 rfl (Nat.le_of_ble_eq_true rfl) dX1_growth_29 ⟨Nat.zero_le _, Nat.zero_le _⟩ (fun r fs' as' H locs hp O => ?_)
      obtain ⟨lf', rw', nu', le', cn', fi', hK, rfl, rfl, rfl⟩ := hp
      refine lv_istore_n (lv' := [(3, .int (nI (le' 4))), (0, .ref h0), (1, .int (nI i)), (2, .int (nI j))]) X.1 X.2.1 dX1_growth_32 rfl hl (by decide) rfl (fun ls hl => ?_)
      refine lv_aload_n X.1 X.2.1 dX1_growth_33 rfl (lv_at hl 1 rfl) ?_
      refine lv_iload_n X.1 X.2.1 dX1_growth_34 rfl (lv_at hl 2 rfl) ?_
      refine lv_iload_n X.1 X.2.1 dX1_growth_35 rfl (lv_at hl 3 rfl) ?_
      refine zw_callv X O (zM_exchange l D dA h0 a g lf' rw' nu' le' cn' fi' 1 i j hi hj) rfl 2 (lw_V q233 q235 qs17 q32 q236) rfl rfl (by decide +kernel) ⟨Nat.le_of_ble_eq_true rfl, Nat.le_of_ble_eq_true rfl⟩ rfl hl.1 rfl (Nat.le_of_ble_eq_true rfl) dX1_growth_36 ⟨Nat.zero_le _, Nat.zero_le _⟩ (fun fs' as' H locs hp O => ?_)
      obtain ⟨rfl, rfl⟩ := hp
      refine lv_aload_n X.1 X.2.1 dX1_growth_39 rfl (lv_at hl 1 rfl) ?_
      refine zw_calli X O (zM_widthNow l D dA h0 a (zp_tn g i j) lf' rw' nu' le' cn' fi' 1 (zp_tn_lt hg hi hj hij)) rfl 0 (lw_V q338 q340 qs28 q32 q341) rfl rfl (by decide +kernel) ⟨Nat.le_of_ble_eq_true rfl, Nat.le_of_ble_eq_true rfl⟩ rfl hl.1 rfl (Nat.le_of_ble_eq_true rfl) dX1_growth_40 ⟨Nat.zero_le _, Nat.zero_le _⟩ (fun r fs' as' H locs hp O => ?_)
      obtain ⟨lf2, rw2, nu2, rfl, rfl, rfl⟩ := hp
      refine lv_istore (lv' := [(4, .int (nI (zp_le (zp_v (zp_tn g i j) 4) 720))), (3, .int (nI (le' 4))), (0, .ref h0), (1, .int (nI i)), (2, .int (nI j))]) X.1 X.2.1 dX1_growth_43 hl (by decide) rfl (fun ls hl => ?_)
      refine lv_aload_n X.1 X.2.1 dX1_growth_45 rfl (lv_at hl 2 rfl) ?_
      refine lv_iload_n X.1 X.2.1 dX1_growth_46 rfl (lv_at hl 3 rfl) ?_
      refine lv_iload_n X.1 X.2.1 dX1_growth_47 rfl (lv_at hl 4 rfl) ?_
      refine zw_callv X O (zM_exchange l D dA h0 a (zp_tn g i j) lf2 rw2 nu2 le' cn' fi' 1 i j hi hj) rfl 2 (lw_V q233 q235 qs17 q32 q236) rfl rfl (by decide +kernel) ⟨Nat.le_of_ble_eq_true rfl, Nat.le_of_ble_eq_true rfl⟩ rfl hl.1 rfl (Nat.le_of_ble_eq_true rfl) dX1_growth_48 ⟨Nat.zero_le _, Nat.zero_le _⟩ (fun fs' as' H locs hp O => ?_)
      obtain ⟨rfl, rfl⟩ := hp
      have O := zw_O_ext O 0 rfl g (fun q _ => zp_tn_tn hij q)
      refine lv_iload X.1 X.2.1 dX1_growth_51 (lv_at hl 0 rfl) ?_
      refine lv_iload_n X.1 X.2.1 dX1_growth_53 rfl (lv_at hl 1 rfl) ?_
      refine lv_isub X.1 X.2.1 dX1_growth_54 ?_
      exact RET _ _ _ _ _ _ _ O ⟨_, _, _, _, _, _, hK, rfl, rfl, rfl⟩ rfl dX1_growth_55
    · rw [ht] at c2
      exact absurd c2 (by decide)
  · exact absurd c1 (by decide)
set_option maxHeartbeats 4000000 in
set_option maxRecDepth 100000 in
/-- growth(i, j) of two points with a line -/
theorem zM_growth0 (l : Launch) (D : va_G) (dA : ClassId) (h0 : Nat) (a : Nat → Nat) (g lf rw nu le cn fi : Nat → Nat) (kn : Nat) (hg : ∀ p, p < 6 → g p < 64) (i j : Nat) (hi : i < 6) (hj : j < 6) (hij : i ≠ j) (ht : (g i).testBit j = true) : zw_Ci l D dA yX1_growth cX1_growth 5 (some .int) rX1_growth 1 h0 [.int (nI i), .int (nI j)] (fM a kn) (sM a g lf rw nu le cn fi) (fun r fs as => r = nI 0 ∧ fs = fM a kn ∧ as = sM a g lf rw nu le cn fi) := by
  refine zw_Ci.mk (ty := .int) (own := RX1) (lv0 := [(0, .ref h0), (1, .int (nI i)), (2, .int (nI j))]) rfl rfl (by decide +kernel) (Nat.le_of_ble_eq_true rfl) rfl ?_
  intro p e s m args below meth c A Q X RET ls hl O
  refine lv_aload_n X.1 X.2.1 dX1_growth_0 rfl (lv_at hl 0 rfl) ?_
  refine lv_iload_n X.1 X.2.1 dX1_growth_1 rfl (lv_at hl 1 rfl) ?_
  refine lv_iload_n X.1 X.2.1 dX1_growth_2 rfl (lv_at hl 2 rfl) ?_
  refine zw_calli X O (zM_isPair l D dA h0 a g lf rw nu le cn fi kn (nI i) (nI j)) rfl 2 (lw_V q229 q231 qs16 q32 q232) rfl rfl (by decide +kernel) ⟨Nat.le_of_ble_eq_true rfl, Nat.le_of_ble_eq_true rfl⟩ rfl hl.1 rfl (Nat.le_of_ble_eq_true rfl) dX1_growth_3 ⟨Nat.zero_le _, Nat.zero_le _⟩ (fun r fs' as' H locs hp O => ?_)
  obtain ⟨rfl, rfl, rfl⟩ := hp
  refine zw_topn (1) (zp_ip_ok i hi j hj hij) ?_
  refine zw_if_ne (tgt := 11) X (by decide) dX1_growth_6 (by decide) (fun c1 => ?_) (fun c1 => ?_)
  · refine zm_f X O hl 0 rfl 0 (by decide) q200 rfl dX1_growth_11 dX1_growth_12 ?_
    refine lv_iload_n X.1 X.2.1 dX1_growth_15 rfl (lv_at hl 1 rfl) ?_
    refine zw_ld X O 0 rfl hi (by decide) dX1_growth_16 ?_
    refine lv_iload_n X.1 X.2.1 dX1_growth_17 rfl (lv_at hl 2 rfl) ?_
    refine zw_bit X (hg _ hi) hj dX1_growth_18 dX1_growth_19 dX1_growth_20 ?_
    refine zw_tbne (tgt := 27) X dX1_growth_21 dX1_growth_22 (by decide) (fun c2 => ?_) (fun c2 => ?_)
    · rw [ht] at c2
      exact absurd c2 (by decide)
    · refine lv_iconst (v := nI 0) X.1 X.2.1 dX1_growth_25 (by decide) ?_
      exact RET _ _ _ _ _ _ _ O ⟨rfl, rfl, rfl⟩ rfl dX1_growth_26
  · exact absurd c1 (by decide)
set_option maxHeartbeats 4000000 in
set_option maxRecDepth 100000 in
/-- growth of no two points -/
theorem zM_growthB (l : Launch) (D : va_G) (dA : ClassId) (h0 : Nat) (a : Nat → Nat) (g lf rw nu le cn fi : Nat → Nat) (kn : Nat) (x y : Int32) (hb : zp_bad x = 1 ∨ zp_bad y = 1 ∨ x = y) : zw_Ci l D dA yX1_growth cX1_growth 5 (some .int) rX1_growth 1 h0 [.int x, .int y] (fM a kn) (sM a g lf rw nu le cn fi) (fun r fs as => r = -1 ∧ fs = fM a kn ∧ as = sM a g lf rw nu le cn fi) := by
  refine zw_Ci.mk (ty := .int) (own := RX1) (lv0 := [(0, .ref h0), (1, .int x), (2, .int y)]) rfl rfl (by decide +kernel) (Nat.le_of_ble_eq_true rfl) rfl ?_
  intro p e s m args below meth c A Q X RET ls hl O
  refine lv_aload_n X.1 X.2.1 dX1_growth_0 rfl (lv_at hl 0 rfl) ?_
  refine lv_iload_n X.1 X.2.1 dX1_growth_1 rfl (lv_at hl 1 rfl) ?_
  refine lv_iload_n X.1 X.2.1 dX1_growth_2 rfl (lv_at hl 2 rfl) ?_
  refine zw_calli X O (zM_isPair l D dA h0 a g lf rw nu le cn fi kn x y) rfl 2 (lw_V q229 q231 qs16 q32 q232) rfl rfl (by decide +kernel) ⟨Nat.le_of_ble_eq_true rfl, Nat.le_of_ble_eq_true rfl⟩ rfl hl.1 rfl (Nat.le_of_ble_eq_true rfl) dX1_growth_3 ⟨Nat.zero_le _, Nat.zero_le _⟩ (fun r fs' as' H locs hp O => ?_)
  obtain ⟨rfl, rfl, rfl⟩ := hp
  refine zw_topn (0) (zp_ip_no hb) ?_
  refine zw_if_ne (tgt := 11) X (by decide) dX1_growth_6 (by decide) (fun c1 => ?_) (fun c1 => ?_)
  · exact absurd rfl c1
  · refine lv_iconst (v := -1) X.1 X.2.1 dX1_growth_9 (by decide) ?_
    exact RET _ _ _ _ _ _ _ O ⟨rfl, rfl, rfl⟩ rfl dX1_growth_10
end
section
/-! the constructors (written by gen/init.py) -/
abbrev rX0_init : Room := { frames := 1, cells := 6, slots := 211, locals := 12 }
set_option maxHeartbeats 4000000 in
set_option maxRecDepth 100000 in
theorem zX_init (l : Launch) (D : va_G) (h0 sz : Nat) : Met l yX0_init (ws_ yX0_init cX0_init 1 none) rX0_init (va_Pc [.ref h0] (fun U => U.heap.size = sz ∧ va_P D vwCl [(h0, .inr (0, [.null, .null, .null, .null, .null, .null]))] U.heap ∧ va_K D vwCl [] U ∧ va_D (fun _ => True) [(h0, .inr (0, [.null, .null, .null, .null, .null, .null]))])) (va_Qv (S := ClassId × (Nat → Nat)) (fun _ => True) (fun u t => va_P D vwCl (zw_ow u.1 0 h0 (fX u.2) (sX u.2 (fun _ => 0) (fun _ => 0) (fun _ => 0) (fun _ => 0) (fun _ => 0) (fun _ => 0))) t.heap ∧ va_K D vwCl [(u.1, .int)] t ∧ va_D (va_A [(h0, .inr (0, [.null, .null, .null, .null, .null, .null]))] sz) (zw_ow u.1 0 h0 (fX u.2) (sX u.2 (fun _ => 0) (fun _ => 0) (fun _ => 0) (fun _ => 0) (fun _ => 0) (fun _ => 0)))) (va_A [(h0, .inr (0, [.null, .null, .null, .null, .null, .null]))] sz)) 6 211 (va_A [(h0, .inr (0, [.null, .null, .null, .null, .null, .null]))] sz) := by
  refine Met.ofW (cc := cX0_init) (maxL := 1) (ret := none) (by decide +kernel) rfl ?_
  intro p e s m args below meth c s₁ B hml hv
  obtain ⟨rfl, hsz, hP, hK, hD0⟩ := hv
  have hx := B.exec
  have hb := B.bytes
  have hr := B.returns
  have hts0 := atoms_spec (ws := ws_ yX0_init cX0_init 1 none) B.pre
  have hts : ∀ w ∈ lw_all, w.before _ s = true := fun w h => hts0 w (List.mem_cons_of_mem _ h)
  have hown : s.vm.findClass RX0 = some m.cls := findClass_of_methodNamed B.named
  have hlocks := B.notSynchronized
  have hin : meth.name = "<init>" := (name_of_methodNamed B.named B.method).1
  subst hsz
  have hD := hD0.self (sz := s.heap.size)
  generalize hAe : va_A [(h0, .inr (0, [.null, .null, .null, .null, .null, .null]))] s.heap.size = A at hD ⊢
  have hA : ∀ q : Nat, s.heap.size ≤ q → A q := fun q h => by rw [← hAe]; exact Or.inr h
  have hS : va_S A s.heap s.heap [] := va_S.rf
  have hl := lv_entry ([.ref h0]) (n := 1) (Nat.le_of_ble_eq_true rfl)
  rw [lg_entry_eq]
  generalize (lg_sl ([.ref h0]) ++ List.replicate (1 - (lg_sl ([.ref h0])).length) Slot.unset).toArray = ls at hl ⊢
  have hl : lv_has ls 1 [(0, .ref h0)] := hl
  refine lv_aload_n hx hb dX0_init_0 rfl (lv_at hl 0 rfl) ?_
  refine W.objInit hx hb hown (hts _ q38) (hts _ q39) (hts _ q40) rfl (by rw [hml]; exact hl.1) rfl dX0_init_1 (Nat.le_of_ble_eq_true rfl) (Nat.le_of_ble_eq_true rfl) ?_
  refine W.eq (g2 := F0 m 4 ls []) rfl ?_
  refine lv_aload_n hx hb dX0_init_4 rfl (lv_at hl 0 rfl) ?_
  refine lv_bipush (v := nI 6) hx hb dX0_init_5 (by decide) ?_
  refine va_newa (atype := .int) (ty := .int) (a0 := (6, .inl (fun _ => nI 0))) hx hb (hts _ q60) rfl hK hP hD hS hA (fun _ => rfl) (by decide) (by decide) (by decide) (Nat.le_of_ble_eq_true rfl) (Nat.le_of_ble_eq_true rfl) dX0_init_7 (fun q0 dA H hK hP hD hS => ?_)
  have hK : va_K D vwCl [(dA, .int)] s := hK
  have hP : va_P D vwCl [(h0, .inr (0, [.null, .null, .null, .null, .null, .null])), (q0, .inl (dA, 6, .inl (fun _ => nI 0)))] H := hP
  have hD : va_D A [(h0, .inr (0, [.null, .null, .null, .null, .null, .null])), (q0, .inl (dA, 6, .inl (fun _ => nI 0)))] := hD
  refine va_putF (D := D) (ci := 0) (v := .ref q0) (ty := .array .int) (C := RX0) (T := TX0) (N := 6) hx hb hts in_X0 tyX0 tyX0_ok nmX0 hown hK hP hD hS 0 rfl rfl 0 (by decide) (hts _ q41) (fun _ h9 => h9) rfl hin rfl (by decide +kernel) rfl rfl (Nat.le_of_ble_eq_true rfl) dX0_init_9 (fun H locs hP hD hS => ?_)
  have hP : va_P D vwCl [(h0, .inr (0, [.ref q0, .null, .null, .null, .null, .null])), (q0, .inl (dA, 6, .inl (fun _ => nI 0)))] H := hP
  have hD : va_D A [(h0, .inr (0, [.ref q0, .null, .null, .null, .null, .null])), (q0, .inl (dA, 6, .inl (fun _ => nI 0)))] := hD
  refine lv_aload_n hx hb dX0_init_12 rfl (lv_at hl 0 rfl) ?_
  refine lv_bipush (v := nI 64) hx hb dX0_init_13 (by decide) ?_
  refine va_newa (atype := .int) (ty := .int) (a0 := (64, .inl (fun _ => nI 0))) hx hb (hts _ q60) rfl hK hP hD hS hA (fun _ => rfl) (by decide) (by decide) (by decide) (Nat.le_of_ble_eq_true rfl) (Nat.le_of_ble_eq_true rfl) dX0_init_15 (fun q1 dB H hK hP hD hS => ?_)
  have hd : dB = dA := Option.some.inj ((hK.2 1 _ rfl).2.symm.trans (hK.2 0 _ rfl).2)
  rw [hd] at hK hP hD
  have hK : va_K D vwCl [(dA, .int)] s := hK.sub [0] rfl
  have hP : va_P D vwCl [(h0, .inr (0, [.ref q0, .null, .null, .null, .null, .null])), (q0, .inl (dA, 6, .inl (fun _ => nI 0))), (q1, .inl (dA, 64, .inl (fun _ => nI 0)))] H := hP
  have hD : va_D A [(h0, .inr (0, [.ref q0, .null, .null, .null, .null, .null])), (q0, .inl (dA, 6, .inl (fun _ => nI 0))), (q1, .inl (dA, 64, .inl (fun _ => nI 0)))] := hD
  refine va_putF (D := D) (ci := 0) (v := .ref q1) (ty := .array .int) (C := RX0) (T := TX0) (N := 6) hx hb hts in_X0 tyX0 tyX0_ok nmX0 hown hK hP hD hS 0 rfl rfl 1 (by decide) (hts _ q42) (fun _ h9 => h9) rfl hin rfl (by decide +kernel) rfl rfl (Nat.le_of_ble_eq_true rfl) dX0_init_17 (fun H locs hP hD hS => ?_)
  have hP : va_P D vwCl [(h0, .inr (0, [.ref q0, .ref q1, .null, .null, .null, .null])), (q0, .inl (dA, 6, .inl (fun _ => nI 0))), (q1, .inl (dA, 64, .inl (fun _ => nI 0)))] H := hP
  have hD : va_D A [(h0, .inr (0, [.ref q0, .ref q1, .null, .null, .null, .null])), (q0, .inl (dA, 6, .inl (fun _ => nI 0))), (q1, .inl (dA, 64, .inl (fun _ => nI 0)))] := hD
  refine lv_aload_n hx hb dX0_init_20 rfl (lv_at hl 0 rfl) ?_
  refine lv_bipush (v := nI 64) hx hb dX0_init_21 (by decide) ?_
  refine va_newa (atype := .int) (ty := .int) (a0 := (64, .inl (fun _ => nI 0))) hx hb (hts _ q60) rfl hK hP hD hS hA (fun _ => rfl) (by decide) (by decide) (by decide) (Nat.le_of_ble_eq_true rfl) (Nat.le_of_ble_eq_true rfl) dX0_init_23 (fun q2 dB H hK hP hD hS => ?_)
  have hd : dB = dA := Option.some.inj ((hK.2 1 _ rfl).2.symm.trans (hK.2 0 _ rfl).2)
  rw [hd] at hK hP hD
  have hK : va_K D vwCl [(dA, .int)] s := hK.sub [0] rfl
  have hP : va_P D vwCl [(h0, .inr (0, [.ref q0, .ref q1, .null, .null, .null, .null])), (q0, .inl (dA, 6, .inl (fun _ => nI 0))), (q1, .inl (dA, 64, .inl (fun _ => nI 0))), (q2, .inl (dA, 64, .inl (fun _ => nI 0)))] H := hP
  have hD : va_D A [(h0, .inr (0, [.ref q0, .ref q1, .null, .null, .null, .null])), (q0, .inl (dA, 6, .inl (fun _ => nI 0))), (q1, .inl (dA, 64, .inl (fun _ => nI 0))), (q2, .inl (dA, 64, .inl (fun _ => nI 0)))] := hD
  refine va_putF (D := D) (ci := 0) (v := .ref q2) (ty := .array .int) (C := RX0) (T := TX0) (N := 6) hx hb hts in_X0 tyX0 tyX0_ok nmX0 hown hK hP hD hS 0 rfl rfl 2 (by decide) (hts _ q43) (fun _ h9 => h9) rfl hin rfl (by decide +kernel) rfl rfl (Nat.le_of_ble_eq_true rfl) dX0_init_25 (fun H locs hP hD hS => ?_)
  have hP : va_P D vwCl [(h0, .inr (0, [.ref q0, .ref q1, .ref q2, .null, .null, .null])), (q0, .inl (dA, 6, .inl (fun _ => nI 0))), (q1, .inl (dA, 64, .inl (fun _ => nI 0))), (q2, .inl (dA, 64, .inl (fun _ => nI 0)))] H := hP
  have hD : va_D A [(h0, .inr (0, [.ref q0, .ref q1, .ref q2, .null, .null, .null])), (q0, .inl (dA, 6, .inl (fun _ => nI 0))), (q1, .inl (dA, 64, .inl (fun _ => nI 0))), (q2, .inl (dA, 64, .inl (fun _ => nI 0)))] := hD
  refine lv_aload_n hx hb dX0_init_28 rfl (lv_at hl 0 rfl) ?_
  refine lv_bipush (v := nI 64) hx hb dX0_init_29 (by decide) ?_
  refine va_newa (atype := .int) (ty := .int) (a0 := (64, .inl (fun _ => nI 0))) hx hb (hts _ q60) rfl hK hP hD hS hA (fun _ => rfl) (by decide) (by decide) (by decide) (Nat.le_of_ble_eq_true rfl) (Nat.le_of_ble_eq_true rfl) dX0_init_31 (fun q3 dB H hK hP hD hS => ?_)
  have hd : dB = dA := Option.some.inj ((hK.2 1 _ rfl).2.symm.trans (hK.2 0 _ rfl).2)
  rw [hd] at hK hP hD
  have hK : va_K D vwCl [(dA, .int)] s := hK.sub [0] rfl
  have hP : va_P D vwCl [(h0, .inr (0, [.ref q0, .ref q1, .ref q2, .null, .null, .null])), (q0, .inl (dA, 6, .inl (fun _ => nI 0))), (q1, .inl (dA, 64, .inl (fun _ => nI 0))), (q2, .inl (dA, 64, .inl (fun _ => nI 0))), (q3, .inl (dA, 64, .inl (fun _ => nI 0)))] H := hP
  have hD : va_D A [(h0, .inr (0, [.ref q0, .ref q1, .ref q2, .null, .null, .null])), (q0, .inl (dA, 6, .inl (fun _ => nI 0))), (q1, .inl (dA, 64, .inl (fun _ => nI 0))), (q2, .inl (dA, 64, .inl (fun _ => nI 0))), (q3, .inl (dA, 64, .inl (fun _ => nI 0)))] := hD
  refine va_putF (D := D) (ci := 0) (v := .ref q3) (ty := .array .int) (C := RX0) (T := TX0) (N := 6) hx hb hts in_X0 tyX0 tyX0_ok nmX0 hown hK hP hD hS 0 rfl rfl 3 (by decide) (hts _ q44) (fun _ h9 => h9) rfl hin rfl (by decide +kernel) rfl rfl (Nat.le_of_ble_eq_true rfl) dX0_init_33 (fun H locs hP hD hS => ?_)
  have hP : va_P D vwCl [(h0, .inr (0, [.ref q0, .ref q1, .ref q2, .ref q3, .null, .null])), (q0, .inl (dA, 6, .inl (fun _ => nI 0))), (q1, .inl (dA, 64, .inl (fun _ => nI 0))), (q2, .inl (dA, 64, .inl (fun _ => nI 0))), (q3, .inl (dA, 64, .inl (fun _ => nI 0)))] H := hP
  have hD : va_D A [(h0, .inr (0, [.ref q0, .ref q1, .ref q2, .ref q3, .null, .null])), (q0, .inl (dA, 6, .inl (fun _ => nI 0))), (q1, .inl (dA, 64, .inl (fun _ => nI 0))), (q2, .inl (dA, 64, .inl (fun _ => nI 0))), (q3, .inl (dA, 64, .inl (fun _ => nI 0)))] := hD
  refine lv_aload_n hx hb dX0_init_36 rfl (lv_at hl 0 rfl) ?_
  refine lv_bipush (v := nI 6) hx hb dX0_init_37 (by decide) ?_
  refine va_newa (atype := .int) (ty := .int) (a0 := (6, .inl (fun _ => nI 0))) hx hb (hts _ q60) rfl hK hP hD hS hA (fun _ => rfl) (by decide) (by decide) (by decide) (Nat.le_of_ble_eq_true rfl) (Nat.le_of_ble_eq_true rfl) dX0_init_39 (fun q4 dB H hK hP hD hS => ?_)
  have hd : dB = dA := Option.some.inj ((hK.2 1 _ rfl).2.symm.trans (hK.2 0 _ rfl).2)
  rw [hd] at hK hP hD
  have hK : va_K D vwCl [(dA, .int)] s := hK.sub [0] rfl
  have hP : va_P D vwCl [(h0, .inr (0, [.ref q0, .ref q1, .ref q2, .ref q3, .null, .null])), (q0, .inl (dA, 6, .inl (fun _ => nI 0))), (q1, .inl (dA, 64, .inl (fun _ => nI 0))), (q2, .inl (dA, 64, .inl (fun _ => nI 0))), (q3, .inl (dA, 64, .inl (fun _ => nI 0))), (q4, .inl (dA, 6, .inl (fun _ => nI 0)))] H := hP
  have hD : va_D A [(h0, .inr (0, [.ref q0, .ref q1, .ref q2, .ref q3, .null, .null])), (q0, .inl (dA, 6, .inl (fun _ => nI 0))), (q1, .inl (dA, 64, .inl (fun _ => nI 0))), (q2, .inl (dA, 64, .inl (fun _ => nI 0))), (q3, .inl (dA, 64, .inl (fun _ => nI 0))), (q4, .inl (dA, 6, .inl (fun _ => nI 0)))] := hD
  refine va_putF (D := D) (ci := 0) (v := .ref q4) (ty := .array .int) (C := RX0) (T := TX0) (N := 6) hx hb hts in_X0 tyX0 tyX0_ok nmX0 hown hK hP hD hS 0 rfl rfl 4 (by decide) (hts _ q45) (fun _ h9 => h9) rfl hin rfl (by decide +kernel) rfl rfl (Nat.le_of_ble_eq_true rfl) dX0_init_41 (fun H locs hP hD hS => ?_)
  have hP : va_P D vwCl [(h0, .inr (0, [.ref q0, .ref q1, .ref q2, .ref q3, .ref q4, .null])), (q0, .inl (dA, 6, .inl (fun _ => nI 0))), (q1, .inl (dA, 64, .inl (fun _ => nI 0))), (q2, .inl (dA, 64, .inl (fun _ => nI 0))), (q3, .inl (dA, 64, .inl (fun _ => nI 0))), (q4, .inl (dA, 6, .inl (fun _ => nI 0)))] H := hP
  have hD : va_D A [(h0, .inr (0, [.ref q0, .ref q1, .ref q2, .ref q3, .ref q4, .null])), (q0, .inl (dA, 6, .inl (fun _ => nI 0))), (q1, .inl (dA, 64, .inl (fun _ => nI 0))), (q2, .inl (dA, 64, .inl (fun _ => nI 0))), (q3, .inl (dA, 64, .inl (fun _ => nI 0))), (q4, .inl (dA, 6, .inl (fun _ => nI 0)))] := hD
  refine lv_aload_n hx hb dX0_init_44 rfl (lv_at hl 0 rfl) ?_
  refine lv_bipush (v := nI 7) hx hb dX0_init_45 (by decide) ?_
  refine va_newa (atype := .int) (ty := .int) (a0 := (7, .inl (fun _ => nI 0))) hx hb (hts _ q60) rfl hK hP hD hS hA (fun _ => rfl) (by decide) (by decide) (by decide) (Nat.le_of_ble_eq_true rfl) (Nat.le_of_ble_eq_true rfl) dX0_init_47 (fun q5 dB H hK hP hD hS => ?_)
  have hd : dB = dA := Option.some.inj ((hK.2 1 _ rfl).2.symm.trans (hK.2 0 _ rfl).2)
  rw [hd] at hK hP hD
  have hK : va_K D vwCl [(dA, .int)] s := hK.sub [0] rfl
  have hP : va_P D vwCl [(h0, .inr (0, [.ref q0, .ref q1, .ref q2, .ref q3, .ref q4, .null])), (q0, .inl (dA, 6, .inl (fun _ => nI 0))), (q1, .inl (dA, 64, .inl (fun _ => nI 0))), (q2, .inl (dA, 64, .inl (fun _ => nI 0))), (q3, .inl (dA, 64, .inl (fun _ => nI 0))), (q4, .inl (dA, 6, .inl (fun _ => nI 0))), (q5, .inl (dA, 7, .inl (fun _ => nI 0)))] H := hP
  have hD : va_D A [(h0, .inr (0, [.ref q0, .ref q1, .ref q2, .ref q3, .ref q4, .null])), (q0, .inl (dA, 6, .inl (fun _ => nI 0))), (q1, .inl (dA, 64, .inl (fun _ => nI 0))), (q2, .inl (dA, 64, .inl (fun _ => nI 0))), (q3, .inl (dA, 64, .inl (fun _ => nI 0))), (q4, .inl (dA, 6, .inl (fun _ => nI 0))), (q5, .inl (dA, 7, .inl (fun _ => nI 0)))] := hD
  refine va_putF (D := D) (ci := 0) (v := .ref q5) (ty := .array .int) (C := RX0) (T := TX0) (N := 6) hx hb hts in_X0 tyX0 tyX0_ok nmX0 hown hK hP hD hS 0 rfl rfl 5 (by decide) (hts _ q46) (fun _ h9 => h9) rfl hin rfl (by decide +kernel) rfl rfl (Nat.le_of_ble_eq_true rfl) dX0_init_49 (fun H locs hP hD hS => ?_)
  have hP : va_P D vwCl [(h0, .inr (0, [.ref q0, .ref q1, .ref q2, .ref q3, .ref q4, .ref q5])), (q0, .inl (dA, 6, .inl (fun _ => nI 0))), (q1, .inl (dA, 64, .inl (fun _ => nI 0))), (q2, .inl (dA, 64, .inl (fun _ => nI 0))), (q3, .inl (dA, 64, .inl (fun _ => nI 0))), (q4, .inl (dA, 6, .inl (fun _ => nI 0))), (q5, .inl (dA, 7, .inl (fun _ => nI 0)))] H := hP
  have hD : va_D A [(h0, .inr (0, [.ref q0, .ref q1, .ref q2, .ref q3, .ref q4, .ref q5])), (q0, .inl (dA, 6, .inl (fun _ => nI 0))), (q1, .inl (dA, 64, .inl (fun _ => nI 0))), (q2, .inl (dA, 64, .inl (fun _ => nI 0))), (q3, .inl (dA, 64, .inl (fun _ => nI 0))), (q4, .inl (dA, 6, .inl (fun _ => nI 0))), (q5, .inl (dA, 7, .inl (fun _ => nI 0)))] := hD
  exact W.vret hx hb hr (fun t ht hW => ⟨⟨(dA, fun k => if k = 0 then q0 else if k = 1 then q1 else if k = 2 then q2 else if k = 3 then q3 else if k = 4 then q4 else q5), rfl, trivial, by rw [ht]; exact hP, va_K.moved hW.alike hK, hD⟩, hS.F ht⟩) hS.2.2 dX0_init_52
abbrev rX1_init : Room := { frames := 1, cells := 7, slots := 42, locals := 12 }
set_option maxHeartbeats 4000000 in
set_option maxRecDepth 100000 in
theorem zM_init (l : Launch) (D : va_G) (h0 sz : Nat) : Met l yX1_init (ws_ yX1_init cX1_init 1 none) rX1_init (va_Pc [.ref h0] (fun U => U.heap.size = sz ∧ va_P D vwCl [(h0, .inr (1, [.null, .null, .null, .null, .null, .null, .null, .int (nI 0)]))] U.heap ∧ va_K D vwCl [] U ∧ va_D (fun _ => True) [(h0, .inr (1, [.null, .null, .null, .null, .null, .null, .null, .int (nI 0)]))])) (va_Qv (S := ClassId × (Nat → Nat)) (fun _ => True) (fun u t => va_P D vwCl (zw_ow u.1 1 h0 (fM u.2 0) (sM u.2 (fun _ => 0) (fun _ => 0) (fun _ => 0) (fun _ => 0) (fun _ => 0) (fun _ => 0) (fun _ => 0))) t.heap ∧ va_K D vwCl [(u.1, .int)] t ∧ va_D (va_A [(h0, .inr (1, [.null, .null, .null, .null, .null, .null, .null, .int (nI 0)]))] sz) (zw_ow u.1 1 h0 (fM u.2 0) (sM u.2 (fun _ => 0) (fun _ => 0) (fun _ => 0) (fun _ => 0) (fun _ => 0) (fun _ => 0) (fun _ => 0)))) (va_A [(h0, .inr (1, [.null, .null, .null, .null, .null, .null, .null, .int (nI 0)]))] sz)) 7 42 (va_A [(h0, .inr (1, [.null, .null, .null, .null, .null, .null, .null, .int (nI 0)]))] sz) := by
  refine Met.ofW (cc := cX1_init) (maxL := 1) (ret := none) (by decide +kernel) rfl ?_
  intro p e s m args below meth c s₁ B hml hv
  obtain ⟨rfl, hsz, hP, hK, hD0⟩ := hv
  have hx := B.exec
  have hb := B.bytes
  have hr := B.returns
  have hts0 := atoms_spec (ws := ws_ yX1_init cX1_init 1 none) B.pre
  have hts : ∀ w ∈ lw_all, w.before _ s = true := fun w h => hts0 w (List.mem_cons_of_mem _ h)
  have hown : s.vm.findClass RX1 = some m.cls := findClass_of_methodNamed B.named
  have hlocks := B.notSynchronized
  have hin : meth.name = "<init>" := (name_of_methodNamed B.named B.method).1
  subst hsz
  have hD := hD0.self (sz := s.heap.size)
  generalize hAe : va_A [(h0, .inr (1, [.null, .null, .null, .null, .null, .null, .null, .int (nI 0)]))] s.heap.size = A at hD ⊢
  have hA : ∀ q : Nat, s.heap.size ≤ q → A q := fun q h => by rw [← hAe]; exact Or.inr h
  have hS : va_S A s.heap s.heap [] := va_S.rf
  have hl := lv_entry ([.ref h0]) (n := 1) (Nat.le_of_ble_eq_true rfl)
  rw [lg_entry_eq]
  generalize (lg_sl ([.ref h0]) ++ List.replicate (1 - (lg_sl ([.ref h0])).length) Slot.unset).toArray = ls at hl ⊢
  have hl : lv_has ls 1 [(0, .ref h0)] := hl
  refine lv_aload_n hx hb dX1_init_0 rfl (lv_at hl 0 rfl) ?_
  refine W.objInit hx hb hown (hts _ q199) (hts _ q39) (hts _ q40) rfl (by rw [hml]; exact hl.1) rfl dX1_init_1 (Nat.le_of_ble_eq_true rfl) (Nat.le_of_ble_eq_true rfl) ?_
  refine W.eq (g2 := F0 m 4 ls []) rfl ?_
  refine lv_aload_n hx hb dX1_init_4 rfl (lv_at hl 0 rfl) ?_
  refine lv_bipush (v := nI 6) hx hb dX1_init_5 (by decide) ?_
  refine va_newa (atype := .int) (ty := .int) (a0 := (6, .inl (fun _ => nI 0))) hx hb (hts _ q60) rfl hK hP hD hS hA (fun _ => rfl) (by decide) (by decide) (by decide) (Nat.le_of_ble_eq_true rfl) (Nat.le_of_ble_eq_true rfl) dX1_init_7 (fun q0 dA H hK hP hD hS => ?_)
  have hK : va_K D vwCl [(dA, .int)] s := hK
  have hP : va_P D vwCl [(h0, .inr (1, [.null, .null, .null, .null, .null, .null, .null, .int (nI 0)])), (q0, .inl (dA, 6, .inl (fun _ => nI 0)))] H := hP
  have hD : va_D A [(h0, .inr (1, [.null, .null, .null, .null, .null, .null, .null, .int (nI 0)])), (q0, .inl (dA, 6, .inl (fun _ => nI 0)))] := hD
  refine va_putF (D := D) (ci := 1) (v := .ref q0) (ty := .array .int) (C := RX1) (T := TX1) (N := 8) hx hb hts in_X1 tyX1 tyX1_ok nmX1 hown hK hP hD hS 0 rfl rfl 0 (by decide) (hts _ q200) (fun _ h9 => h9) rfl hin rfl (by decide +kernel) rfl rfl (Nat.le_of_ble_eq_true rfl) dX1_init_9 (fun H locs hP hD hS => ?_)
  have hP : va_P D vwCl [(h0, .inr (1, [.ref q0, .null, .null, .null, .null, .null, .null, .int (nI 0)])), (q0, .inl (dA, 6, .inl (fun _ => nI 0)))] H := hP
  have hD : va_D A [(h0, .inr (1, [.ref q0, .null, .null, .null, .null, .null, .null, .int (nI 0)])), (q0, .inl (dA, 6, .inl (fun _ => nI 0)))] := hD
  refine lv_aload_n hx hb dX1_init_12 rfl (lv_at hl 0 rfl) ?_
  refine lv_bipush (v := nI 6) hx hb dX1_init_13 (by decide) ?_
  refine va_newa (atype := .int) (ty := .int) (a0 := (6, .inl (fun _ => nI 0))) hx hb (hts _ q60) rfl hK hP hD hS hA (fun _ => rfl) (by decide) (by decide) (by decide) (Nat.le_of_ble_eq_true rfl) (Nat.le_of_ble_eq_true rfl) dX1_init_15 (fun q1 dB H hK hP hD hS => ?_)
  have hd : dB = dA := Option.some.inj ((hK.2 1 _ rfl).2.symm.trans (hK.2 0 _ rfl).2)
  rw [hd] at hK hP hD
  have hK : va_K D vwCl [(dA, .int)] s := hK.sub [0] rfl
  have hP : va_P D vwCl [(h0, .inr (1, [.ref q0, .null, .null, .null, .null, .null, .null, .int (nI 0)])), (q0, .inl (dA, 6, .inl (fun _ => nI 0))), (q1, .inl (dA, 6, .inl (fun _ => nI 0)))] H := hP
  have hD : va_D A [(h0, .inr (1, [.ref q0, .null, .null, .null, .null, .null, .null, .int (nI 0)])), (q0, .inl (dA, 6, .inl (fun _ => nI 0))), (q1, .inl (dA, 6, .inl (fun _ => nI 0)))] := hD
  refine va_putF (D := D) (ci := 1) (v := .ref q1) (ty := .array .int) (C := RX1) (T := TX1) (N := 8) hx hb hts in_X1 tyX1 tyX1_ok nmX1 hown hK hP hD hS 0 rfl rfl 1 (by decide) (hts _ q201) (fun _ h9 => h9) rfl hin rfl (by decide +kernel) rfl rfl (Nat.le_of_ble_eq_true rfl) dX1_init_17 (fun H locs hP hD hS => ?_)
  have hP : va_P D vwCl [(h0, .inr (1, [.ref q0, .ref q1, .null, .null, .null, .null, .null, .int (nI 0)])), (q0, .inl (dA, 6, .inl (fun _ => nI 0))), (q1, .inl (dA, 6, .inl (fun _ => nI 0)))] H := hP
  have hD : va_D A [(h0, .inr (1, [.ref q0, .ref q1, .null, .null, .null, .null, .null, .int (nI 0)])), (q0, .inl (dA, 6, .inl (fun _ => nI 0))), (q1, .inl (dA, 6, .inl (fun _ => nI 0)))] := hD
  refine lv_aload_n hx hb dX1_init_20 rfl (lv_at hl 0 rfl) ?_
  refine lv_bipush (v := nI 6) hx hb dX1_init_21 (by decide) ?_
  refine va_newa (atype := .int) (ty := .int) (a0 := (6, .inl (fun _ => nI 0))) hx hb (hts _ q60) rfl hK hP hD hS hA (fun _ => rfl) (by decide) (by decide) (by decide) (Nat.le_of_ble_eq_true rfl) (Nat.le_of_ble_eq_true rfl) dX1_init_23 (fun q2 dB H hK hP hD hS => ?_)
  have hd : dB = dA := Option.some.inj ((hK.2 1 _ rfl).2.symm.trans (hK.2 0 _ rfl).2)
  rw [hd] at hK hP hD
  have hK : va_K D vwCl [(dA, .int)] s := hK.sub [0] rfl
  have hP : va_P D vwCl [(h0, .inr (1, [.ref q0, .ref q1, .null, .null, .null, .null, .null, .int (nI 0)])), (q0, .inl (dA, 6, .inl (fun _ => nI 0))), (q1, .inl (dA, 6, .inl (fun _ => nI 0))), (q2, .inl (dA, 6, .inl (fun _ => nI 0)))] H := hP
  have hD : va_D A [(h0, .inr (1, [.ref q0, .ref q1, .null, .null, .null, .null, .null, .int (nI 0)])), (q0, .inl (dA, 6, .inl (fun _ => nI 0))), (q1, .inl (dA, 6, .inl (fun _ => nI 0))), (q2, .inl (dA, 6, .inl (fun _ => nI 0)))] := hD
  refine va_putF (D := D) (ci := 1) (v := .ref q2) (ty := .array .int) (C := RX1) (T := TX1) (N := 8) hx hb hts in_X1 tyX1 tyX1_ok nmX1 hown hK hP hD hS 0 rfl rfl 2 (by decide) (hts _ q202) (fun _ h9 => h9) rfl hin rfl (by decide +kernel) rfl rfl (Nat.le_of_ble_eq_true rfl) dX1_init_25 (fun H locs hP hD hS => ?_)
  have hP : va_P D vwCl [(h0, .inr (1, [.ref q0, .ref q1, .ref q2, .null, .null, .null, .null, .int (nI 0)])), (q0, .inl (dA, 6, .inl (fun _ => nI 0))), (q1, .inl (dA, 6, .inl (fun _ => nI 0))), (q2, .inl (dA, 6, .inl (fun _ => nI 0)))] H := hP
  have hD : va_D A [(h0, .inr (1, [.ref q0, .ref q1, .ref q2, .null, .null, .null, .null, .int (nI 0)])), (q0, .inl (dA, 6, .inl (fun _ => nI 0))), (q1, .inl (dA, 6, .inl (fun _ => nI 0))), (q2, .inl (dA, 6, .inl (fun _ => nI 0)))] := hD
  refine lv_aload_n hx hb dX1_init_28 rfl (lv_at hl 0 rfl) ?_
  refine lv_bipush (v := nI 6) hx hb dX1_init_29 (by decide) ?_
  refine va_newa (atype := .int) (ty := .int) (a0 := (6, .inl (fun _ => nI 0))) hx hb (hts _ q60) rfl hK hP hD hS hA (fun _ => rfl) (by decide) (by decide) (by decide) (Nat.le_of_ble_eq_true rfl) (Nat.le_of_ble_eq_true rfl) dX1_init_31 (fun q3 dB H hK hP hD hS => ?_)
  have hd : dB = dA := Option.some.inj ((hK.2 1 _ rfl).2.symm.trans (hK.2 0 _ rfl).2)
  rw [hd] at hK hP hD
  have hK : va_K D vwCl [(dA, .int)] s := hK.sub [0] rfl
  have hP : va_P D vwCl [(h0, .inr (1, [.ref q0, .ref q1, .ref q2, .null, .null, .null, .null, .int (nI 0)])), (q0, .inl (dA, 6, .inl (fun _ => nI 0))), (q1, .inl (dA, 6, .inl (fun _ => nI 0))), (q2, .inl (dA, 6, .inl (fun _ => nI 0))), (q3, .inl (dA, 6, .inl (fun _ => nI 0)))] H := hP
  have hD : va_D A [(h0, .inr (1, [.ref q0, .ref q1, .ref q2, .null, .null, .null, .null, .int (nI 0)])), (q0, .inl (dA, 6, .inl (fun _ => nI 0))), (q1, .inl (dA, 6, .inl (fun _ => nI 0))), (q2, .inl (dA, 6, .inl (fun _ => nI 0))), (q3, .inl (dA, 6, .inl (fun _ => nI 0)))] := hD
  refine va_putF (D := D) (ci := 1) (v := .ref q3) (ty := .array .int) (C := RX1) (T := TX1) (N := 8) hx hb hts in_X1 tyX1 tyX1_ok nmX1 hown hK hP hD hS 0 rfl rfl 3 (by decide) (hts _ q203) (fun _ h9 => h9) rfl hin rfl (by decide +kernel) rfl rfl (Nat.le_of_ble_eq_true rfl) dX1_init_33 (fun H locs hP hD hS => ?_)
  have hP : va_P D vwCl [(h0, .inr (1, [.ref q0, .ref q1, .ref q2, .ref q3, .null, .null, .null, .int (nI 0)])), (q0, .inl (dA, 6, .inl (fun _ => nI 0))), (q1, .inl (dA, 6, .inl (fun _ => nI 0))), (q2, .inl (dA, 6, .inl (fun _ => nI 0))), (q3, .inl (dA, 6, .inl (fun _ => nI 0)))] H := hP
  have hD : va_D A [(h0, .inr (1, [.ref q0, .ref q1, .ref q2, .ref q3, .null, .null, .null, .int (nI 0)])), (q0, .inl (dA, 6, .inl (fun _ => nI 0))), (q1, .inl (dA, 6, .inl (fun _ => nI 0))), (q2, .inl (dA, 6, .inl (fun _ => nI 0))), (q3, .inl (dA, 6, .inl (fun _ => nI 0)))] := hD
  refine lv_aload_n hx hb dX1_init_36 rfl (lv_at hl 0 rfl) ?_
  refine lv_bipush (v := nI 6) hx hb dX1_init_37 (by decide) ?_
  refine va_newa (atype := .int) (ty := .int) (a0 := (6, .inl (fun _ => nI 0))) hx hb (hts _ q60) rfl hK hP hD hS hA (fun _ => rfl) (by decide) (by decide) (by decide) (Nat.le_of_ble_eq_true rfl) (Nat.le_of_ble_eq_true rfl) dX1_init_39 (fun q4 dB H hK hP hD hS => ?_)
  have hd : dB = dA := Option.some.inj ((hK.2 1 _ rfl).2.symm.trans (hK.2 0 _ rfl).2)
  rw [hd] at hK hP hD
  have hK : va_K D vwCl [(dA, .int)] s := hK.sub [0] rfl
  have hP : va_P D vwCl [(h0, .inr (1, [.ref q0, .ref q1, .ref q2, .ref q3, .null, .null, .null, .int (nI 0)])), (q0, .inl (dA, 6, .inl (fun _ => nI 0))), (q1, .inl (dA, 6, .inl (fun _ => nI 0))), (q2, .inl (dA, 6, .inl (fun _ => nI 0))), (q3, .inl (dA, 6, .inl (fun _ => nI 0))), (q4, .inl (dA, 6, .inl (fun _ => nI 0)))] H := hP
  have hD : va_D A [(h0, .inr (1, [.ref q0, .ref q1, .ref q2, .ref q3, .null, .null, .null, .int (nI 0)])), (q0, .inl (dA, 6, .inl (fun _ => nI 0))), (q1, .inl (dA, 6, .inl (fun _ => nI 0))), (q2, .inl (dA, 6, .inl (fun _ => nI 0))), (q3, .inl (dA, 6, .inl (fun _ => nI 0))), (q4, .inl (dA, 6, .inl (fun _ => nI 0)))] := hD
  refine va_putF (D := D) (ci := 1) (v := .ref q4) (ty := .array .int) (C := RX1) (T := TX1) (N := 8) hx hb hts in_X1 tyX1 tyX1_ok nmX1 hown hK hP hD hS 0 rfl rfl 4 (by decide) (hts _ q204) (fun _ h9 => h9) rfl hin rfl (by decide +kernel) rfl rfl (Nat.le_of_ble_eq_true rfl) dX1_init_41 (fun H locs hP hD hS => ?_)
  have hP : va_P D vwCl [(h0, .inr (1, [.ref q0, .ref q1, .ref q2, .ref q3, .ref q4, .null, .null, .int (nI 0)])), (q0, .inl (dA, 6, .inl (fun _ => nI 0))), (q1, .inl (dA, 6, .inl (fun _ => nI 0))), (q2, .inl (dA, 6, .inl (fun _ => nI 0))), (q3, .inl (dA, 6, .inl (fun _ => nI 0))), (q4, .inl (dA, 6, .inl (fun _ => nI 0)))] H := hP
  have hD : va_D A [(h0, .inr (1, [.ref q0, .ref q1, .ref q2, .ref q3, .ref q4, .null, .null, .int (nI 0)])), (q0, .inl (dA, 6, .inl (fun _ => nI 0))), (q1, .inl (dA, 6, .inl (fun _ => nI 0))), (q2, .inl (dA, 6, .inl (fun _ => nI 0))), (q3, .inl (dA, 6, .inl (fun _ => nI 0))), (q4, .inl (dA, 6, .inl (fun _ => nI 0)))] := hD
  refine lv_aload_n hx hb dX1_init_44 rfl (lv_at hl 0 rfl) ?_
  refine lv_bipush (v := nI 6) hx hb dX1_init_45 (by decide) ?_
  refine va_newa (atype := .int) (ty := .int) (a0 := (6, .inl (fun _ => nI 0))) hx hb (hts _ q60) rfl hK hP hD hS hA (fun _ => rfl) (by decide) (by decide) (by decide) (Nat.le_of_ble_eq_true rfl) (Nat.le_of_ble_eq_true rfl) dX1_init_47 (fun q5 dB H hK hP hD hS => ?_)
  have hd : dB = dA := Option.some.inj ((hK.2 1 _ rfl).2.symm.trans (hK.2 0 _ rfl).2)
  rw [hd] at hK hP hD
  have hK : va_K D vwCl [(dA, .int)] s := hK.sub [0] rfl
  have hP : va_P D vwCl [(h0, .inr (1, [.ref q0, .ref q1, .ref q2, .ref q3, .ref q4, .null, .null, .int (nI 0)])), (q0, .inl (dA, 6, .inl (fun _ => nI 0))), (q1, .inl (dA, 6, .inl (fun _ => nI 0))), (q2, .inl (dA, 6, .inl (fun _ => nI 0))), (q3, .inl (dA, 6, .inl (fun _ => nI 0))), (q4, .inl (dA, 6, .inl (fun _ => nI 0))), (q5, .inl (dA, 6, .inl (fun _ => nI 0)))] H := hP
  have hD : va_D A [(h0, .inr (1, [.ref q0, .ref q1, .ref q2, .ref q3, .ref q4, .null, .null, .int (nI 0)])), (q0, .inl (dA, 6, .inl (fun _ => nI 0))), (q1, .inl (dA, 6, .inl (fun _ => nI 0))), (q2, .inl (dA, 6, .inl (fun _ => nI 0))), (q3, .inl (dA, 6, .inl (fun _ => nI 0))), (q4, .inl (dA, 6, .inl (fun _ => nI 0))), (q5, .inl (dA, 6, .inl (fun _ => nI 0)))] := hD
  refine va_putF (D := D) (ci := 1) (v := .ref q5) (ty := .array .int) (C := RX1) (T := TX1) (N := 8) hx hb hts in_X1 tyX1 tyX1_ok nmX1 hown hK hP hD hS 0 rfl rfl 5 (by decide) (hts _ q205) (fun _ h9 => h9) rfl hin rfl (by decide +kernel) rfl rfl (Nat.le_of_ble_eq_true rfl) dX1_init_49 (fun H locs hP hD hS => ?_)
  have hP : va_P D vwCl [(h0, .inr (1, [.ref q0, .ref q1, .ref q2, .ref q3, .ref q4, .ref q5, .null, .int (nI 0)])), (q0, .inl (dA, 6, .inl (fun _ => nI 0))), (q1, .inl (dA, 6, .inl (fun _ => nI 0))), (q2, .inl (dA, 6, .inl (fun _ => nI 0))), (q3, .inl (dA, 6, .inl (fun _ => nI 0))), (q4, .inl (dA, 6, .inl (fun _ => nI 0))), (q5, .inl (dA, 6, .inl (fun _ => nI 0)))] H := hP
  have hD : va_D A [(h0, .inr (1, [.ref q0, .ref q1, .ref q2, .ref q3, .ref q4, .ref q5, .null, .int (nI 0)])), (q0, .inl (dA, 6, .inl (fun _ => nI 0))), (q1, .inl (dA, 6, .inl (fun _ => nI 0))), (q2, .inl (dA, 6, .inl (fun _ => nI 0))), (q3, .inl (dA, 6, .inl (fun _ => nI 0))), (q4, .inl (dA, 6, .inl (fun _ => nI 0))), (q5, .inl (dA, 6, .inl (fun _ => nI 0)))] := hD
  refine lv_aload_n hx hb dX1_init_52 rfl (lv_at hl 0 rfl) ?_
  refine lv_bipush (v := nI 6) hx hb dX1_init_53 (by decide) ?_
  refine va_newa (atype := .int) (ty := .int) (a0 := (6, .inl (fun _ => nI 0))) hx hb (hts _ q60) rfl hK hP hD hS hA (fun _ => rfl) (by decide) (by decide) (by decide) (Nat.le_of_ble_eq_true rfl) (Nat.le_of_ble_eq_true rfl) dX1_init_55 (fun q6 dB H hK hP hD hS => ?_)
  have hd : dB = dA := Option.some.inj ((hK.2 1 _ rfl).2.symm.trans (hK.2 0 _ rfl).2)
  rw [hd] at hK hP hD
  have hK : va_K D vwCl [(dA, .int)] s := hK.sub [0] rfl
  have hP : va_P D vwCl [(h0, .inr (1, [.ref q0, .ref q1, .ref q2, .ref q3, .ref q4, .ref q5, .null, .int (nI 0)])), (q0, .inl (dA, 6, .inl (fun _ => nI 0))), (q1, .inl (dA, 6, .inl (fun _ => nI 0))), (q2, .inl (dA, 6, .inl (fun _ => nI 0))), (q3, .inl (dA, 6, .inl (fun _ => nI 0))), (q4, .inl (dA, 6, .inl (fun _ => nI 0))), (q5, .inl (dA, 6, .inl (fun _ => nI 0))), (q6, .inl (dA, 6, .inl (fun _ => nI 0)))] H := hP
  have hD : va_D A [(h0, .inr (1, [.ref q0, .ref q1, .ref q2, .ref q3, .ref q4, .ref q5, .null, .int (nI 0)])), (q0, .inl (dA, 6, .inl (fun _ => nI 0))), (q1, .inl (dA, 6, .inl (fun _ => nI 0))), (q2, .inl (dA, 6, .inl (fun _ => nI 0))), (q3, .inl (dA, 6, .inl (fun _ => nI 0))), (q4, .inl (dA, 6, .inl (fun _ => nI 0))), (q5, .inl (dA, 6, .inl (fun _ => nI 0))), (q6, .inl (dA, 6, .inl (fun _ => nI 0)))] := hD
  refine va_putF (D := D) (ci := 1) (v := .ref q6) (ty := .array .int) (C := RX1) (T := TX1) (N := 8) hx hb hts in_X1 tyX1 tyX1_ok nmX1 hown hK hP hD hS 0 rfl rfl 6 (by decide) (hts _ q206) (fun _ h9 => h9) rfl hin rfl (by decide +kernel) rfl rfl (Nat.le_of_ble_eq_true rfl) dX1_init_57 (fun H locs hP hD hS => ?_)
  have hP : va_P D vwCl [(h0, .inr (1, [.ref q0, .ref q1, .ref q2, .ref q3, .ref q4, .ref q5, .ref q6, .int (nI 0)])), (q0, .inl (dA, 6, .inl (fun _ => nI 0))), (q1, .inl (dA, 6, .inl (fun _ => nI 0))), (q2, .inl (dA, 6, .inl (fun _ => nI 0))), (q3, .inl (dA, 6, .inl (fun _ => nI 0))), (q4, .inl (dA, 6, .inl (fun _ => nI 0))), (q5, .inl (dA, 6, .inl (fun _ => nI 0))), (q6, .inl (dA, 6, .inl (fun _ => nI 0)))] H := hP
  have hD : va_D A [(h0, .inr (1, [.ref q0, .ref q1, .ref q2, .ref q3, .ref q4, .ref q5, .ref q6, .int (nI 0)])), (q0, .inl (dA, 6, .inl (fun _ => nI 0))), (q1, .inl (dA, 6, .inl (fun _ => nI 0))), (q2, .inl (dA, 6, .inl (fun _ => nI 0))), (q3, .inl (dA, 6, .inl (fun _ => nI 0))), (q4, .inl (dA, 6, .inl (fun _ => nI 0))), (q5, .inl (dA, 6, .inl (fun _ => nI 0))), (q6, .inl (dA, 6, .inl (fun _ => nI 0)))] := hD
  exact W.vret hx hb hr (fun t ht hW => ⟨⟨(dA, fun k => if k = 0 then q0 else if k = 1 then q1 else if k = 2 then q2 else if k = 3 then q3 else if k = 4 then q4 else if k = 5 then q5 else q6), rfl, trivial, by rw [ht]; exact hP, va_K.moved hW.alike hK, hD⟩, hS.F ht⟩) hS.2.2 dX1_init_60
end
section
/-! PLAIN LAW, 1: bits, sums, orders of the six points -/
theorem zr_lt6 {a i : Nat} (ha : a < 64) (h : a.testBit i = true) : i < 6 := by
  rcases Nat.lt_or_ge i 6 with h1 | h1
  · exact h1
  · have h2 : a < 2 ^ i := Nat.lt_of_lt_of_le (show a < 2 ^ 6 from ha) (Nat.pow_le_pow_right (by decide) h1)
    rw [Nat.testBit_lt_two_pow h2] at h
    exact absurd h (by decide)
theorem zr_ext {a b : Nat} (ha : a < 64) (hb : b < 64) (h : ∀ i, i < 6 → a.testBit i = b.testBit i) : a = b := by
  refine Nat.eq_of_testBit_eq (fun i => ?_)
  rcases Nat.lt_or_ge i 6 with h1 | h1
  · exact h i h1
  · have h2 : (2 : Nat) ^ 6 ≤ 2 ^ i := Nat.pow_le_pow_right (by decide) h1
    rw [Nat.testBit_lt_two_pow (Nat.lt_of_lt_of_le (show a < 2 ^ 6 from ha) h2), Nat.testBit_lt_two_pow (Nat.lt_of_lt_of_le (show b < 2 ^ 6 from hb) h2)]
theorem zr_orb (S p i : Nat) : (S ||| 2 ^ p).testBit i = (S.testBit i || decide (p = i)) := by
  rw [Nat.testBit_or, Nat.testBit_two_pow]
theorem zr_sdb (S p i : Nat) : (zp_sd S (2 ^ p)).testBit i = (S.testBit i && !decide (p = i)) := by
  rw [zp_sd_bit, Nat.testBit_two_pow]
theorem zr_63 : ∀ p, p < 6 → (63 : Nat).testBit p = true := by decide
theorem zr_pop_or : ∀ S, S < 64 → ∀ p, p < 6 → S.testBit p = false → zp_pop (S ||| 2 ^ p) = zp_pop S + 1 := by decide +kernel
theorem zr_pop_sd : ∀ S, S < 64 → ∀ p, p < 6 → S.testBit p = true → zp_pop S = zp_pop (zp_sd S (2 ^ p)) + 1 := by decide +kernel
theorem zr_pop_6 : ∀ S, S < 64 → zp_pop S = 6 → S = 63 := by decide +kernel
theorem zr_pop_c : ∀ S, S < 64 → zp_pop (zp_sd 63 S) + zp_pop S = 6 := by decide +kernel
theorem zr_pop_nz : ∀ S, S < 64 → 0 < zp_pop S → S.testBit 0 = true ∨ S.testBit 1 = true ∨ S.testBit 2 = true ∨ S.testBit 3 = true ∨ S.testBit 4 = true ∨ S.testBit 5 = true := by decide +kernel
theorem zr_pop_pos : ∀ S, S < 64 → (0 < zp_pop S ↔ S ≠ 0) := by decide +kernel
theorem zr_grow : ∀ s, s < 64 → ∀ t, t < 64 → s ||| t = s ∨ zp_pop s < zp_pop (s ||| t) := by decide +kernel
theorem zr_pop_pw : ∀ p, p < 6 → zp_pop (2 ^ p) = 1 := by decide +kernel
theorem zr_has {S : Nat} (hS : S < 64) (h : 0 < zp_pop S) : ∃ p, p < 6 ∧ S.testBit p = true := by
  rcases zr_pop_nz S hS h with h | h | h | h | h | h
  · exact ⟨0, by decide, h⟩
  · exact ⟨1, by decide, h⟩
  · exact ⟨2, by decide, h⟩
  · exact ⟨3, by decide, h⟩
  · exact ⟨4, by decide, h⟩
  · exact ⟨5, by decide, h⟩
theorem zr_sd_or {S p : Nat} (hS : S < 64) (hp : p < 6) (h : S.testBit p = true) : zp_sd S (2 ^ p) ||| 2 ^ p = S := by
  refine zr_ext (zp_or_lt (zp_sd_lt hS) (zp_pw_lt p hp)) hS (fun i _ => ?_)
  rw [zr_orb, zr_sdb]
  by_cases q : p = i
  · subst q; simp [h]
  · simp [q]
theorem zr_or_sd {S p : Nat} (hS : S < 64) (hp : p < 6) (h : S.testBit p = false) : zp_sd (S ||| 2 ^ p) (2 ^ p) = S := by
  refine zr_ext (zp_sd_lt (zp_or_lt hS (zp_pw_lt p hp))) hS (fun i _ => ?_)
  rw [zr_sdb, zr_orb]
  by_cases q : p = i
  · subst q; simp [h]
  · simp [q]
-- ===== sums =====
theorem zr_sm_add (f h : Nat → Nat) : ∀ n, zp_sm (fun i => f i + h i) n = zp_sm f n + zp_sm h n
  | 0 => rfl
  | n + 1 => by
    have ih := zr_sm_add f h n
    show zp_sm (fun i => f i + h i) n + (f n + h n) = zp_sm f n + f n + (zp_sm h n + h n)
    omega
theorem zr_sm_0 : ∀ n, zp_sm (fun _ => 0) n = 0
  | 0 => rfl
  | n + 1 => zr_sm_0 n
theorem zr_sm_z {f : Nat → Nat} (n : Nat) (h : ∀ i, i < n → f i = 0) : zp_sm f n = 0 := (zp_sm_congr n h).trans (zr_sm_0 n)
theorem zr_sm_swap (f : Nat → Nat → Nat) (m : Nat) : ∀ n, zp_sm (fun i => zp_sm (f i) m) n = zp_sm (fun j => zp_sm (fun i => f i j) n) m
  | 0 => (zr_sm_0 m).symm
  | n + 1 => by
    have ih := zr_sm_swap f m n
    show zp_sm (fun i => zp_sm (f i) m) n + zp_sm (f n) m = zp_sm (fun j => zp_sm (fun i => f i j) n + f n j) m
    rw [ih, zr_sm_add]
theorem zr_sm_one {f : Nat → Nat} {k : Nat} : ∀ n, k < n → (∀ i, i < n → i ≠ k → f i = 0) → zp_sm f n = f k
  | 0, h, _ => absurd h (Nat.not_lt_zero k)
  | n + 1, h, h2 => by
    show zp_sm f n + f n = f k
    by_cases q : k = n
    · subst q
      rw [zr_sm_z k (fun i hi => h2 i (Nat.lt_succ_of_lt hi) (Nat.ne_of_lt hi)), Nat.zero_add]
    · rw [zr_sm_one n (by omega) (fun i hi => h2 i (Nat.lt_succ_of_lt hi)), h2 n (Nat.lt_succ_self n) (fun z => q z.symm), Nat.add_zero]
theorem zr_sm_front (f : Nat → Nat) : ∀ n, zp_sm f (n + 1) = f 0 + zp_sm (fun i => f (i + 1)) n
  | 0 => by show 0 + f 0 = f 0 + 0; omega
  | n + 1 => by
    have ih := zr_sm_front f n
    show zp_sm f (n + 1) + f (n + 1) = f 0 + (zp_sm (fun i => f (i + 1)) n + f (n + 1))
    omega
theorem zr_sm_app (f : Nat → Nat) (a : Nat) : ∀ b, zp_sm f (a + b) = zp_sm f a + zp_sm (fun i => f (a + i)) b
  | 0 => rfl
  | b + 1 => by
    have ih := zr_sm_app f a b
    show zp_sm f (a + b) + f (a + b) = zp_sm f a + (zp_sm (fun i => f (a + i)) b + f (a + b))
    omega
theorem zr_sm_mul (f : Nat → Nat) (b : Nat) : ∀ a, zp_sm f (a * b) = zp_sm (fun d => zp_sm (fun y => f (d * b + y)) b) a
  | 0 => by rw [Nat.zero_mul]; rfl
  | a + 1 => by
    have ih := zr_sm_mul f b a
    rw [Nat.succ_mul, zr_sm_app, ih]
    rfl
theorem zr_mx_congr {f f' : Nat → Nat} : ∀ n, (∀ p, p < n → f p = f' p) → zp_mx f n = zp_mx f' n
  | 0, _ => rfl
  | n + 1, h => by
    show max (zp_mx f n) (f n) = max (zp_mx f' n) (f' n)
    rw [zr_mx_congr n (fun p hp => h p (Nat.lt_succ_of_lt hp)), h n (Nat.lt_succ_self n)]
theorem zr_mx_iff {f : Nat → Nat} {b : Nat} : ∀ n, zp_mx f n ≤ b ↔ ∀ i, i < n → f i ≤ b
  | 0 => ⟨fun _ i hi => absurd hi (Nat.not_lt_zero i), fun _ => Nat.zero_le b⟩
  | n + 1 => by
    have ih := zr_mx_iff (f := f) (b := b) n
    show max (zp_mx f n) (f n) ≤ b ↔ _
    rw [Nat.max_le, ih]
    constructor
    · intro h i hi
      by_cases q : i = n
      · subst q; exact h.2
      · exact h.1 i (by omega)
    · intro h
      exact ⟨fun i hi => h i (by omega), h n (Nat.lt_succ_self n)⟩
-- ===== the first points of an order, as a set =====
def zr_pn (n : Nat) (r : Nat → Nat) : Prop := (∀ i, i < n → r i < 6) ∧ ∀ i j, i < n → j < n → r i = r j → i = j
theorem zr_pn_le {m n : Nat} {r : Nat → Nat} (h : zr_pn n r) (hm : m ≤ n) : zr_pn m r := ⟨fun i hi => h.1 i (by omega), fun i j hi hj => h.2 i j (by omega) (by omega)⟩
theorem zr_ear_s (r : Nat → Nat) (n : Nat) : zp_ear r (n + 1) = zp_ear r n ||| 2 ^ (r n) := rfl
theorem zr_ear {r : Nat → Nat} {i : Nat} : ∀ n, (zp_ear r n).testBit i = true ↔ ∃ k, k < n ∧ r k = i
  | 0 => by
    constructor
    · intro h
      have h : (0 : Nat).testBit i = true := h
      rw [Nat.zero_testBit] at h
      exact absurd h (by decide)
    · rintro ⟨k, h, _⟩
      omega
  | n + 1 => by
    have ih := zr_ear (r := r) (i := i) n
    rw [zr_ear_s, zr_orb, Bool.or_eq_true, ih, decide_eq_true_iff]
    constructor
    · rintro (⟨k, h, h2⟩ | h)
      · exact ⟨k, by omega, h2⟩
      · exact ⟨n, by omega, h⟩
    · rintro ⟨k, h, h2⟩
      by_cases hk : k = n
      · subst hk; exact Or.inr h2
      · exact Or.inl ⟨k, by omega, h2⟩
theorem zr_ear_lt {r : Nat → Nat} : ∀ n, (∀ i, i < n → r i < 6) → zp_ear r n < 64
  | 0, _ => by show (0 : Nat) < 64; decide
  | n + 1, h => by
    rw [zr_ear_s]
    exact zp_or_lt (zr_ear_lt n (fun i hi => h i (by omega))) (zp_pw_lt _ (h n (by omega)))
theorem zr_ear_no {r : Nat → Nat} {n i : Nat} (h : zr_pn n r) (hi : i < n) : (zp_ear r i).testBit (r i) = false := by
  cases e : (zp_ear r i).testBit (r i)
  · rfl
  · obtain ⟨k, hk, hr⟩ := (zr_ear i).mp e
    have := h.2 k i (by omega) hi hr
    omega
theorem zr_ear_pop {r : Nat → Nat} : ∀ n, zr_pn n r → zp_pop (zp_ear r n) = n
  | 0, _ => by show zp_pop 0 = 0; decide
  | n + 1, h => by
    have ih := zr_ear_pop n (zr_pn_le h (by omega))
    rw [zr_ear_s, zr_pop_or _ (zr_ear_lt n (fun i hi => h.1 i (by omega))) _ (h.1 n (by omega)) (zr_ear_no h (by omega)), ih]
theorem zr_ear_6 {r : Nat → Nat} (h : zr_pn 6 r) : zp_ear r 6 = 63 := zr_pop_6 _ (zr_ear_lt 6 h.1) (zr_ear_pop 6 h)
theorem zr_ear_congr {r r' : Nat → Nat} : ∀ n, (∀ i, i < n → r i = r' i) → zp_ear r n = zp_ear r' n
  | 0, _ => rfl
  | n + 1, h => by rw [zr_ear_s, zr_ear_s, zr_ear_congr n (fun i hi => h i (by omega)), h n (by omega)]
theorem zr_pn_up {r : Nat → Nat} {n p : Nat} (h : zr_pn n r) (hp : p < 6) (hn : (zp_ear r n).testBit p = false) : zr_pn (n + 1) (va_up r n p) := by
  have a1 : ∀ i, i < n → va_up r n p i = r i := fun i hi => zp_up_n (by omega)
  have a2 : va_up r n p n = p := zp_up_s r n p
  have a3 : ∀ i, i < n → r i ≠ p := fun i hi e => by
    rw [(zr_ear n).mpr ⟨i, hi, e⟩] at hn
    exact absurd hn (by decide)
  refine ⟨fun i hi => ?_, fun i j hi hj e => ?_⟩
  · by_cases q : i = n
    · subst q; rw [a2]; exact hp
    · rw [a1 i (by omega)]; exact h.1 i (by omega)
  · by_cases q : i = n
    · by_cases q2 : j = n
      · omega
      · rw [q, a2, a1 j (by omega)] at e
        exact absurd e.symm (a3 j (by omega))
    · by_cases q2 : j = n
      · rw [q2, a2, a1 i (by omega)] at e
        exact absurd e (a3 i (by omega))
      · rw [a1 i (by omega), a1 j (by omega)] at e
        exact h.2 i j (by omega) (by omega) e
theorem zr_up_ear {r : Nat → Nat} {n p : Nat} : zp_ear (va_up r n p) (n + 1) = zp_ear r n ||| 2 ^ p := by
  rw [zr_ear_s, zp_up_s, zr_ear_congr n (fun i hi => zp_up_n (by omega))]
/-- a sum over the first n points of an order, as a sum over points -/
theorem zr_reix {r : Nat → Nat} (h : zr_pn 6 r) (f : Nat → Nat) : ∀ n, n ≤ 6 → zp_sm (fun p => if (zp_ear r n).testBit p = true then f p else 0) 6 = zp_sm (fun k => f (r k)) n
  | 0, _ => by
    refine zr_sm_z 6 (fun p _ => if_neg ?_)
    show ¬ (0 : Nat).testBit p = true
    rw [Nat.zero_testBit]
    decide
  | n + 1, hn => by
    have ih := zr_reix h f n (by omega)
    have e1 : zp_sm (fun p => if p = r n then f p else 0) 6 = f (r n) := (zr_sm_one (f := fun p => if p = r n then f p else 0) (k := r n) 6 (h.1 n (by omega)) (fun i _ hi => if_neg hi)).trans (if_pos rfl)
    show _ = zp_sm (fun k => f (r k)) n + f (r n)
    rw [← ih, ← e1, ← zr_sm_add]
    refine zp_sm_congr 6 (fun p hp => ?_)
    have hno := zr_ear_no h (show n < 6 by omega)
    rw [zr_ear_s, zr_orb]
    by_cases hq : p = r n
    · subst hq; simp [hno]
    · have : ¬ r n = p := fun z => hq z.symm
      simp [hq, this]
theorem zr_reall {r : Nat → Nat} (h : zr_pn 6 r) (f : Nat → Nat) : zp_sm f 6 = zp_sm (fun k => f (r k)) 6 := by
  rw [← zr_reix h f 6 (Nat.le_refl 6), zr_ear_6 h]
  exact zp_sm_congr 6 (fun p hp => (if_pos (zr_63 p hp)).symm)
end
section
/-! PLAIN LAW, 2: taking points out one by one, and ways over the points taken out -/
def zr_R (g : Nat → Nat) (E p : Nat) : Nat := zp_it (zp_rnd g E p) (2 ^ p) 6
theorem zr_omb {f : Nat → Nat} {i : Nat} : ∀ n, (zp_om f n).testBit i = true ↔ ∃ k, k < n ∧ (f k).testBit i = true
  | 0 => by
    constructor
    · intro h
      have h : (0 : Nat).testBit i = true := h
      rw [Nat.zero_testBit] at h
      exact absurd h (by decide)
    · rintro ⟨k, h, _⟩
      omega
  | n + 1 => by
    have ih := zr_omb (f := f) (i := i) n
    show (zp_om f n ||| f n).testBit i = true ↔ _
    rw [Nat.testBit_or, Bool.or_eq_true, ih]
    constructor
    · rintro (⟨k, h, h2⟩ | h)
      · exact ⟨k, by omega, h2⟩
      · exact ⟨n, by omega, h⟩
    · rintro ⟨k, h, h2⟩
      by_cases hk : k = n
      · subst hk; exact Or.inr h2
      · exact Or.inl ⟨k, by omega, h2⟩
theorem zr_rndb {g : Nat → Nat} {E p s u : Nat} : (zp_rnd g E p s).testBit u = true ↔ s.testBit u = true ∨ ∃ q, q < 6 ∧ s.testBit q = true ∧ (q = p ∨ E.testBit q = true) ∧ (g q).testBit u = true := by
  unfold zp_rnd
  rw [Nat.testBit_or, Bool.or_eq_true, zr_omb]
  constructor
  · rintro (h | ⟨q, hq, h⟩)
    · exact Or.inl h
    · unfold zp_stp at h
      split at h
      · rename_i hc
        exact Or.inr ⟨q, hq, hc.1, hc.2, h⟩
      · rw [Nat.zero_testBit] at h
        exact absurd h (by decide)
  · rintro (h | ⟨q, hq, h1, h2, h3⟩)
    · exact Or.inl h
    · refine Or.inr ⟨q, hq, ?_⟩
      unfold zp_stp
      rw [if_pos ⟨h1, h2⟩]
      exact h3
theorem zr_fix {g : Nat → Nat} (hg : ∀ p, p < 6 → g p < 64) {E p : Nat} (hp : p < 6) : zp_rnd g E p (zr_R g E p) = zr_R g E p := by
  have key : ∀ n, zp_rnd g E p (zp_it (zp_rnd g E p) (2 ^ p) n) = zp_it (zp_rnd g E p) (2 ^ p) n ∨ n + 1 ≤ zp_pop (zp_it (zp_rnd g E p) (2 ^ p) n) := by
    intro n
    induction n with
    | zero => exact Or.inr (by show 1 ≤ zp_pop (2 ^ p); rw [zr_pop_pw p hp]; exact Nat.le_refl 1)
    | succ n ih =>
      have e : zp_it (zp_rnd g E p) (2 ^ p) (n + 1) = zp_rnd g E p (zp_it (zp_rnd g E p) (2 ^ p) n) := rfl
      rcases ih with h | h
      · left
        rw [e, h, h]
      · have hl := zp_itr_lt hg (E := E) hp n
        rcases zr_grow _ hl _ (zp_om_lt 6 (zp_stp_lt hg E p (zp_it (zp_rnd g E p) (2 ^ p) n))) with h2 | h2
        · left
          have h3 : zp_rnd g E p (zp_it (zp_rnd g E p) (2 ^ p) n) = zp_it (zp_rnd g E p) (2 ^ p) n := h2
          rw [e, h3, h3]
        · right
          rw [e]
          exact Nat.succ_le_of_lt (Nat.lt_of_le_of_lt h h2)
  rcases key 6 with h | h
  · exact h
  · have := zp_pop_le (zp_it (zp_rnd g E p) (2 ^ p) 6)
    omega
theorem zr_self (g : Nat → Nat) (E p : Nat) : (zr_R g E p).testBit p = true := by
  have key : ∀ n, (zp_it (zp_rnd g E p) (2 ^ p) n).testBit p = true := by
    intro n
    induction n with
    | zero => exact Nat.testBit_two_pow_self
    | succ n ih => exact zr_rndb.mpr (Or.inl ih)
  exact key 6
theorem zr_cl {g : Nat → Nat} (hg : ∀ p, p < 6 → g p < 64) {E p q u : Nat} (hp : p < 6) (hq6 : q < 6) (hq : (zr_R g E p).testBit q = true) (hc : q = p ∨ E.testBit q = true) (hu : (g q).testBit u = true) : (zr_R g E p).testBit u = true := by
  have h := zr_rndb.mpr (Or.inr ⟨q, hq6, hq, hc, hu⟩)
  rw [zr_fix hg hp] at h
  exact h
theorem zr_min {g : Nat → Nat} {E p : Nat} {C : Nat → Prop} (h0 : C p) (h : ∀ q u, q < 6 → C q → (q = p ∨ E.testBit q = true) → (g q).testBit u = true → C u) : ∀ u, (zr_R g E p).testBit u = true → C u := by
  have key : ∀ n u, (zp_it (zp_rnd g E p) (2 ^ p) n).testBit u = true → C u := by
    intro n
    induction n with
    | zero =>
      intro u hu
      have hu : (2 ^ p).testBit u = true := hu
      rw [Nat.testBit_two_pow, decide_eq_true_iff] at hu
      rw [← hu]
      exact h0
    | succ n ih =>
      intro u hu
      have hu : (zp_rnd g E p (zp_it (zp_rnd g E p) (2 ^ p) n)).testBit u = true := hu
      rcases zr_rndb.mp hu with h1 | ⟨q, hq, h1, h2, h3⟩
      · exact ih u h1
      · exact h q u hq (ih q h1) h2 h3
  exact key 6
theorem zr_R_or {g : Nat → Nat} (hg : ∀ p, p < 6 → g p < 64) {E v p u : Nat} (hv : v < 6) (hp : p < 6) : (zr_R g (E ||| 2 ^ v) p).testBit u = true ↔ (zr_R g E p).testBit u = true ∨ ((zr_R g E p).testBit v = true ∧ (zr_R g E v).testBit u = true) := by
  have mono : ∀ u, (zr_R g E p).testBit u = true → (zr_R g (E ||| 2 ^ v) p).testBit u = true := zr_min (C := fun u => (zr_R g (E ||| 2 ^ v) p).testBit u = true) (zr_self g _ p) (fun q u hq6 hq hc hu => zr_cl hg hp hq6 hq (hc.imp id (fun h => by rw [zr_orb, h]; rfl)) hu)
  constructor
  · refine zr_min (C := fun u => (zr_R g E p).testBit u = true ∨ ((zr_R g E p).testBit v = true ∧ (zr_R g E v).testBit u = true)) (Or.inl (zr_self g E p)) (fun q u hq6 hq hc hu => ?_) u
    rcases hq with h1 | ⟨h1, h2⟩
    · by_cases hqv : q = v
      · subst hqv
        exact Or.inr ⟨h1, zr_cl hg hv hv (zr_self g E q) (Or.inl rfl) hu⟩
      · refine Or.inl (zr_cl hg hp hq6 h1 (hc.imp id (fun h => ?_)) hu)
        rw [zr_orb, Bool.or_eq_true, decide_eq_true_iff] at h
        exact h.resolve_right (fun z => hqv z.symm)
    · by_cases hqv : q = v
      · subst hqv
        exact Or.inr ⟨h1, zr_cl hg hv hv h2 (Or.inl rfl) hu⟩
      · rcases hc with hc | hc
        · subst hc
          exact Or.inl (zr_cl hg hp hp (zr_self g E q) (Or.inl rfl) hu)
        · rw [zr_orb, Bool.or_eq_true, decide_eq_true_iff] at hc
          exact Or.inr ⟨h1, zr_cl hg hv hq6 h2 (Or.inr (hc.resolve_right (fun z => hqv z.symm))) hu⟩
  · rintro (h | ⟨h1, h2⟩)
    · exact mono u h
    · exact zr_min (C := fun u => (zr_R g (E ||| 2 ^ v) p).testBit u = true) (mono v h1) (fun q u hq6 hq hc hu => zr_cl hg hp hq6 hq (Or.inr (by
        rw [zr_orb, Bool.or_eq_true, decide_eq_true_iff]
        rcases hc with hc | hc
        · exact Or.inr hc.symm
        · exact Or.inl hc)) hu) u h2
theorem zr_sym {g : Nat → Nat} (hG : zp_G g) {E p v : Nat} (hp : p < 6) (h : (zr_R g E p).testBit v = true) : (zr_R g E v).testBit p = true := by
  have sub : ∀ q u, q < 6 → u < 6 → E.testBit q = true → (zr_R g E u).testBit q = true → ∀ w, (zr_R g E q).testBit w = true → (zr_R g E u).testBit w = true := fun q u hq hu hE hqu => zr_min (C := fun w => (zr_R g E u).testBit w = true) hqu (fun q' u' hq6 h1 hc hu' => zr_cl hG.1 hu hq6 h1 (Or.inr (hc.elim (fun z => by rw [z]; exact hE) id)) hu')
  have key : ∀ u, (zr_R g E p).testBit u = true → u < 6 ∧ (zr_R g E u).testBit p = true := by
    refine zr_min (C := fun u => u < 6 ∧ (zr_R g E u).testBit p = true) ⟨hp, zr_self g E p⟩ (fun q u hq6 hq hc hu => ?_)
    have hu6 : u < 6 := zr_lt6 (hG.1 q hq6) hu
    have hu2 : (g u).testBit q = true := by rw [hG.2.1 u q hu6 hq6]; exact hu
    have hqu : (zr_R g E u).testBit q = true := zr_cl hG.1 hu6 hu6 (zr_self g E u) (Or.inl rfl) hu2
    refine ⟨hu6, ?_⟩
    rcases hc with hc | hc
    · rw [← hc]; exact hqu
    · exact sub q u hq6 hu6 hc hqu p hq.2
  exact (key v h).2
theorem zr_nb {g : Nat → Nat} {E p u : Nat} : (zp_nbr g E p).testBit u = true ↔ (zr_R g E p).testBit u = true ∧ E.testBit u = false ∧ ¬ p = u := by
  show (zp_sd (zp_sd (zr_R g E p) E) (2 ^ p)).testBit u = true ↔ _
  rw [zr_sdb, zp_sd_bit]
  cases (zr_R g E p).testBit u <;> cases E.testBit u <;> simp
/-- what is left of the lines when the points of an order's beginning are taken out: the neighbours over these -/
theorem zr_lf {g r : Nat → Nat} (hG : zp_G g) (hr : zr_pn 6 r) : ∀ i, i ≤ 6 → ∀ p, p < 6 → (zp_ear r i).testBit p = false → zp_lf g r i p = zp_nbr g (zp_ear r i) p
  | 0, _, p, hp, _ => by
    refine zr_ext (hG.1 p hp) (zp_nbr_lt hG.1 hp) (fun u hu => ?_)
    have e0 : zp_ear r 0 = 0 := rfl
    rw [e0, Bool.eq_iff_iff, zr_nb]
    constructor
    · intro h
      have h : (g p).testBit u = true := h
      refine ⟨zr_cl hG.1 hp hp (zr_self g 0 p) (Or.inl rfl) h, Nat.zero_testBit u, fun z => ?_⟩
      rw [← z, hG.2.2 p hp] at h
      exact absurd h (by decide)
    · rintro ⟨h1, _, h3⟩
      have := zr_min (g := g) (E := 0) (p := p) (C := fun u => u = p ∨ (g p).testBit u = true) (Or.inl rfl) (fun q u _ hq hc hu => Or.inr (by
        rcases hc with hc | hc
        · rw [← hc]; exact hu
        · rw [Nat.zero_testBit] at hc; exact absurd hc (by decide))) u h1
      exact this.resolve_left (fun z => h3 z.symm)
  | i + 1, hi, p, hp, hE => by
    rw [zr_ear_s, zr_orb, Bool.or_eq_false_iff, decide_eq_false_iff_not] at hE
    have hv := hr.1 i (by omega)
    have hvE := zr_ear_no hr (show i < 6 by omega)
    have ihp := zr_lf hG hr i (by omega) p hp hE.1
    have ihv := zr_lf hG hr i (by omega) (r i) hv hvE
    have e2 : zp_lf g r (i + 1) p = zp_sd (zp_join (zp_lf g r i) (zp_lf g r i (r i)) p) (2 ^ (r i)) := rfl
    refine zr_ext (zp_lf_lt hG.1 hr.1 (i + 1) hi p hp) (zp_nbr_lt hG.1 hp) (fun u hu => ?_)
    rw [Bool.eq_iff_iff, zr_nb, zr_ear_s, zr_R_or hG.1 hv hp, zr_orb, Bool.or_eq_false_iff, decide_eq_false_iff_not, e2, zr_sdb, Bool.and_eq_true, Bool.not_eq_true', decide_eq_false_iff_not]
    unfold zp_join
    rw [ihv]
    have n1 := zr_nb (g := g) (E := zp_ear r i) (p := p) (u := u)
    have n2 := zr_nb (g := g) (E := zp_ear r i) (p := r i) (u := u)
    by_cases hS : (zp_nbr g (zp_ear r i) (r i)).testBit p = true
    · have hAv : (zr_R g (zp_ear r i) p).testBit (r i) = true := zr_sym hG hv (zr_nb.mp hS).1
      rw [if_pos hS, ihp, Nat.testBit_or, zr_sdb, zp_sd_bit, Bool.or_eq_true, Bool.and_eq_true, Bool.and_eq_true, Bool.not_eq_true', Bool.not_eq_true', decide_eq_false_iff_not, ← Bool.not_eq_true, n1, n2]
      constructor
      · rintro ⟨h1 | ⟨⟨h1, h2⟩, h3⟩, h4⟩
        · exact ⟨Or.inl h1.1, ⟨h1.2.1, h4⟩, h1.2.2⟩
        · exact ⟨Or.inr ⟨hAv, h1.1⟩, ⟨h1.2.1, h4⟩, h3⟩
      · rintro ⟨h1, ⟨h2, h3⟩, h4⟩
        refine ⟨?_, h3⟩
        by_cases h5 : (zr_R g (zp_ear r i) p).testBit u = true
        · exact Or.inl ⟨h5, h2, h4⟩
        · rcases h1 with h1 | h1
          · exact absurd h1 h5
          · exact Or.inr ⟨⟨⟨h1.2, h2, h3⟩, fun z => h5 z.1⟩, h4⟩
    · have hAv : ¬ (zr_R g (zp_ear r i) p).testBit (r i) = true := fun h => hS (zr_nb.mpr ⟨zr_sym hG hp h, hE.1, hE.2⟩)
      rw [if_neg hS, ihp, n1]
      constructor
      · rintro ⟨h1, h4⟩
        exact ⟨Or.inl h1.1, ⟨h1.2.1, h4⟩, h1.2.2⟩
      · rintro ⟨h1, ⟨h2, h3⟩, h4⟩
        refine ⟨⟨?_, h2, h4⟩, h3⟩
        rcases h1 with h1 | h1
        · exact h1
        · exact absurd h1.1 hAv
theorem zr_put {g r : Nat → Nat} (hG : zp_G g) (hr : zr_pn 6 r) {i : Nat} (hi : i < 6) : zp_put (zp_lf g r i) (zp_lf g r i (r i)) = zp_mis g (zp_ear r i) (r i) := by
  unfold zp_put zp_mis
  rw [zr_lf hG hr i (by omega) (r i) (hr.1 i hi) (zr_ear_no hr hi)]
  rw [zp_sm_congr (f := zp_put1 (zp_lf g r i) (zp_nbr g (zp_ear r i) (r i))) (f' := zp_mis1 g (zp_ear r i) (zp_nbr g (zp_ear r i) (r i))) 6 (fun q hq => ?_)]
  unfold zp_put1 zp_mis1
  by_cases h : (zp_nbr g (zp_ear r i) (r i)).testBit q = true
  · rw [if_pos h, if_pos h, zr_lf hG hr i (by omega) q hq (zr_nb.mp h).2.1]
  · rw [if_neg h, if_neg h]
end
section
/-! PLAIN LAW, 3: what an order comes to, step by step -/
def zr_ps (g : Nat → Nat) (k : Nat) (r : Nat → Nat) (i : Nat) : Nat := zp_pr g k (zp_ear r i) (r i)
def zr_F (g : Nat → Nat) (k : Nat) (r : Nat → Nat) : Nat → Nat
  | 0 => 0
  | n + 1 => zp_jn k (zr_F g k r n) (zr_ps g k r n)
theorem zr_F_s (g : Nat → Nat) (k : Nat) (r : Nat → Nat) (n : Nat) : zr_F g k r (n + 1) = zp_jn k (zr_F g k r n) (zr_ps g k r n) := rfl
theorem zr_F_mx (g : Nat → Nat) {k : Nat} (hk : k < 3) (r : Nat → Nat) : ∀ n, zr_F g k r n = zp_mx (zr_ps g k r) n
  | 0 => rfl
  | n + 1 => by
    rw [zr_F_s, zr_F_mx g hk r n]
    unfold zp_jn
    rw [if_neg (by omega)]
    rfl
theorem zr_F_sm (g : Nat → Nat) {k : Nat} (hk : 3 ≤ k) (r : Nat → Nat) : ∀ n, zr_F g k r n = zp_sm (zr_ps g k r) n
  | 0 => rfl
  | n + 1 => by
    rw [zr_F_s, zr_F_sm g hk r n]
    unfold zp_jn
    rw [if_pos hk]
    rfl
theorem zr_F_congr (g : Nat → Nat) (k : Nat) {r r' : Nat → Nat} : ∀ n, (∀ i, i < n → r i = r' i) → zr_F g k r n = zr_F g k r' n
  | 0, _ => rfl
  | n + 1, h => by
    have e : zr_ps g k r n = zr_ps g k r' n := by
      unfold zr_ps
      rw [zr_ear_congr n (fun i hi => h i (by omega)), h n (by omega)]
    rw [zr_F_s, zr_F_s, zr_F_congr g k n (fun i hi => h i (by omega)), e]
theorem zr_F_up (g : Nat → Nat) (k : Nat) {r : Nat → Nat} {n p : Nat} : zr_F g k (va_up r n p) (n + 1) = zp_jn k (zr_F g k r n) (zp_pr g k (zp_ear r n) p) := by
  have a1 : ∀ i, i < n → va_up r n p i = r i := fun i hi => zp_up_n (by omega)
  rw [zr_F_s, zr_F_congr g k n a1]
  unfold zr_ps
  rw [zr_ear_congr n a1, zp_up_s]
theorem zr_cut {g r : Nat → Nat} (hr : zr_pn 6 r) {i : Nat} (hi : i < 6) : zp_cut g (zp_ear r i ||| 2 ^ r i) = zp_ct g r i :=
  zr_reix hr (fun p => zp_pop (zp_sd (g p) (zp_ear r (i + 1)))) (i + 1) (by omega)
theorem zr_sep {g r : Nat → Nat} (hG : zp_G g) (hr : zr_pn 6 r) {i : Nat} (hi : i < 6) : zp_sep g (zp_ear r i ||| 2 ^ r i) = zp_pt g r i := by
  have h := zr_reix hr (fun p => if 0 < zp_pop (zp_sd (g p) (zp_ear r (i + 1))) then 1 else 0) (i + 1) (by omega)
  have e : zp_sep g (zp_ear r i ||| 2 ^ r i) = zp_sm (fun p => if (zp_ear r (i + 1)).testBit p = true then (if 0 < zp_pop (zp_sd (g p) (zp_ear r (i + 1))) then 1 else 0) else 0) 6 := by
    unfold zp_sep
    rw [← zr_ear_s]
    refine zp_sm_congr 6 (fun p hp => ?_)
    have := zr_pop_pos _ (zp_sd_lt (b := zp_ear r (i + 1)) (hG.1 p hp))
    by_cases h1 : (zp_ear r (i + 1)).testBit p = true
    · by_cases h2 : zp_sd (g p) (zp_ear r (i + 1)) = 0
      · rw [if_neg (fun z => z.2 h2), if_pos h1, if_neg (fun z => this.mp z h2)]
      · rw [if_pos ⟨h1, h2⟩, if_pos h1, if_pos (this.mpr h2)]
    · rw [if_neg (fun z => h1 z.1), if_neg h1]
  rw [e, h]
  rfl
theorem zr_len0 (A : Nat → Nat → Nat) : zp_sm (fun i => zp_sm (fun k => zp_sm (fun j => if i < j then A k j else 0) 6) (i + 1)) 6 = zp_sm (fun i => zp_sm (fun k => (i - k) * A k i) (i + 1)) 6 := by
  simp [zp_sm]
  omega
theorem zr_len {g r : Nat → Nat} (hr : zr_pn 6 r) : zp_sm (zp_s3 g r) 6 = zp_sm (zp_ct g r) 6 := by
  have h := zr_len0 (fun k j => zp_tb (g (r k)) (r j))
  have e1 : zp_sm (zp_s3 g r) 6 = zp_sm (fun i => zp_sm (fun k => (i - k) * zp_tb (g (r k)) (r i)) (i + 1)) 6 := by
    refine zp_sm_congr 6 (fun i hi => ?_)
    unfold zp_s3
    refine zp_sm_congr (i + 1) (fun k hk => ?_)
    unfold zp_st1
    by_cases q : (g (r k)).testBit (r i) = true
    · rw [if_pos q, zp_tb_t q, Nat.mul_one]
    · rw [if_neg q, zp_tb_f (Bool.eq_false_iff.mpr q), Nat.mul_zero]
  have e2 : zp_sm (zp_ct g r) 6 = zp_sm (fun i => zp_sm (fun k => zp_sm (fun j => if i < j then zp_tb (g (r k)) (r j) else 0) 6) (i + 1)) 6 := by
    refine zp_sm_congr 6 (fun i hi => ?_)
    unfold zp_ct
    refine zp_sm_congr (i + 1) (fun k hk => ?_)
    unfold zp_lat zp_pop
    rw [zr_reall hr]
    refine zp_sm_congr 6 (fun j hj => ?_)
    unfold zp_tb
    rw [zp_sd_bit]
    by_cases q : i < j
    · have : (zp_ear r (i + 1)).testBit (r j) = false := by
        cases e : (zp_ear r (i + 1)).testBit (r j)
        · rfl
        · obtain ⟨m, hm, he⟩ := (zr_ear (i + 1)).mp e
          have := hr.2 m j (by omega) hj he
          omega
      rw [this, if_pos q, Bool.not_false, Bool.and_true]
    · have : (zp_ear r (i + 1)).testBit (r j) = true := (zr_ear (i + 1)).mpr ⟨j, by omega, rfl⟩
      rw [this, if_neg q, Bool.not_true, Bool.and_false]
      rfl
  rw [e1, e2]
  exact h.symm
def zp_wh (k : Nat) : Nat := if k = 2 then 4 else if k = 4 then 5 else k
theorem zr_nmF {g r : Nat → Nat} (hG : zp_G g) (hr : zr_pn 6 r) {k : Nat} (hk : k < 5) : zp_nm g r (zp_wh k) = zr_F g k r 6 := by
  rcases (show k = 0 ∨ k = 1 ∨ k = 2 ∨ k = 3 ∨ k = 4 by omega) with q | q | q | q | q
  · subst q
    rw [zr_F_mx g (by decide)]
    show zp_mx (zp_ct g r) 6 = _
    refine zr_mx_congr 6 (fun i hi => ?_)
    exact (zr_cut hr hi).symm
  · subst q
    rw [zr_F_mx g (by decide)]
    show zp_mx (zp_pt g r) 6 = _
    refine zr_mx_congr 6 (fun i hi => ?_)
    exact (zr_sep hG hr hi).symm
  · subst q
    rw [zr_F_mx g (by decide)]
    show zp_mx (fun i => zp_pop (zp_lf g r i (r i))) 6 = _
    refine zr_mx_congr 6 (fun i hi => ?_)
    show zp_pop (zp_lf g r i (r i)) = zp_pop (zp_nbr g (zp_ear r i) (r i))
    rw [zr_lf hG hr i (by omega) (r i) (hr.1 i hi) (zr_ear_no hr hi)]
  · subst q
    rw [zr_F_sm g (by decide)]
    show zp_sm (zp_s3 g r) 6 = _
    rw [zr_len hr]
    refine zp_sm_congr 6 (fun i hi => ?_)
    exact (zr_cut hr hi).symm
  · subst q
    rw [zr_F_sm g (by decide)]
    show zp_sm (fun i => zp_put (zp_lf g r i) (zp_lf g r i (r i))) 6 = _
    refine zp_sm_congr 6 (fun i hi => ?_)
    exact zr_put hG hr hi
end
section
/-! PLAIN LAW, 4: the 720 orders, by their numbers -/
theorem zr_un : ∀ i, i < 6 → zp_un i = (6 - i) * zp_un (i + 1) := by decide
theorem zr_n1 : ∀ R, R < 64 → ∀ d, d < zp_pop R → R.testBit (zp_nth R 6 0 d) = true := by decide +kernel
theorem zr_n2 : ∀ R, R < 64 → ∀ e, e < zp_pop R → ∀ d, d < e → zp_nth R 6 0 d < zp_nth R 6 0 e := by decide +kernel
theorem zr_n3 : ∀ R, R < 64 → ∀ p, p < 6 → R.testBit p = true → zp_pop (R &&& (2 ^ p - 1)) < zp_pop R ∧ zp_nth R 6 0 (zp_pop (R &&& (2 ^ p - 1))) = p := by decide +kernel
theorem zr_so1 (n i : Nat) : zp_so n (i + 1) = ((zp_so n i).1 % zp_un (i + 1), zp_sd (zp_so n i).2 (2 ^ zp_row n i)) := rfl
theorem zr_dig0 {n i : Nat} (hi : i < 6) (h1 : (zp_so n i).1 < zp_un i) (h2 : zp_pop (zp_so n i).2 = 6 - i) : (zp_so n i).1 / zp_un (i + 1) < zp_pop (zp_so n i).2 := by
  rw [h2]
  exact (Nat.div_lt_iff_lt_mul (zp_un_pos (i + 1) hi)).mpr (by rw [← zr_un i hi]; exact h1)
theorem zr_so {n : Nat} (hn : n < 720) : ∀ i, i ≤ 6 → (zp_so n i).1 < zp_un i ∧ zp_pop (zp_so n i).2 = 6 - i ∧ ∀ p, p < 6 → (zp_so n i).2.testBit p = !(zp_ear (zp_row n) i).testBit p
  | 0, _ => ⟨hn, by show zp_pop 63 = 6; decide, fun p hp => by
      have e1 : (zp_so n 0).2 = 63 := rfl
      have e2 : zp_ear (zp_row n) 0 = 0 := rfl
      rw [e1, e2, zr_63 p hp, Nat.zero_testBit]
      rfl⟩
  | i + 1, hi => by
    obtain ⟨h1, h2, h3⟩ := zr_so hn i (by omega)
    have hl := zp_so_lt n i
    have hup := zp_un_pos (i + 1) hi
    have hb : (zp_so n i).2.testBit (zp_row n i) = true := zr_n1 _ hl _ (zr_dig0 (by omega) h1 h2)
    have hr := zp_row_lt n i
    rw [zr_so1]
    refine ⟨Nat.mod_lt _ hup, ?_, fun p hp => ?_⟩
    · have := zr_pop_sd _ hl _ hr hb
      show zp_pop (zp_sd (zp_so n i).2 (2 ^ zp_row n i)) = 6 - (i + 1)
      omega
    · show (zp_sd (zp_so n i).2 (2 ^ zp_row n i)).testBit p = _
      rw [zr_ear_s, zr_sdb, zr_orb, h3 p hp, Bool.not_or]
theorem zr_dig {n i : Nat} (hn : n < 720) (hi : i < 6) : (zp_so n i).1 / zp_un (i + 1) < zp_pop (zp_so n i).2 := zr_dig0 hi (zr_so hn i (by omega)).1 (zr_so hn i (by omega)).2.1
theorem zr_rb {n i : Nat} (hn : n < 720) (hi : i < 6) : (zp_so n i).2.testBit (zp_row n i) = true := zr_n1 _ (zp_so_lt n i) _ (zr_dig hn hi)
theorem zr_row_pm {n : Nat} (hn : n < 720) : zr_pn 6 (zp_row n) := by
  have key : ∀ i j, i < j → j < 6 → zp_row n i ≠ zp_row n j := by
    intro i j hij hj h
    obtain ⟨h1, h2, h3⟩ := zr_so hn j (by omega)
    have hb := zr_rb hn hj
    rw [h3 _ (zp_row_lt n j), (zr_ear j).mpr ⟨i, hij, h⟩] at hb
    exact absurd hb (by decide)
  refine ⟨fun i _ => zp_row_lt n i, fun i j hi hj h => ?_⟩
  rcases Nat.lt_trichotomy i j with q | q | q
  · exact absurd h (key i j q hj)
  · exact q
  · exact absurd h.symm (key j i q hi)
theorem zr_so_ear {n i : Nat} (hn : n < 720) (hi : i ≤ 6) : zp_sd 63 (zp_so n i).2 = zp_ear (zp_row n) i := by
  refine zr_ext (zp_sd_lt (by decide)) (zr_ear_lt i (fun j _ => zp_row_lt n j)) (fun p hp => ?_)
  rw [zp_sd_bit, zr_63 p hp, (zr_so hn i hi).2.2 p hp, Bool.not_not, Bool.true_and]
/-- every order has a number -/
theorem zr_onto {r : Nat → Nat} (hr : zr_pn 6 r) : ∃ n, n < 720 ∧ ∀ i, i < 6 → zp_row n i = r i := by
  have key : ∀ i, i ≤ 6 → ∃ b, b + zp_un i ≤ 720 ∧ ∀ n, b ≤ n → n < b + zp_un i → (zp_so n i).1 = n - b ∧ (zp_so n i).2 = zp_sd 63 (zp_ear r i) ∧ ∀ j, j < i → zp_row n j = r j := by
    intro i
    induction i with
    | zero => exact fun _ => ⟨0, Nat.le_refl 720, fun n _ _ => ⟨rfl, by show (63 : Nat) = zp_sd 63 0; decide, fun j hj => absurd hj (Nat.not_lt_zero j)⟩⟩
    | succ i ih =>
      intro hi
      obtain ⟨b, hb, hn⟩ := ih (by omega)
      have hE := zr_ear_lt i (fun j hj => hr.1 j (show j < 6 by omega))
      have hRl : zp_sd 63 (zp_ear r i) < 64 := zp_sd_lt (by decide)
      have hp := hr.1 i (by omega)
      have hno := zr_ear_no hr (show i < 6 by omega)
      have hin : (zp_sd 63 (zp_ear r i)).testBit (r i) = true := by
        rw [zp_sd_bit, zr_63 _ hp, hno]
        rfl
      obtain ⟨hd1, hd2⟩ := zr_n3 _ hRl _ hp hin
      have hpc := zr_pop_c _ hE
      have hpe := zr_ear_pop i (zr_pn_le hr (by omega))
      have hu := zr_un i (by omega)
      have hup := zp_un_pos (i + 1) hi
      generalize zp_pop (zp_sd 63 (zp_ear r i) &&& (2 ^ r i - 1)) = d at hd1 hd2
      have hm : (d + 1) * zp_un (i + 1) ≤ (6 - i) * zp_un (i + 1) := Nat.mul_le_mul_right _ (by omega)
      rw [Nat.succ_mul] at hm
      rw [hu] at hb hn
      refine ⟨b + d * zp_un (i + 1), ?_, fun n h1 h2 => ?_⟩
      · omega
      · obtain ⟨e1, e2, e3⟩ := hn n (by
          omega) (by
          omega)
        have hx : n - b = (n - (b + d * zp_un (i + 1))) + d * zp_un (i + 1) := by
          omega
        have hy : n - (b + d * zp_un (i + 1)) < zp_un (i + 1) := by
          omega
        have hq : (n - b) / zp_un (i + 1) = d := by
          rw [hx, Nat.add_mul_div_right _ _ hup, Nat.div_eq_of_lt hy, Nat.zero_add]
        have hmo : (n - b) % zp_un (i + 1) = n - (b + d * zp_un (i + 1)) := by
          rw [hx, Nat.add_mul_mod_self_right, Nat.mod_eq_of_lt hy]
        have hrow : zp_row n i = r i := by
          show zp_nth (zp_so n i).2 6 0 ((zp_so n i).1 / zp_un (i + 1)) = r i
          rw [e1, e2, hq]
          exact hd2
        refine ⟨?_, ?_, fun j hj => ?_⟩
        · rw [zr_so1, e1]
          exact hmo
        · rw [zr_so1, e2, hrow]
          show zp_sd (zp_sd 63 (zp_ear r i)) (2 ^ r i) = zp_sd 63 (zp_ear r (i + 1))
          refine zr_ext (zp_sd_lt hRl) (zp_sd_lt (by decide)) (fun p hp => ?_)
          rw [zr_sdb, zp_sd_bit, zp_sd_bit, zr_ear_s, zr_orb, Bool.not_or, Bool.and_assoc]
        · by_cases q : j = i
          · subst q; exact hrow
          · exact e3 j (by omega)
  obtain ⟨b, hb, hn⟩ := key 6 (Nat.le_refl 6)
  have h1 : zp_un 6 = 1 := rfl
  rw [h1] at hb hn
  exact ⟨b, by omega, fun i hi => (hn b (Nat.le_refl b) (by omega)).2.2 i hi⟩
/-- by their numbers the orders stand as in a dictionary -/
theorem zr_lex {n m : Nat} (hn : n < 720) (hm : m < 720) {i : Nat} (hi : i < 6) (he : ∀ j, j < i → zp_row n j = zp_row m j) (hl : zp_row n i < zp_row m i) : n < m := by
  have key : ∀ j, j ≤ i → (zp_so n j).2 = (zp_so m j).2 ∧ n + (zp_so m j).1 = m + (zp_so n j).1 := by
    intro j
    induction j with
    | zero => exact fun _ => ⟨rfl, Nat.add_comm n m⟩
    | succ j ih =>
      intro hj
      obtain ⟨e1, e2⟩ := ih (by omega)
      have hrow := he j (by omega)
      have dn := zr_dig hn (show j < 6 by omega)
      have dm := zr_dig hm (show j < 6 by omega)
      have hR := zp_so_lt m j
      have r1 : zp_row n j = zp_nth (zp_so n j).2 6 0 ((zp_so n j).1 / zp_un (j + 1)) := rfl
      have r2 : zp_row m j = zp_nth (zp_so m j).2 6 0 ((zp_so m j).1 / zp_un (j + 1)) := rfl
      rw [e1] at dn r1
      have hdig : (zp_so n j).1 / zp_un (j + 1) = (zp_so m j).1 / zp_un (j + 1) := by
        rcases Nat.lt_trichotomy ((zp_so n j).1 / zp_un (j + 1)) ((zp_so m j).1 / zp_un (j + 1)) with q | q | q
        · have := zr_n2 _ hR _ dm _ q
          omega
        · exact q
        · have := zr_n2 _ hR _ dn _ q
          omega
      have a1 := Nat.div_add_mod (zp_so n j).1 (zp_un (j + 1))
      have a2 := Nat.div_add_mod (zp_so m j).1 (zp_un (j + 1))
      rw [hdig] at a1
      rw [zr_so1, zr_so1, e1, hrow]
      refine ⟨rfl, ?_⟩
      show n + (zp_so m j).1 % zp_un (j + 1) = m + (zp_so n j).1 % zp_un (j + 1)
      generalize zp_un (j + 1) * ((zp_so m j).1 / zp_un (j + 1)) = w at a1 a2
      generalize (zp_so m j).1 % zp_un (j + 1) = w1 at a2 ⊢
      generalize (zp_so n j).1 % zp_un (j + 1) = w2 at a1 ⊢
      omega
  obtain ⟨e1, e2⟩ := key i (Nat.le_refl i)
  have dn := zr_dig hn hi
  have dm := zr_dig hm hi
  have hR := zp_so_lt m i
  have r1 : zp_row n i = zp_nth (zp_so n i).2 6 0 ((zp_so n i).1 / zp_un (i + 1)) := rfl
  have r2 : zp_row m i = zp_nth (zp_so m i).2 6 0 ((zp_so m i).1 / zp_un (i + 1)) := rfl
  rw [e1] at dn r1
  have hd : (zp_so n i).1 / zp_un (i + 1) < (zp_so m i).1 / zp_un (i + 1) := by
    rcases Nat.lt_trichotomy ((zp_so n i).1 / zp_un (i + 1)) ((zp_so m i).1 / zp_un (i + 1)) with q | q | q
    · exact q
    · rw [q] at r1
      omega
    · have := zr_n2 _ hR _ dn _ q
      omega
  have a1 := Nat.div_add_mod (zp_so n i).1 (zp_un (i + 1))
  have a2 := Nat.div_add_mod (zp_so m i).1 (zp_un (i + 1))
  have a3 := Nat.mod_lt (zp_so n i).1 (zp_un_pos (i + 1) hi)
  have a4 : zp_un (i + 1) * ((zp_so n i).1 / zp_un (i + 1) + 1) ≤ zp_un (i + 1) * ((zp_so m i).1 / zp_un (i + 1)) := Nat.mul_le_mul_left _ hd
  rw [Nat.mul_succ] at a4
  generalize zp_un (i + 1) * ((zp_so m i).1 / zp_un (i + 1)) = w at a2 a4
  generalize zp_un (i + 1) * ((zp_so n i).1 / zp_un (i + 1)) = w' at a1 a4
  generalize (zp_so m i).1 % zp_un (i + 1) = w1 at a2
  generalize (zp_so n i).1 % zp_un (i + 1) = w2 at a1 a3
  omega
end
section
/-! PLAIN LAW, 5: the least cost of all orders, and the first order of that cost -/
theorem zr_jn_mono {k a b a' b' : Nat} (h : a ≤ a') (h2 : b ≤ b') : zp_jn k a b ≤ zp_jn k a' b' := by
  unfold zp_jn
  split <;> omega
theorem zr_jn_assoc (k a b c : Nat) : zp_jn k (zp_jn k a b) c = zp_jn k a (zp_jn k b c) := by
  unfold zp_jn
  split <;> omega
theorem zr_jn_0l (k a : Nat) : zp_jn k 0 a = a := by
  unfold zp_jn
  split <;> omega
theorem zr_jn_0r (k a : Nat) : zp_jn k a 0 = a := by
  unfold zp_jn
  split <;> omega
theorem zr_jn_add (k a b : Nat) : zp_jn k a b ≤ a + b := by
  unfold zp_jn
  split <;> omega
theorem zr_mn_at {t : Nat → Bool} {f : Nat → Nat} {p : Nat} (ht : t p = true) : ∀ n, p < n → zp_mn t f n ≤ f p
  | 0, h => absurd h (Nat.not_lt_zero p)
  | n + 1, h => by
    show (if t n = true then min (zp_mn t f n) (f n) else zp_mn t f n) ≤ f p
    by_cases q : p = n
    · subst q
      rw [if_pos ht]
      omega
    · have ih := zr_mn_at (f := f) ht n (by omega)
      split <;> omega
theorem zr_mn_is {t : Nat → Bool} {f : Nat → Nat} : ∀ n, zp_mn t f n = 1000 ∨ ∃ p, p < n ∧ t p = true ∧ zp_mn t f n = f p
  | 0 => Or.inl rfl
  | n + 1 => by
    have ih := zr_mn_is (t := t) (f := f) n
    have e : zp_mn t f (n + 1) = if t n = true then min (zp_mn t f n) (f n) else zp_mn t f n := rfl
    rw [e]
    by_cases q : t n = true
    · rw [if_pos q]
      by_cases q2 : f n ≤ zp_mn t f n
      · exact Or.inr ⟨n, by omega, q, by omega⟩
      · rw [Nat.min_eq_left (by omega)]
        rcases ih with h | ⟨p, h1, h2, h3⟩
        · exact Or.inl h
        · exact Or.inr ⟨p, by omega, h2, h3⟩
    · rw [if_neg q]
      rcases ih with h | ⟨p, h1, h2, h3⟩
      · exact Or.inl h
      · exact Or.inr ⟨p, by omega, h2, h3⟩
theorem zr_F_le (g : Nat → Nat) (k : Nat) (r : Nat → Nat) : ∀ n, zr_F g k r n ≤ 36 * n
  | 0 => Nat.le_refl 0
  | n + 1 => by
    have ih := zr_F_le g k r n
    have h1 := zr_jn_add k (zr_F g k r n) (zr_ps g k r n)
    have h2 : zr_ps g k r n ≤ 36 := zp_pr_le g k _ _
    rw [zr_F_s]
    omega
-- ===== from the empty set on =====
theorem zr_C_up {g x : Nat → Nat} {k : Nat} (hx : zp_RC g k x 64) {S p : Nat} (hS : S < 64) (hp : p < 6) (h : S.testBit p = true) : x S ≤ zp_jn k (x (zp_sd S (2 ^ p))) (zp_pr g k (zp_sd S (2 ^ p)) p) := by
  have h0 : 0 < S := by
    rcases Nat.eq_zero_or_pos S with q | q
    · subst q
      rw [Nat.zero_testBit] at h
      exact absurd h (by decide)
    · exact q
  rw [hx.2 S h0 hS]
  exact zr_mn_at (t := fun p => S.testBit p) (f := fun p => zp_jn k (x (zp_sd S (2 ^ p))) (zp_pr g k (zp_sd S (2 ^ p)) p)) (p := p) h 6 hp
theorem zr_C_le {g x : Nat → Nat} {k : Nat} (hx : zp_RC g k x 64) : ∀ j S, S < 64 → zp_pop S = j → x S ≤ 36 * j
  | 0, S, hS, hj => by
    have : S = 0 := by
      have := zr_pop_pos S hS
      rcases Nat.eq_zero_or_pos S with q | q
      · exact q
      · have := this.mpr (by omega)
        omega
    subst this
    rw [hx.1]
    exact Nat.zero_le _
  | j + 1, S, hS, hj => by
    obtain ⟨p, hp, hb⟩ := zr_has hS (by omega)
    have h1 := zr_pop_sd S hS p hp hb
    have ih := zr_C_le hx j (zp_sd S (2 ^ p)) (zp_sd_lt hS) (by omega)
    have h2 := zr_C_up hx hS hp hb
    have h3 := zr_jn_add k (x (zp_sd S (2 ^ p))) (zp_pr g k (zp_sd S (2 ^ p)) p)
    have h4 := zp_pr_le g k (zp_sd S (2 ^ p)) p
    omega
theorem zr_C_at {g x : Nat → Nat} {k : Nat} (hx : zp_RC g k x 64) {S : Nat} (hS : S < 64) (h : 0 < zp_pop S) : ∃ p, p < 6 ∧ S.testBit p = true ∧ x S = zp_jn k (x (zp_sd S (2 ^ p))) (zp_pr g k (zp_sd S (2 ^ p)) p) := by
  have h0 : 0 < S := Nat.pos_of_ne_zero ((zr_pop_pos S hS).mp h)
  have hl := zr_C_le hx _ S hS rfl
  have hl2 := zp_pop_le S
  have e := hx.2 S h0 hS
  rcases zr_mn_is (t := fun p => S.testBit p) (f := fun p => zp_jn k (x (zp_sd S (2 ^ p))) (zp_pr g k (zp_sd S (2 ^ p)) p)) 6 with q | ⟨p, h1, h2, h3⟩
  · rw [q] at e
    omega
  · exact ⟨p, h1, h2, e.trans h3⟩
theorem zr_C_F {g x r : Nat → Nat} {k : Nat} (hx : zp_RC g k x 64) (hr : zr_pn 6 r) : ∀ i, i ≤ 6 → x (zp_ear r i) ≤ zr_F g k r i
  | 0, _ => by
    show x 0 ≤ 0
    rw [hx.1]
    exact Nat.le_refl 0
  | i + 1, hi => by
    have ih := zr_C_F hx hr i (by omega)
    have hE := zr_ear_lt i (fun j hj => hr.1 j (show j < 6 by omega))
    have hp := hr.1 i (by omega)
    have hno := zr_ear_no hr (show i < 6 by omega)
    have h1 := zr_C_up hx (S := zp_ear r i ||| 2 ^ r i) (p := r i) (zp_or_lt hE (zp_pw_lt _ hp)) hp (by rw [zr_orb]; simp)
    rw [zr_or_sd hE hp hno] at h1
    rw [zr_ear_s, zr_F_s]
    exact Nat.le_trans h1 (zr_jn_mono ih (Nat.le_refl _))
theorem zr_C_back {g x : Nat → Nat} {k : Nat} (hx : zp_RC g k x 64) : ∀ j S, S < 64 → zp_pop S = j → ∃ r, zr_pn j r ∧ zp_ear r j = S ∧ zr_F g k r j = x S
  | 0, S, hS, hj => by
    have : S = 0 := by
      have := zr_pop_pos S hS
      rcases Nat.eq_zero_or_pos S with q | q
      · exact q
      · have := this.mpr (by omega)
        omega
    subst this
    exact ⟨fun _ => 0, ⟨fun i hi => absurd hi (Nat.not_lt_zero i), fun i j hi => absurd hi (Nat.not_lt_zero i)⟩, rfl, hx.1.symm⟩
  | j + 1, S, hS, hj => by
    obtain ⟨p, hp, hb, e⟩ := zr_C_at hx hS (by omega)
    have h1 := zr_pop_sd S hS p hp hb
    obtain ⟨r, a1, a2, a3⟩ := zr_C_back hx j (zp_sd S (2 ^ p)) (zp_sd_lt hS) (by omega)
    have hn : (zp_ear r j).testBit p = false := by
      rw [a2, zr_sdb]
      simp
    refine ⟨va_up r j p, zr_pn_up a1 hp hn, ?_, ?_⟩
    · rw [zr_up_ear, a2, zr_sd_or hS hp hb]
    · rw [zr_F_up, a2, a3, e]
-- ===== the least of 720 numbers =====
theorem zr_le_at {v : Nat → Nat} {i : Nat} : ∀ n, i < n → zp_le v n ≤ v i
  | 0, h => absurd h (Nat.not_lt_zero i)
  | n + 1, h => by
    rw [zp_le_s]
    by_cases q : i = n
    · subst q
      split <;> omega
    · have ih := zr_le_at (v := v) (i := i) n (by omega)
      split <;> omega
theorem zr_le_is {v : Nat → Nat} (h : ∀ i, v i ≤ 216) : ∀ n, ∃ i, i < n + 1 ∧ zp_le v (n + 1) = v i
  | 0 => ⟨0, by decide, by
      have := h 0
      rw [zp_le_s, zp_le_0, if_pos (by omega)]⟩
  | n + 1 => by
    obtain ⟨i, hi, e⟩ := zr_le_is h n
    rw [zp_le_s]
    by_cases q : v (n + 1) < zp_le v (n + 1)
    · rw [if_pos q]
      exact ⟨n + 1, by omega, rfl⟩
    · rw [if_neg q]
      exact ⟨i, by omega, e⟩
theorem zr_v_le (g : Nat → Nat) (k : Nat) : ∀ i, zp_v g k i ≤ 216 := fun i => zp_nm_le g (zp_row i) k
theorem zr_vF {g : Nat → Nat} (hG : zp_G g) {k : Nat} (hk : k < 5) {n : Nat} (hn : n < 720) : zp_v g (zp_wh k) n = zr_F g k (zp_row n) 6 := zr_nmF hG (zr_row_pm hn) hk
/-- every order's cost is among the 720 -/
theorem zr_vat {g : Nat → Nat} (hG : zp_G g) {k : Nat} (hk : k < 5) {r : Nat → Nat} (hr : zr_pn 6 r) : ∃ n, n < 720 ∧ (∀ i, i < 6 → zp_row n i = r i) ∧ zp_v g (zp_wh k) n = zr_F g k r 6 := by
  obtain ⟨n, hn, h⟩ := zr_onto hr
  exact ⟨n, hn, h, (zr_vF hG hk hn).trans (zr_F_congr g k 6 h)⟩
theorem zq_least {g x : Nat → Nat} (hG : zp_G g) {k : Nat} (hk : k < 5) (hx : zp_RC g k x 64) : x 63 = zp_le (zp_v g (zp_wh k)) 720 := by
  apply Nat.le_antisymm
  · obtain ⟨i, hi, e⟩ := zr_le_is (zr_v_le g (zp_wh k)) 719
    have e : zp_le (zp_v g (zp_wh k)) 720 = zp_v g (zp_wh k) i := e
    have h := zr_C_F hx (zr_row_pm hi) 6 (Nat.le_refl 6)
    rw [zr_ear_6 (zr_row_pm hi)] at h
    rw [e, zr_vF hG hk hi]
    exact h
  · obtain ⟨r, a1, a2, a3⟩ := zr_C_back hx 6 63 (by decide) (by decide)
    obtain ⟨n, hn, -, e⟩ := zr_vat hG hk a1
    rw [← a3, ← e]
    exact zr_le_at 720 hn
-- ===== from the whole set back =====
theorem zr_A_up {g a : Nat → Nat} {k : Nat} (ha : zp_RA g k a 0) {S p : Nat} (hS : S < 64) (hp : p < 6) (h : S.testBit p = false) : a S ≤ zp_jn k (zp_pr g k S p) (a (S ||| 2 ^ p)) := by
  have h0 : S < 63 := by
    rcases Nat.lt_or_ge S 63 with q | q
    · exact q
    · have : S = 63 := by omega
      rw [this, zr_63 p hp] at h
      exact absurd h (by decide)
  rw [ha.2 S (Nat.zero_le S) h0]
  exact zr_mn_at (t := fun p => !S.testBit p) (f := fun p => zp_jn k (zp_pr g k S p) (a (S ||| 2 ^ p))) (p := p) (by rw [h]; rfl) 6 hp
theorem zr_pop_nf : ∀ S, S < 64 → zp_pop S < 6 → S < 63 := by decide +kernel
theorem zr_hasN {S : Nat} (hS : S < 64) (h : zp_pop S < 6) : ∃ p, p < 6 ∧ S.testBit p = false := by
  have h1 := zr_pop_c S hS
  obtain ⟨p, hp, hb⟩ := zr_has (S := zp_sd 63 S) (zp_sd_lt (by decide)) (by omega)
  refine ⟨p, hp, ?_⟩
  rw [zp_sd_bit, zr_63 p hp] at hb
  simpa using hb
theorem zr_A_le {g a : Nat → Nat} {k : Nat} (ha : zp_RA g k a 0) : ∀ j S, S < 64 → zp_pop S + j = 6 → a S ≤ 36 * j
  | 0, S, hS, hj => by
    rw [zr_pop_6 S hS hj, ha.1]
    exact Nat.zero_le _
  | j + 1, S, hS, hj => by
    obtain ⟨p, hp, hb⟩ := zr_hasN hS (by omega)
    have h1 := zr_pop_or S hS p hp hb
    have ih := zr_A_le ha j (S ||| 2 ^ p) (zp_or_lt hS (zp_pw_lt p hp)) (by omega)
    have h2 := zr_A_up ha hS hp hb
    have h3 := zr_jn_add k (zp_pr g k S p) (a (S ||| 2 ^ p))
    have h4 := zp_pr_le g k S p
    omega
theorem zr_A_at {g a : Nat → Nat} {k : Nat} (ha : zp_RA g k a 0) {S : Nat} (hS : S < 64) (h : zp_pop S < 6) : ∃ p, p < 6 ∧ S.testBit p = false ∧ a S = zp_jn k (zp_pr g k S p) (a (S ||| 2 ^ p)) := by
  have hl := zr_A_le ha (6 - zp_pop S) S hS (by omega)
  have e := ha.2 S (Nat.zero_le S) (zr_pop_nf S hS h)
  rcases zr_mn_is (t := fun p => !S.testBit p) (f := fun p => zp_jn k (zp_pr g k S p) (a (S ||| 2 ^ p))) 6 with q | ⟨p, h1, h2, h3⟩
  · rw [q] at e
    omega
  · exact ⟨p, h1, by simpa using h2, e.trans h3⟩
theorem zr_A_F {g a r : Nat → Nat} {k : Nat} (ha : zp_RA g k a 0) (hr : zr_pn 6 r) : ∀ j i, i + j = 6 → zp_jn k (zr_F g k r i) (a (zp_ear r i)) ≤ zr_F g k r 6
  | 0, i, hi => by
    have : i = 6 := hi
    subst this
    rw [zr_ear_6 hr, ha.1, zr_jn_0r]
    exact Nat.le_refl _
  | j + 1, i, hi => by
    have ih := zr_A_F ha hr j (i + 1) (by omega)
    have hE := zr_ear_lt i (fun j hj => hr.1 j (show j < 6 by omega))
    have h1 := zr_A_up ha hE (hr.1 i (by omega)) (zr_ear_no hr (show i < 6 by omega))
    refine Nat.le_trans ?_ ih
    rw [zr_F_s, zr_jn_assoc]
    exact zr_jn_mono (Nat.le_refl _) h1
theorem zr_A_on {g a : Nat → Nat} {k : Nat} (ha : zp_RA g k a 0) : ∀ j i r, i + j = 6 → zr_pn i r → ∃ r', zr_pn 6 r' ∧ (∀ t, t < i → r' t = r t) ∧ zr_F g k r' 6 = zp_jn k (zr_F g k r i) (a (zp_ear r i))
  | 0, i, r, hi, hr => by
    have : i = 6 := hi
    subst this
    refine ⟨r, hr, fun _ _ => rfl, ?_⟩
    rw [zr_ear_6 hr, ha.1, zr_jn_0r]
  | j + 1, i, r, hi, hr => by
    have hE := zr_ear_lt i hr.1
    have hpe := zr_ear_pop i hr
    obtain ⟨p, hp, hb, e⟩ := zr_A_at ha hE (by omega)
    obtain ⟨r', b1, b2, b3⟩ := zr_A_on ha j (i + 1) (va_up r i p) (by omega) (zr_pn_up hr hp hb)
    refine ⟨r', b1, fun t ht => ?_, ?_⟩
    · rw [b2 t (by omega), zp_up_n (by omega)]
    · rw [b3, zr_F_up, zr_up_ear, e, zr_jn_assoc]
theorem zr_fi_at {v : Nat → Nat} (h : ∀ i, v i ≤ 216) (c0 : Nat) : ∀ n, v (zp_fi v c0 (n + 1)) = zp_le v (n + 1) ∧ ∀ i, i < zp_fi v c0 (n + 1) → zp_le v (n + 1) < v i
  | 0 => by
    have h1 := h 0
    have e : zp_fi v c0 1 = 0 := by
      rw [zp_fi_s, zp_le_0, if_pos (by omega)]
    rw [e, zp_le_s, zp_le_0, if_pos (by omega)]
    exact ⟨rfl, fun i hi => absurd hi (Nat.not_lt_zero i)⟩
  | n + 1 => by
    obtain ⟨h1, h2⟩ := zr_fi_at h c0 n
    rw [zp_fi_s v c0 (n + 1), zp_le_s v (n + 1)]
    by_cases q : v (n + 1) < zp_le v (n + 1)
    · rw [if_pos q, if_pos q]
      refine ⟨rfl, fun i hi => ?_⟩
      have := zr_le_at (v := v) (i := i) (n + 1) hi
      omega
    · rw [if_neg q, if_neg q]
      exact ⟨h1, h2⟩
theorem zq_first {g a : Nat → Nat} (hG : zp_G g) {k : Nat} (hk : k < 5) (ha : zp_RA g k a 0) (c0 : Nat) : zp_Gr g k a (zp_row (zp_fi (zp_v g (zp_wh k)) c0 720)) := by
  have hv := zr_v_le g (zp_wh k)
  have hn : zp_fi (zp_v g (zp_wh k)) c0 720 < 720 := zp_fi_lt hv c0 719
  obtain ⟨f1, f2⟩ := zr_fi_at hv c0 719
  have f1 : zp_v g (zp_wh k) (zp_fi (zp_v g (zp_wh k)) c0 720) = zp_le (zp_v g (zp_wh k)) 720 := f1
  have f2 : ∀ i, i < zp_fi (zp_v g (zp_wh k)) c0 720 → zp_le (zp_v g (zp_wh k)) 720 < zp_v g (zp_wh k) i := f2
  generalize zp_fi (zp_v g (zp_wh k)) c0 720 = n0 at hn f1 f2 ⊢
  have ho := zr_row_pm hn
  rw [zr_vF hG hk hn] at f1
  have le0 : zp_le (zp_v g (zp_wh k)) 720 ≤ a 0 := by
    obtain ⟨r', b1, -, b3⟩ := zr_A_on ha 6 0 (fun _ => 0) rfl ⟨fun i hi => absurd hi (Nat.not_lt_zero i), fun i j hi => absurd hi (Nat.not_lt_zero i)⟩
    have b3 : zr_F g k r' 6 = zp_jn k 0 (a 0) := b3
    rw [zr_jn_0l] at b3
    obtain ⟨n, hn, -, e⟩ := zr_vat hG hk b1
    rw [← b3, ← e]
    exact zr_le_at 720 hn
  have ge : ∀ r, zr_pn 6 r → a 0 ≤ zr_F g k r 6 := fun r hr => by
    have h := zr_A_F ha hr 6 0 rfl
    have h : zp_jn k 0 (a 0) ≤ zr_F g k r 6 := h
    rw [zr_jn_0l] at h
    exact h
  refine ⟨zp_ear (zp_row n0), zr_F g k (zp_row n0), rfl, rfl, fun i hi => ⟨zr_ear_lt i (fun j _ => zp_row_lt n0 j), ?_, zp_row_lt n0 i, ⟨zr_ear_no ho hi, ?_⟩, fun p hp hm => ?_, rfl, rfl⟩⟩
  · have := zr_F_le g k (zp_row n0) i
    omega
  · have h1 := zr_A_F ha ho (5 - i) (i + 1) (by omega)
    obtain ⟨r', b1, b2, b3⟩ := zr_A_on ha (5 - i) (i + 1) (zp_row n0) (by omega) (zr_pn_le ho (by omega))
    have h2 := ge r' b1
    have e : zp_jn k (zp_jn k (zr_F g k (zp_row n0) i) (zp_pr g k (zp_ear (zp_row n0) i) (zp_row n0 i))) (a (zp_ear (zp_row n0) i ||| 2 ^ zp_row n0 i)) = zp_jn k (zr_F g k (zp_row n0) (i + 1)) (a (zp_ear (zp_row n0) (i + 1))) := rfl
    rw [e]
    omega
  · obtain ⟨m1, m2⟩ := hm
    have hp6 : p < 6 := Nat.lt_trans hp (zp_row_lt n0 i)
    have hpre := zr_pn_up (zr_pn_le ho (show i ≤ 6 by omega)) hp6 m1
    obtain ⟨r', b1, b2, b3⟩ := zr_A_on ha (5 - i) (i + 1) (va_up (zp_row n0) i p) (by omega) hpre
    rw [zr_F_up, zr_up_ear, m2] at b3
    obtain ⟨n, hn2, hrow, e⟩ := zr_vat hG hk b1
    have hlt : n < n0 := by
      refine zr_lex hn2 hn hi (fun j hj => ?_) ?_
      · rw [hrow j (by omega), b2 j (by omega), zp_up_n (by omega)]
      · rw [hrow i hi, b2 i (by omega), zp_up_s]
        exact hp
    have h3 := f2 n hlt
    have h4 := ge (zp_row n0) ho
    rw [e, b3] at h3
    omega
end
section
/-! PLAIN LAW, 6: how many orders have the least cost -/
def zr_ct (v : Nat → Nat) (t n : Nat) : Nat := zp_sm (fun i => if v i = t then 1 else 0) n
theorem zr_ct_s (v : Nat → Nat) (t n : Nat) : zr_ct v t (n + 1) = zr_ct v t n + if v n = t then 1 else 0 := rfl
theorem zr_cn {v : Nat → Nat} (h : ∀ i, v i ≤ 216) (c0 : Nat) : ∀ n, zp_cn v c0 (n + 1) = zr_ct v (zp_le v (n + 1)) (n + 1)
  | 0 => by
    have h1 := h 0
    rw [zp_cn_s, zp_le_s, zp_le_0, if_pos (by omega), if_pos (by omega), zr_ct_s, if_pos rfl]
    rfl
  | n + 1 => by
    have ih := zr_cn h c0 n
    rw [zp_cn_s v c0 (n + 1), zp_le_s v (n + 1), zr_ct_s]
    by_cases q : v (n + 1) < zp_le v (n + 1)
    · rw [if_pos q, if_pos q, if_pos rfl]
      have : zr_ct v (v (n + 1)) (n + 1) = 0 := zr_sm_z (n + 1) (fun i hi => if_neg (by
        have := zr_le_at (v := v) (i := i) (n + 1) hi
        omega))
      rw [this]
    · rw [if_neg q, if_neg q]
      by_cases q2 : v (n + 1) = zp_le v (n + 1)
      · rw [if_pos q2, if_pos q2, ih]
      · rw [if_neg q2, if_neg q2]
        exact ih
-- ===== ways in a graph of sets =====
def zr_wf (ft : Nat → Nat → Bool) : Nat → Nat → Nat → Nat
  | 0, _, _ => 1
  | j + 1, A, S => zp_sm (fun q => if S.testBit q = true ∧ A.testBit q = false ∧ ft A q = true then zr_wf ft j (A ||| 2 ^ q) S else 0) 6
theorem zr_wf_s (ft : Nat → Nat → Bool) (j A S : Nat) : zr_wf ft (j + 1) A S = zp_sm (fun q => if S.testBit q = true ∧ A.testBit q = false ∧ ft A q = true then zr_wf ft j (A ||| 2 ^ q) S else 0) 6 := rfl
theorem zr_subeq {A B : Nat} (hA : A < 64) (hB : B < 64) (h : ∀ i, A.testBit i = true → B.testBit i = true) (hp : zp_pop A = zp_pop B) : A = B := by
  have e : A ||| B = B := Nat.eq_of_testBit_eq (fun i => by
    rw [Nat.testBit_or]
    have := h i
    cases ea : A.testBit i
    · rfl
    · rw [this ea]; rfl)
  rcases zr_grow A hA B hB with q | q
  · rw [e] at q
    exact q.symm
  · rw [e] at q
    omega
theorem zr_wf_last (ft : Nat → Nat → Bool) : ∀ j A S, A < 64 → S < 64 → (∀ i, A.testBit i = true → S.testBit i = true) → zp_pop S = zp_pop A + j + 1 →
    zr_wf ft (j + 1) A S = zp_sm (fun p => if S.testBit p = true ∧ A.testBit p = false ∧ ft (zp_sd S (2 ^ p)) p = true then zr_wf ft j A (zp_sd S (2 ^ p)) else 0) 6
  | 0, A, S, hA, hS, hsub, hj => by
    rw [zr_wf_s]
    refine zp_sm_congr 6 (fun p hp => ?_)
    by_cases q : S.testBit p = true ∧ A.testBit p = false
    · have e : zp_sd S (2 ^ p) = A := by
        have h1 := zr_pop_sd S hS p hp q.1
        refine (zr_subeq hA (zp_sd_lt hS) (fun i hi => ?_) (by omega)).symm
        rw [zr_sdb, hsub i hi]
        by_cases q2 : p = i
        · subst q2
          rw [q.2] at hi
          exact absurd hi (by decide)
        · simp [q2]
      rw [e]
      rfl
    · rw [if_neg (fun z => q ⟨z.1, z.2.1⟩), if_neg (fun z => q ⟨z.1, z.2.1⟩)]
  | j + 1, A, S, hA, hS, hsub, hj => by
    have e1 : zr_wf ft (j + 1 + 1) A S = zp_sm (fun q => zp_sm (fun p => if (S.testBit q = true ∧ A.testBit q = false ∧ ft A q = true) ∧ (S.testBit p = true ∧ A.testBit p = false ∧ ft (zp_sd S (2 ^ p)) p = true) ∧ ¬ q = p then zr_wf ft j (A ||| 2 ^ q) (zp_sd S (2 ^ p)) else 0) 6) 6 := by
      rw [zr_wf_s]
      refine zp_sm_congr 6 (fun q hq => ?_)
      by_cases c : S.testBit q = true ∧ A.testBit q = false ∧ ft A q = true
      · rw [if_pos c, zr_wf_last ft j (A ||| 2 ^ q) S (zp_or_lt hA (zp_pw_lt q hq)) hS (fun i hi => by
          rw [zr_orb, Bool.or_eq_true, decide_eq_true_iff] at hi
          rcases hi with hi | hi
          · exact hsub i hi
          · rw [← hi]; exact c.1) (by
          have := zr_pop_or A hA q hq c.2.1
          omega)]
        refine zp_sm_congr 6 (fun p hp => ?_)
        have hb : (A ||| 2 ^ q).testBit p = false ↔ A.testBit p = false ∧ ¬ q = p := by rw [zr_orb, Bool.or_eq_false_iff, decide_eq_false_iff_not]
        by_cases d : S.testBit p = true ∧ A.testBit p = false ∧ ft (zp_sd S (2 ^ p)) p = true
        · by_cases f : q = p
          · rw [if_neg (fun z => (hb.mp z.2.1).2 f), if_neg (fun z => z.2.2 f)]
          · rw [if_pos ⟨d.1, hb.mpr ⟨d.2.1, f⟩, d.2.2⟩, if_pos ⟨c, d, f⟩]
        · rw [if_neg (fun z => d ⟨z.1, (hb.mp z.2.1).1, z.2.2⟩), if_neg (fun z => d z.2.1)]
      · rw [if_neg c]
        exact (zr_sm_z 6 (fun p _ => if_neg (fun z => c z.1))).symm
    rw [e1, zr_sm_swap]
    refine zp_sm_congr 6 (fun p hp => ?_)
    by_cases d : S.testBit p = true ∧ A.testBit p = false ∧ ft (zp_sd S (2 ^ p)) p = true
    · rw [if_pos d, zr_wf_s]
      refine zp_sm_congr 6 (fun q hq => ?_)
      rw [zr_sdb]
      by_cases c : S.testBit q = true ∧ A.testBit q = false ∧ ft A q = true
      · by_cases f : q = p
        · rw [if_neg (fun z => z.2.2 f), if_neg (fun z => by
            have := z.1
            rw [f] at this
            simp at this)]
        · have f2 : ¬ p = q := fun z => f z.symm
          rw [if_pos ⟨c, d, f⟩, if_pos ⟨by rw [c.1]; simp [f2], c.2.1, c.2.2⟩]
      · rw [if_neg (fun z => c z.1), if_neg (fun z => c ⟨by
          have := z.1
          rw [Bool.and_eq_true] at this
          exact this.1, z.2.1, z.2.2⟩)]
    · rw [if_neg d]
      exact zr_sm_z 6 (fun q _ => if_neg (fun z => d z.2.1))
-- ===== the orders' numbers, digit by digit =====
theorem zr_n4 (S : Nat) (h : Nat → Nat) : ∀ n p, zp_sm (fun d => h (zp_nth S n p d)) (zp_sm (fun q => zp_tb S (p + q)) n) = zp_sm (fun q => if S.testBit (p + q) = true then h (p + q) else 0) n
  | 0, p => rfl
  | n + 1, p => by
    have ih := zr_n4 S h n (p + 1)
    have e1 : (fun q => zp_tb S (p + (q + 1))) = fun q => zp_tb S (p + 1 + q) := by
      funext q
      rw [show p + (q + 1) = p + 1 + q by omega]
    have e2 : (fun q => if S.testBit (p + (q + 1)) = true then h (p + (q + 1)) else 0) = fun q => if S.testBit (p + 1 + q) = true then h (p + 1 + q) else 0 := by
      funext q
      rw [show p + (q + 1) = p + 1 + q by omega]
    rw [zr_sm_front (fun q => zp_tb S (p + q)) n, zr_sm_front (fun q => if S.testBit (p + q) = true then h (p + q) else 0) n]
    show zp_sm (fun d => h (zp_nth S (n + 1) p d)) (zp_tb S (p + 0) + zp_sm (fun q => zp_tb S (p + (q + 1))) n) = (if S.testBit (p + 0) = true then h (p + 0) else 0) + zp_sm (fun q => if S.testBit (p + (q + 1)) = true then h (p + (q + 1)) else 0) n
    rw [e1, e2, ← ih, Nat.add_zero p]
    by_cases c : S.testBit p = true
    · rw [zp_tb_t c, if_pos c, Nat.add_comm 1, zr_sm_front]
      have a1 : zp_nth S (n + 1) p 0 = p := by rw [zp_nth_s, if_pos c, if_pos rfl]
      have a2 : ∀ d, zp_nth S (n + 1) p (d + 1) = zp_nth S n (p + 1) d := fun d => by rw [zp_nth_s, if_pos c, if_neg (by omega), Nat.add_sub_cancel]
      show h (zp_nth S (n + 1) p 0) + zp_sm (fun i => h (zp_nth S (n + 1) p (i + 1))) _ = _
      rw [a1]
      simp only [a2]
    · have a2 : ∀ d, zp_nth S (n + 1) p d = zp_nth S n (p + 1) d := fun d => by rw [zp_nth_s, if_neg c]
      rw [zp_tb_f (Bool.eq_false_iff.mpr c), if_neg c, Nat.zero_add, Nat.zero_add]
      simp only [a2]
theorem zr_n5 (R : Nat) (h : Nat → Nat) : zp_sm (fun d => h (zp_nth R 6 0 d)) (zp_pop R) = zp_sm (fun p => if R.testBit p = true then h p else 0) 6 := by
  have := zr_n4 R h 6 0
  simp only [Nat.zero_add] at this
  exact this
def zr_ok (ft : Nat → Nat → Bool) : Nat → Nat → Nat → Nat → Bool
  | 0, _, _, _ => true
  | j + 1, i, y, R => ft (zp_sd 63 R) (zp_nth R 6 0 (y / zp_un (i + 1))) && zr_ok ft j (i + 1) (y % zp_un (i + 1)) (zp_sd R (2 ^ zp_nth R 6 0 (y / zp_un (i + 1))))
theorem zr_ok_s (ft : Nat → Nat → Bool) (j i y R : Nat) : zr_ok ft (j + 1) i y R = (ft (zp_sd 63 R) (zp_nth R 6 0 (y / zp_un (i + 1))) && zr_ok ft j (i + 1) (y % zp_un (i + 1)) (zp_sd R (2 ^ zp_nth R 6 0 (y / zp_un (i + 1))))) := rfl
theorem zr_ok_row (ft : Nat → Nat → Bool) {n : Nat} (hn : n < 720) : ∀ j i, i + j = 6 → (zr_ok ft j i (zp_so n i).1 (zp_so n i).2 = true ↔ ∀ t, i ≤ t → t < 6 → ft (zp_ear (zp_row n) t) (zp_row n t) = true)
  | 0, i, hi => ⟨fun _ t h1 h2 => by omega, fun _ => rfl⟩
  | j + 1, i, hi => by
    have ih := zr_ok_row ft hn j (i + 1) (by omega)
    rw [zr_so1] at ih
    have e : zr_ok ft (j + 1) i (zp_so n i).1 (zp_so n i).2 = (ft (zp_sd 63 (zp_so n i).2) (zp_row n i) && zr_ok ft j (i + 1) ((zp_so n i).1 % zp_un (i + 1)) (zp_sd (zp_so n i).2 (2 ^ zp_row n i))) := rfl
    rw [e, Bool.and_eq_true, ih, zr_so_ear hn (by omega)]
    constructor
    · rintro ⟨h1, h2⟩ t a1 a2
      by_cases q : t = i
      · subst q; exact h1
      · exact h2 t (by omega) a2
    · intro h
      exact ⟨h i (Nat.le_refl i) (by omega), fun t a1 a2 => h t (by omega) a2⟩
theorem zr_cnt (ft : Nat → Nat → Bool) : ∀ j i R, i + j = 6 → R < 64 → zp_pop R = j → zp_sm (fun y => if zr_ok ft j i y R = true then 1 else 0) (zp_un i) = zr_wf ft j (zp_sd 63 R) 63
  | 0, i, R, hi, hR, hp => by
    have : i = 6 := hi
    subst this
    rfl
  | j + 1, i, R, hi, hR, hp => by
    have hup := zp_un_pos (i + 1) (by omega)
    rw [zr_un i (by omega), show 6 - i = zp_pop R by omega, zr_sm_mul, zr_wf_s]
    have e : ∀ d, d < zp_pop R → zp_sm (fun y => if zr_ok ft (j + 1) i (d * zp_un (i + 1) + y) R = true then 1 else 0) (zp_un (i + 1)) = (fun p => if ft (zp_sd 63 R) p = true then zr_wf ft j (zp_sd 63 (zp_sd R (2 ^ p))) 63 else 0) (zp_nth R 6 0 d) := by
      intro d hd
      have hb := zr_n1 R hR d hd
      have hp6 := zr_lt6 hR hb
      have hps := zr_pop_sd R hR _ hp6 hb
      have ih := zr_cnt ft j (i + 1) (zp_sd R (2 ^ zp_nth R 6 0 d)) (by omega) (zp_sd_lt hR) (by omega)
      show _ = if ft (zp_sd 63 R) (zp_nth R 6 0 d) = true then zr_wf ft j (zp_sd 63 (zp_sd R (2 ^ zp_nth R 6 0 d))) 63 else 0
      rw [← ih]
      have a : ∀ y, y < zp_un (i + 1) → zr_ok ft (j + 1) i (d * zp_un (i + 1) + y) R = (ft (zp_sd 63 R) (zp_nth R 6 0 d) && zr_ok ft j (i + 1) y (zp_sd R (2 ^ zp_nth R 6 0 d))) := by
        intro y hy
        have b1 : (d * zp_un (i + 1) + y) / zp_un (i + 1) = d := by
          rw [Nat.add_comm, Nat.add_mul_div_right _ _ hup, Nat.div_eq_of_lt hy, Nat.zero_add]
        have b2 : (d * zp_un (i + 1) + y) % zp_un (i + 1) = y := by
          rw [Nat.add_comm, Nat.add_mul_mod_self_right, Nat.mod_eq_of_lt hy]
        rw [zr_ok_s, b1, b2]
      by_cases c : ft (zp_sd 63 R) (zp_nth R 6 0 d) = true
      · rw [if_pos c]
        refine zp_sm_congr _ (fun y hy => ?_)
        rw [a y hy, c, Bool.true_and]
      · rw [if_neg c]
        refine zr_sm_z _ (fun y hy => ?_)
        rw [a y hy, Bool.eq_false_iff.mpr c, Bool.false_and]
        rfl
    rw [zp_sm_congr (zp_pop R) e, zr_n5 R (fun p => if ft (zp_sd 63 R) p = true then zr_wf ft j (zp_sd 63 (zp_sd R (2 ^ p))) 63 else 0)]
    refine zp_sm_congr 6 (fun p hp6 => ?_)
    by_cases c : R.testBit p = true
    · have e2 : zp_sd 63 (zp_sd R (2 ^ p)) = zp_sd 63 R ||| 2 ^ p := by
        refine zr_ext (zp_sd_lt (by decide)) (zp_or_lt (zp_sd_lt (by decide)) (zp_pw_lt p hp6)) (fun i hi => ?_)
        rw [zp_sd_bit, zr_sdb, zr_orb, zp_sd_bit, zr_63 i hi]
        by_cases q : p = i
        · simp [q]
        · simp [q]
      have e3 : (zp_sd 63 R).testBit p = false := by
        rw [zp_sd_bit, c]
        simp
      rw [if_pos c, e2]
      by_cases d : ft (zp_sd 63 R) p = true
      · rw [if_pos d, if_pos ⟨zr_63 p hp6, e3, d⟩]
      · rw [if_neg d, if_neg (fun z => d z.2.2)]
    · rw [if_neg c, if_neg (fun z => ?_)]
      have := z.2.1
      rw [zp_sd_bit, zr_63 p hp6, Bool.eq_false_iff.mpr c] at this
      exact absurd this (by decide)
-- ===== which orders have the least cost =====
theorem zr_fit_all {g x r : Nat → Nat} {k : Nat} (hx : zp_RC g k x 64) (hr : zr_pn 6 r) : zr_F g k r 6 = x 63 ↔ ∀ t, 0 ≤ t → t < 6 → zp_fit g k x (zp_ear r t ||| 2 ^ r t) (r t) = true := by
  have hsd : ∀ t, t < 6 → zp_sd (zp_ear r t ||| 2 ^ r t) (2 ^ r t) = zp_ear r t := fun t ht => zr_or_sd (zr_ear_lt t (fun j hj => hr.1 j (by omega))) (hr.1 t ht) (zr_ear_no hr ht)
  have hge := zr_C_F hx hr
  have h63 := hge 6 (Nat.le_refl 6)
  rw [zr_ear_6 hr] at h63
  by_cases hk : 3 ≤ k
  · have hf : ∀ t, t < 6 → (zp_fit g k x (zp_ear r t ||| 2 ^ r t) (r t) = true ↔ x (zp_ear r t) + zr_ps g k r t = x (zp_ear r (t + 1))) := fun t ht => by
      unfold zp_fit
      rw [if_pos hk, decide_eq_true_iff, hsd t ht]
      rfl
    have hF : ∀ t, zr_F g k r (t + 1) = zr_F g k r t + zr_ps g k r t := fun t => by
      rw [zr_F_s]
      unfold zp_jn
      rw [if_pos hk]
    have hup : ∀ t, t < 6 → x (zp_ear r (t + 1)) ≤ x (zp_ear r t) + zr_ps g k r t := fun t ht => by
      have h1 := zr_C_up hx (S := zp_ear r t ||| 2 ^ r t) (p := r t) (zp_or_lt (zr_ear_lt t (fun j hj => hr.1 j (by omega))) (zp_pw_lt _ (hr.1 t ht))) (hr.1 t ht) (by rw [zr_orb]; simp)
      rw [hsd t ht] at h1
      unfold zp_jn at h1
      rw [if_pos hk] at h1
      exact h1
    constructor
    · intro h
      have down : ∀ j i, i + j = 6 → zr_F g k r i = x (zp_ear r i) := by
        intro j
        induction j with
        | zero =>
          intro i hi
          have : i = 6 := hi
          subst this
          rw [zr_ear_6 hr]
          exact h
        | succ j ih =>
          intro i hi
          have a1 := ih (i + 1) (by omega)
          have a2 := hF i
          have a3 := hup i (by omega)
          have a4 := hge i (by omega)
          omega
      intro t _ ht
      rw [hf t ht]
      have a1 := down (6 - t) t (by omega)
      have a2 := down (5 - t) (t + 1) (by omega)
      have a3 := hF t
      omega
    · intro h
      have up : ∀ i, i ≤ 6 → zr_F g k r i = x (zp_ear r i) := by
        intro i
        induction i with
        | zero => exact fun _ => hx.1.symm
        | succ i ih =>
          intro hi
          have a1 := ih (by omega)
          have a2 := hF i
          have a3 := (hf i (by omega)).mp (h i (Nat.zero_le i) (by omega))
          omega
      rw [up 6 (Nat.le_refl 6), zr_ear_6 hr]
  · have hf : ∀ t, t < 6 → (zp_fit g k x (zp_ear r t ||| 2 ^ r t) (r t) = true ↔ zr_ps g k r t ≤ x 63) := fun t ht => by
      unfold zp_fit
      rw [if_neg hk, decide_eq_true_iff, hsd t ht]
      rfl
    have hm := zr_F_mx g (show k < 3 by omega) r 6
    have hi := zr_mx_iff (f := zr_ps g k r) (b := x 63) 6
    rw [← hm] at hi
    constructor
    · intro h t _ ht
      rw [hf t ht]
      exact hi.mp (by omega) t ht
    · intro h
      have := hi.mpr (fun t ht => (hf t ht).mp (h t (Nat.zero_le t) ht))
      omega
theorem zr_W_wf {g x u : Nat → Nat} {k : Nat} (hu : zp_RW g k x u 64) : ∀ j S, S < 64 → zp_pop S = j → u S = zr_wf (fun S p => zp_fit g k x (S ||| 2 ^ p) p) j 0 S
  | 0, S, hS, hj => by
    have : S = 0 := by
      have := zr_pop_pos S hS
      rcases Nat.eq_zero_or_pos S with q | q
      · exact q
      · have := this.mpr (by omega)
        omega
    subst this
    exact hu.1
  | j + 1, S, hS, hj => by
    have h0 : 0 < S := Nat.pos_of_ne_zero ((zr_pop_pos S hS).mp (by omega))
    rw [zr_wf_last _ j 0 S (by decide) hS (fun i hi => by rw [Nat.zero_testBit] at hi; exact absurd hi (by decide)) (by
      have : zp_pop 0 = 0 := by decide
      omega), hu.2 S h0 hS]
    refine zp_sm_congr 6 (fun p hp => ?_)
    by_cases c : S.testBit p = true
    · have hps := zr_pop_sd S hS p hp c
      have ih := zr_W_wf hu j (zp_sd S (2 ^ p)) (zp_sd_lt hS) (by omega)
      show _ = if S.testBit p = true ∧ (0 : Nat).testBit p = false ∧ zp_fit g k x (zp_sd S (2 ^ p) ||| 2 ^ p) p = true then _ else 0
      rw [zr_sd_or hS hp c, ih]
      by_cases d : zp_fit g k x S p = true
      · rw [if_pos ⟨c, d⟩, if_pos ⟨c, Nat.zero_testBit p, d⟩]
      · rw [if_neg (fun z => d z.2), if_neg (fun z => d z.2.2)]
    · rw [if_neg (fun z => c z.1), if_neg (fun z => c z.1)]
theorem zq_count {g x u : Nat → Nat} (hG : zp_G g) {k : Nat} (hk : k < 5) (hx : zp_RC g k x 64) (hu : zp_RW g k x u 64) (c0 : Nat) : u 63 = zp_cn (zp_v g (zp_wh k)) c0 720 := by
  have h1 : zp_cn (zp_v g (zp_wh k)) c0 720 = zr_ct (zp_v g (zp_wh k)) (zp_le (zp_v g (zp_wh k)) 720) 720 := zr_cn (zr_v_le g (zp_wh k)) c0 719
  rw [h1, ← zq_least hG hk hx, zr_W_wf hu 6 63 (by decide) (by decide)]
  have h2 := zr_cnt (fun S p => zp_fit g k x (S ||| 2 ^ p) p) 6 0 63 rfl (by decide) (by decide)
  have e0 : zp_sd 63 63 = 0 := by decide
  rw [e0] at h2
  rw [← h2]
  unfold zr_ct
  refine zp_sm_congr 720 (fun n hn => ?_)
  have h3 := zr_ok_row (fun S p => zp_fit g k x (S ||| 2 ^ p) p) hn 6 0 rfl
  have h4 := zr_fit_all hx (zr_row_pm hn)
  have h5 : zr_ok (fun S p => zp_fit g k x (S ||| 2 ^ p) p) 6 0 n 63 = true ↔ zp_v g (zp_wh k) n = x 63 := by
    rw [zr_vF hG hk hn]
    exact Iff.trans h3 h4.symm
  by_cases c : zp_v g (zp_wh k) n = x 63
  · rw [if_pos (h5.mpr c), if_pos c]
  · rw [if_neg (fun z => c (h5.mp z)), if_neg c]
end
section
/-! PLAIN LAW, 7: the search for an order of little stretch -/
theorem zr_dfs_s (g : Nat → Nat) (far n d S : Nat) (pl tr : Nat → Nat) : zp_dfs g far (n + 1) d S pl tr = if d = 6 then true else if tr d = 6 then (if d = 0 then false else zp_dfs g far n (d - 1) (zp_sd S (2 ^ (pl (d - 1)))) pl tr) else if S.testBit (tr d) = false ∧ zp_ok g pl (tr d) d far = true then zp_dfs g far n (d + 1) (S ||| 2 ^ (tr d)) (va_up pl d (tr d)) (if d + 1 < 6 then va_up (va_up tr d (tr d + 1)) (d + 1) 0 else va_up tr d (tr d + 1)) else zp_dfs g far n d S pl (va_up tr d (tr d + 1)) := by
  first | rfl | rw [zp_dfs]
def zr_ex (g : Nat → Nat) (far : Nat) : Nat → Nat → Nat → (Nat → Nat) → Prop
  | 0, _, _, _ => True
  | j + 1, d, S, pl => ∃ p, p < 6 ∧ S.testBit p = false ∧ zp_ok g pl p d far = true ∧ zr_ex g far j (d + 1) (S ||| 2 ^ p) (va_up pl d p)
theorem zr_okiff {g pl : Nat → Nat} {p d far : Nat} : zp_ok g pl p d far = true ↔ ∀ i, i < d - far → (g p).testBit (pl i) = false := by
  unfold zp_ok
  rw [List.all_eq_true]
  constructor
  · intro h i hi
    have := h i (List.mem_range.mpr hi)
    simpa using this
  · intro h i hi
    rw [h i (List.mem_range.mp hi)]
    rfl
theorem zr_ok_congr {g pl pl' : Nat → Nat} {p d far : Nat} (h : ∀ i, i < d → pl i = pl' i) : zp_ok g pl p d far = zp_ok g pl' p d far := by
  rw [Bool.eq_iff_iff, zr_okiff, zr_okiff]
  constructor
  · intro q i hi
    rw [← h i (by omega)]
    exact q i hi
  · intro q i hi
    rw [h i (by omega)]
    exact q i hi
theorem zr_up_congr {pl pl' : Nat → Nat} {d p : Nat} (h : ∀ i, i < d → pl i = pl' i) : ∀ i, i < d + 1 → va_up pl d p i = va_up pl' d p i := by
  intro i hi
  by_cases q : i = d
  · subst q
    rw [zp_up_s, zp_up_s]
  · rw [zp_up_n q, zp_up_n q]
    exact h i (by omega)
theorem zr_ex_congr {g : Nat → Nat} {far : Nat} : ∀ j d S pl pl', (∀ i, i < d → pl i = pl' i) → zr_ex g far j d S pl → zr_ex g far j d S pl'
  | 0, _, _, _, _, _, _ => trivial
  | j + 1, d, S, pl, pl', h, hx => by
    obtain ⟨p, h1, h2, h3, h4⟩ := hx
    exact ⟨p, h1, h2, by rw [← zr_ok_congr h]; exact h3, zr_ex_congr j (d + 1) _ _ _ (zr_up_congr h) h4⟩
def zr_et (g : Nat → Nat) (far j d S : Nat) (pl : Nat → Nat) (t : Nat) : Prop := ∃ p, t ≤ p ∧ p < 6 ∧ S.testBit p = false ∧ zp_ok g pl p d far = true ∧ zr_ex g far j (d + 1) (S ||| 2 ^ p) (va_up pl d p)
theorem zr_et_congr {g : Nat → Nat} {far j d S t : Nat} {pl pl' : Nat → Nat} (h : ∀ i, i < d → pl i = pl' i) (hx : zr_et g far j d S pl t) : zr_et g far j d S pl' t := by
  obtain ⟨p, h0, h1, h2, h3, h4⟩ := hx
  exact ⟨p, h0, h1, h2, by rw [← zr_ok_congr h]; exact h3, zr_ex_congr j (d + 1) _ _ _ (zr_up_congr h) h4⟩
theorem zr_et_s {g : Nat → Nat} {far j d S t : Nat} {pl : Nat → Nat} (hx : zr_et g far j d S pl t) : (S.testBit t = false ∧ zp_ok g pl t d far = true ∧ zr_ex g far j (d + 1) (S ||| 2 ^ t) (va_up pl d t)) ∨ zr_et g far j d S pl (t + 1) := by
  obtain ⟨p, h0, h1, h2, h3, h4⟩ := hx
  by_cases q : p = t
  · subst q
    exact Or.inl ⟨h2, h3, h4⟩
  · exact Or.inr ⟨p, by omega, h1, h2, h3, h4⟩
theorem zr_et_l {g : Nat → Nat} {far j d S t : Nat} {pl : Nat → Nat} (hx : zr_et g far j d S pl (t + 1)) : zr_et g far j d S pl t := by
  obtain ⟨p, h0, h1⟩ := hx
  exact ⟨p, by omega, h1⟩
def zr_cj : Nat → Nat
  | 0 => 0
  | j + 1 => 6 + (j + 1) * (zr_cj j + 1)
def zr_fr (S : Nat) : Nat → Nat
  | 0 => 0
  | e + 1 => (if S.testBit (5 - e) = true then 0 else 1) + zr_fr S e
theorem zr_fr6 : ∀ S, S < 64 → zr_fr S 6 + zp_pop S = 6 := by decide +kernel
theorem zr_dfs_in {g : Nat → Nat} {far j d : Nat} (hd : d + (j + 1) = 6)
    (OUT : ∀ S (pl tr : Nat → Nat) n, S < 64 → zp_pop S = d + 1 → (tr (d + 1) = 0 ∨ d + 1 = 6) → zr_cj j < n → (zr_ex g far j (d + 1) S pl → zp_dfs g far n (d + 1) S pl tr = true) ∧ (¬ zr_ex g far j (d + 1) S pl → ∃ c, ∃ (pl' tr' : Nat → Nat), c ≤ zr_cj j ∧ (∀ i, i < d + 1 → pl' i = pl i) ∧ (∀ i, i < d + 1 → tr' i = tr i) ∧ tr' (d + 1) = 6 ∧ d + 1 < 6 ∧ zp_dfs g far n (d + 1) S pl tr = zp_dfs g far (n - c) (d + 1) S pl' tr')) :
    ∀ e, e ≤ 6 → ∀ S (pl tr : Nat → Nat) n, S < 64 → zp_pop S = d → tr d = 6 - e → e + zr_fr S e * (zr_cj j + 1) < n → (zr_et g far j d S pl (6 - e) → zp_dfs g far n d S pl tr = true) ∧ (¬ zr_et g far j d S pl (6 - e) → ∃ c, ∃ (pl' tr' : Nat → Nat), c ≤ e + zr_fr S e * (zr_cj j + 1) ∧ (∀ i, i < d → pl' i = pl i) ∧ (∀ i, i < d → tr' i = tr i) ∧ tr' d = 6 ∧ zp_dfs g far n d S pl tr = zp_dfs g far (n - c) d S pl' tr') := by
  intro e
  induction e with
  | zero =>
    intro _ S pl tr n hS hp ht hn
    refine ⟨fun h => ?_, fun _ => ⟨0, pl, tr, Nat.zero_le _, fun _ _ => rfl, fun _ _ => rfl, ht, rfl⟩⟩
    obtain ⟨p, h1, h2, _⟩ := h
    exact absurd h1 (by omega)
  | succ e ih =>
    intro he S pl tr n hS hp ht hn
    have he' : 6 - (e + 1) + 1 = 6 - e := by omega
    have h5 : 5 - e = 6 - (e + 1) := by omega
    have ht6 : tr d < 6 := by omega
    have hfr : zr_fr S (e + 1) = (if S.testBit (5 - e) = true then 0 else 1) + zr_fr S e := rfl
    obtain ⟨m, rfl⟩ : ∃ m, n = m + 1 := ⟨n - 1, by omega⟩
    have hstep := zr_dfs_s g far m d S pl tr
    rw [if_neg (show ¬ d = 6 by omega), if_neg (show ¬ tr d = 6 by omega)] at hstep
    rw [h5, ← ht] at hfr
    rw [← ht] at he'
    rw [← ht]
    by_cases hacc : S.testBit (tr d) = false ∧ zp_ok g pl (tr d) d far = true
    · rw [if_pos hacc] at hstep
      have hSt : S.testBit (tr d) = false := hacc.1
      have hfr' : zr_fr S (e + 1) = 1 + zr_fr S e := by rw [hfr, if_neg (by rw [hSt]; decide)]
      have hmul : zr_fr S (e + 1) * (zr_cj j + 1) = (zr_cj j + 1) + zr_fr S e * (zr_cj j + 1) := by rw [hfr', Nat.add_mul, Nat.one_mul]
      have hS2 : S ||| 2 ^ tr d < 64 := zp_or_lt hS (zp_pw_lt _ ht6)
      have hp2 : zp_pop (S ||| 2 ^ tr d) = d + 1 := by rw [zr_pop_or S hS _ ht6 hSt, hp]
      generalize htr : (if d + 1 < 6 then va_up (va_up tr d (tr d + 1)) (d + 1) 0 else va_up tr d (tr d + 1)) = tr1 at hstep
      have t1 : tr1 (d + 1) = 0 ∨ d + 1 = 6 := by
        by_cases q : d + 1 < 6
        · rw [if_pos q] at htr
          left
          rw [← htr, zp_up_s]
        · right
          omega
      have t2 : ∀ i, i < d → tr1 i = tr i := by
        intro i hi
        rw [← htr]
        split
        · rw [zp_up_n (by omega), zp_up_n (by omega)]
        · rw [zp_up_n (by omega)]
      have t3 : tr1 d = tr d + 1 := by
        rw [← htr]
        split
        · rw [zp_up_n (by omega), zp_up_s]
        · rw [zp_up_s]
      obtain ⟨o1, o2⟩ := OUT (S ||| 2 ^ tr d) (va_up pl d (tr d)) tr1 m hS2 hp2 t1 (by omega)
      by_cases hex : zr_ex g far j (d + 1) (S ||| 2 ^ tr d) (va_up pl d (tr d))
      · rw [hstep]
        exact ⟨fun _ => o1 hex, fun hno => absurd ⟨tr d, Nat.le_refl _, ht6, hacc.1, hacc.2, hex⟩ hno⟩
      · obtain ⟨c, pl2, tr2, c1, c2, c3, c4, c5, c6⟩ := o2 hex
        obtain ⟨w, hw⟩ : ∃ w, m - c = w + 1 := ⟨m - c - 1, by omega⟩
        have e1 : pl2 d = tr d := by rw [c2 d (by omega), zp_up_s]
        have s2 := zr_dfs_s g far w (d + 1) (S ||| 2 ^ tr d) pl2 tr2
        rw [if_neg (show ¬ d + 1 = 6 by omega), if_pos c4, if_neg (show ¬ d + 1 = 0 by omega), Nat.add_sub_cancel, e1, zr_or_sd hS ht6 hSt] at s2
        rw [hw, s2] at c6
        have b1 : ∀ i, i < d → pl2 i = pl i := fun i hi => by rw [c2 i (by omega), zp_up_n (by omega)]
        have b2 : tr2 d = 6 - e := by rw [c3 d (by omega), t3, he']
        have b3 : ∀ i, i < d → tr2 i = tr i := fun i hi => by rw [c3 i (by omega), t2 i hi]
        obtain ⟨i1, i2⟩ := ih (by omega) S pl2 tr2 w hS hp b2 (by omega)
        rw [hstep, c6]
        constructor
        · intro h
          refine i1 ?_
          rcases zr_et_s h with z | z
          · exact absurd z.2.2 hex
          · rw [← he']
            exact zr_et_congr (fun i hi => (b1 i hi).symm) z
        · intro h
          obtain ⟨c', pl', tr', d1, d2, d3, d4, d5⟩ := i2 (fun z => h (zr_et_l (zr_et_congr b1 (by rw [← he'] at z; exact z))))
          refine ⟨c' + c + 2, pl', tr', by omega, fun i hi => by rw [d2 i hi, b1 i hi], fun i hi => by rw [d3 i hi, b3 i hi], d4, ?_⟩
          rw [d5]
          have : m + 1 - (c' + c + 2) = w - c' := by omega
          rw [this]
    · rw [if_neg hacc] at hstep
      have b2 : va_up tr d (tr d + 1) d = 6 - e := by rw [zp_up_s, he']
      have hle : zr_fr S e ≤ zr_fr S (e + 1) := by
        rw [hfr]
        exact Nat.le_add_left _ _
      have hmul := Nat.mul_le_mul_right (zr_cj j + 1) hle
      obtain ⟨i1, i2⟩ := ih (by omega) S pl (va_up tr d (tr d + 1)) m hS hp b2 (by omega)
      rw [hstep]
      constructor
      · intro h
        refine i1 ?_
        rcases zr_et_s h with z | z
        · exact absurd ⟨z.1, z.2.1⟩ hacc
        · rw [← he']
          exact z
      · intro h
        obtain ⟨c', pl', tr', d1, d2, d3, d4, d5⟩ := i2 (fun z => h (zr_et_l (by rw [← he'] at z; exact z)))
        refine ⟨c' + 1, pl', tr', by omega, d2, fun i hi => by rw [d3 i hi, zp_up_n (by omega)], d4, ?_⟩
        rw [d5]
        have : m + 1 - (c' + 1) = m - c' := by omega
        rw [this]
theorem zr_dfs_out {g : Nat → Nat} {far : Nat} : ∀ j d, d + j = 6 → ∀ S (pl tr : Nat → Nat) n, S < 64 → zp_pop S = d → (tr d = 0 ∨ d = 6) → zr_cj j < n → (zr_ex g far j d S pl → zp_dfs g far n d S pl tr = true) ∧ (¬ zr_ex g far j d S pl → ∃ c, ∃ (pl' tr' : Nat → Nat), c ≤ zr_cj j ∧ (∀ i, i < d → pl' i = pl i) ∧ (∀ i, i < d → tr' i = tr i) ∧ tr' d = 6 ∧ d < 6 ∧ zp_dfs g far n d S pl tr = zp_dfs g far (n - c) d S pl' tr')
  | 0, d, hd, S, pl, tr, n, hS, hp, ht, hn => by
    have hd : d = 6 := hd
    obtain ⟨m, rfl⟩ : ∃ m, n = m + 1 := ⟨n - 1, by omega⟩
    refine ⟨fun _ => ?_, fun h => absurd trivial h⟩
    rw [zr_dfs_s, if_pos hd]
  | j + 1, d, hd, S, pl, tr, n, hS, hp, ht, hn => by
    have e6 := zr_fr6 S hS
    have ec : zr_cj (j + 1) = 6 + (j + 1) * (zr_cj j + 1) := rfl
    have ef : zr_fr S 6 = j + 1 := by omega
    obtain ⟨h1, h2⟩ := zr_dfs_in (g := g) (far := far) (j := j) (d := d) hd (fun S pl tr n a b c f => zr_dfs_out j (d + 1) (by omega) S pl tr n a b c f) 6 (Nat.le_refl 6) S pl tr n hS hp (by omega) (by rw [ef, ← ec]; exact hn)
    rw [ef, ← ec] at h2
    constructor
    · rintro ⟨p, a1, a2, a3, a4⟩
      exact h1 ⟨p, by omega, a1, a2, a3, a4⟩
    · intro h
      obtain ⟨c, pl', tr', b1, b2, b3, b4, b5⟩ := h2 (fun ⟨p, _, a1, a2, a3, a4⟩ => h ⟨p, a1, a2, a3, a4⟩)
      exact ⟨c, pl', tr', b1, b2, b3, b4, by omega, b5⟩
theorem zr_dfs_top {g : Nat → Nat} {far : Nat} {P T : Nat → Nat} (hT : T 0 = 0) : zp_dfs g far 20000 0 0 P T = true ↔ zr_ex g far 6 0 0 P := by
  have hc : zr_cj 6 = 9378 := by decide
  obtain ⟨h1, h2⟩ := zr_dfs_out (g := g) (far := far) 6 0 rfl 0 P T 20000 (by decide) (by decide) (Or.inl hT) (by omega)
  constructor
  · intro h
    apply Classical.byContradiction
    intro hno
    obtain ⟨c, pl', tr', c1, _, _, c4, _, c6⟩ := h2 hno
    obtain ⟨w, hw⟩ : ∃ w, 20000 - c = w + 1 := ⟨20000 - c - 1, by omega⟩
    rw [c6, hw, zr_dfs_s, if_neg (by decide), if_pos c4, if_pos rfl] at h
    exact absurd h (by decide)
  · exact h1
-- ===== orders of little stretch =====
theorem zr_ex_to {g : Nat → Nat} {far : Nat} : ∀ j d (pl : Nat → Nat), d + j = 6 → zr_pn d pl → (∀ t, t < d → zp_ok g pl (pl t) t far = true) → zr_ex g far j d (zp_ear pl d) pl → ∃ r, zr_pn 6 r ∧ ∀ t, t < 6 → zp_ok g r (r t) t far = true
  | 0, d, pl, hd, hp, ho, _ => by
    have hd : d = 6 := hd
    subst hd
    exact ⟨pl, hp, ho⟩
  | j + 1, d, pl, hd, hp, ho, hx => by
    obtain ⟨p, h1, h2, h3, h4⟩ := hx
    have a1 : ∀ i, i < d → va_up pl d p i = pl i := fun i hi => zp_up_n (by omega)
    rw [← zr_up_ear] at h4
    refine zr_ex_to j (d + 1) (va_up pl d p) (by omega) (zr_pn_up hp h1 h2) (fun t ht => ?_) h4
    by_cases q : t = d
    · subst q
      rw [zp_up_s, zr_ok_congr a1]
      exact h3
    · rw [a1 t (by omega), zr_ok_congr (pl' := pl) (fun i hi => a1 i (by omega))]
      exact ho t (by omega)
theorem zr_ex_of {g : Nat → Nat} {far : Nat} {r : Nat → Nat} (hr : zr_pn 6 r) (ho : ∀ t, t < 6 → zp_ok g r (r t) t far = true) : ∀ j d, d + j = 6 → zr_ex g far j d (zp_ear r d) r
  | 0, _, _ => trivial
  | j + 1, d, hd => by
    have ih := zr_ex_of hr ho j (d + 1) (by omega)
    refine ⟨r d, hr.1 d (by omega), zr_ear_no hr (by omega), ho d (by omega), ?_⟩
    refine zr_ex_congr j (d + 1) _ r _ (fun i hi => ?_) ih
    by_cases q : i = d
    · subst q
      rw [zp_up_s]
    · rw [zp_up_n q]
theorem zr_str_iff {g r : Nat → Nat} (hG : zp_G g) (hr : zr_pn 6 r) {far : Nat} : zp_nm g r 2 ≤ far ↔ ∀ t, t < 6 → zp_ok g r (r t) t far = true := by
  show zp_mx (zp_s2 g r) 6 ≤ far ↔ _
  rw [zr_mx_iff]
  constructor
  · intro h t ht
    rw [zr_okiff]
    intro i hi
    have h1 := h t ht
    unfold zp_s2 at h1
    rw [zr_mx_iff] at h1
    have h2 := h1 i (by omega)
    unfold zp_st1 at h2
    cases e : (g (r t)).testBit (r i)
    · rfl
    · rw [if_pos (by rw [hG.2.1 (r i) (r t) (hr.1 i (by omega)) (hr.1 t ht)]; exact e)] at h2
      omega
  · intro h t ht
    unfold zp_s2
    rw [zr_mx_iff]
    intro i hi
    unfold zp_st1
    by_cases e : (g (r i)).testBit (r t) = true
    · rw [if_pos e]
      rcases Nat.lt_or_ge far (t - i) with q | q
      · have h1 := zr_okiff.mp (h t ht) i (by omega)
        rw [hG.2.1 (r t) (r i) (hr.1 t ht) (hr.1 i (by omega)), e] at h1
        exact absurd h1 (by decide)
      · exact q
    · rw [if_neg e]
      exact Nat.zero_le far
theorem zr_str_go (L : Nat) : ∀ n far, far ≤ L → L ≤ far + n → zp_str (fun f => decide (L ≤ f)) n far = L
  | 0, far, h1, h2 => by
    show far = L
    omega
  | n + 1, far, h1, h2 => by
    show (if decide (L ≤ far) = true then far else zp_str (fun f => decide (L ≤ f)) n (far + 1)) = L
    by_cases q : L ≤ far
    · rw [if_pos (decide_eq_true q)]
      omega
    · rw [if_neg (fun z => q (of_decide_eq_true z))]
      exact zr_str_go L n (far + 1) (by omega) (by omega)
theorem zq_str {g : Nat → Nat} (hG : zp_G g) : ∃ fit : Nat → Bool, (∀ far, far < 5 → ∀ P T : Nat → Nat, T 0 = 0 → zp_dfs g far 20000 0 0 P T = fit far) ∧ zp_str fit 5 0 = zp_le (zp_v g 2) 720 := by
  refine ⟨fun far => decide (zp_le (zp_v g 2) 720 ≤ far), fun far _ P T hT => ?_, ?_⟩
  · rw [Bool.eq_iff_iff, zr_dfs_top hT, decide_eq_true_iff]
    constructor
    · intro h
      obtain ⟨r, hr, ho⟩ := zr_ex_to 6 0 P rfl ⟨fun i hi => absurd hi (Nat.not_lt_zero i), fun i j hi => absurd hi (Nat.not_lt_zero i)⟩ (fun t ht => absurd ht (Nat.not_lt_zero t)) h
      obtain ⟨n, hn, e⟩ := zr_onto hr
      have h1 := (zr_str_iff hG (zr_row_pm hn) (far := far)).mpr (fun t ht => by
        rw [e t ht, zr_ok_congr (pl' := r) (fun i hi => e i (by omega))]
        exact ho t ht)
      exact Nat.le_trans (zr_le_at (v := zp_v g 2) 720 hn) h1
    · intro h
      obtain ⟨i, hi, e⟩ := zr_le_is (zr_v_le g 2) 719
      have e : zp_le (zp_v g 2) 720 = zp_v g 2 i := e
      rw [e] at h
      have h1 := (zr_str_iff hG (zr_row_pm hi) (far := far)).mp h
      exact zr_ex_congr 6 0 0 (zp_row i) P (fun j hj => absurd hj (Nat.not_lt_zero j)) (zr_ex_of (zr_row_pm hi) h1 6 0 rfl)
  · refine zr_str_go _ 5 0 (Nat.zero_le _) ?_
    have h1 := zr_le_at (v := zp_v g 2) (i := 0) 720 (by decide)
    have h2 : zp_v g 2 0 ≤ 5 := by
      show zp_mx (zp_s2 g (zp_row 0)) 6 ≤ 5
      refine (zr_mx_iff 6).mpr (fun t ht => ?_)
      have := zp_stM_le g (zp_row 0) t (t + 1)
      unfold zp_s2
      omega
    omega
end
section
/-! PLAIN LAW, 8: cliques; turning a line -/
theorem zr_isq {g : Nat → Nat} {S : Nat} : zp_isq g S = true ↔ ∀ p, p < 6 → S.testBit p = true → ∀ q, S.testBit q = true → ¬ p = q → (g p).testBit q = true := by
  constructor
  · intro h p hp hb q hq hn
    have h0 : zp_sd (zp_sd S (g p)) (2 ^ p) = 0 := by
      apply Classical.byContradiction
      intro hc
      rw [zp_isq_f hp hb hc] at h
      exact absurd h (by decide)
    have h1 : (zp_sd (zp_sd S (g p)) (2 ^ p)).testBit q = false := by rw [h0, Nat.zero_testBit]
    rw [zr_sdb, zp_sd_bit, hq] at h1
    simp [hn] at h1
    exact h1
  · intro h
    refine zp_isq_t (fun p hp hb => ?_)
    refine Nat.eq_of_testBit_eq (fun q => ?_)
    rw [zr_sdb, zp_sd_bit, Nat.zero_testBit]
    by_cases hn : p = q
    · simp [hn]
    · cases hq : S.testBit q
      · rfl
      · rw [h p hp hb q hq hn]
        rfl
theorem zr_low : ∀ S, S < 64 → 0 < S → S.testBit (zp_low S) = true := by decide +kernel
theorem zr_clq {g u : Nat → Nat} (hG : zp_G g) (hu : zp_RQ g u 64) : ∀ n S, S < n → S < 64 → (u S = 1 ↔ zp_isq g S = true)
  | 0, S, h, _ => absurd h (Nat.not_lt_zero S)
  | n + 1, S, h, hS => by
    rcases Nat.eq_zero_or_pos S with q | h0
    · subst q
      rw [hu.1, zr_isq]
      exact ⟨fun _ p _ hb => by rw [Nat.zero_testBit] at hb; exact absurd hb (by decide), fun _ => rfl⟩
    · have hlt := zp_rest_lt S h0 hS
      have ih := zr_clq hG hu n (zp_sd S (2 ^ zp_low S)) (by omega) (zp_sd_lt hS)
      have hl := zr_low S hS h0
      have hl6 := zp_low_lt S
      rw [hu.2 S h0 hS]
      have e : (if u (zp_sd S (2 ^ zp_low S)) = 1 ∧ zp_sd (zp_sd S (2 ^ zp_low S)) (g (zp_low S)) = 0 then 1 else 0) = 1 ↔ (u (zp_sd S (2 ^ zp_low S)) = 1 ∧ zp_sd (zp_sd S (2 ^ zp_low S)) (g (zp_low S)) = 0) := by
        constructor
        · intro z
          apply Classical.byContradiction
          intro hc
          rw [if_neg hc] at z
          exact absurd z (by decide)
        · intro z
          rw [if_pos z]
      have rb : ∀ q, (zp_sd S (2 ^ zp_low S)).testBit q = true ↔ S.testBit q = true ∧ ¬ zp_low S = q := fun q => by
        rw [zr_sdb, Bool.and_eq_true, Bool.not_eq_true', decide_eq_false_iff_not]
      rw [e, ih, zr_isq, zr_isq]
      constructor
      · rintro ⟨h1, h2⟩ p hp hb q hq hn
        have h3 : ∀ q, S.testBit q = true → ¬ zp_low S = q → (g (zp_low S)).testBit q = true := fun q hq hn => by
          have h4 : (zp_sd (zp_sd S (2 ^ zp_low S)) (g (zp_low S))).testBit q = false := by rw [h2, Nat.zero_testBit]
          rw [zp_sd_bit, (rb q).mpr ⟨hq, hn⟩] at h4
          simpa using h4
        by_cases c : zp_low S = p
        · rw [← c]
          exact h3 q hq (fun z => hn (by rw [← c, z]))
        · by_cases d : zp_low S = q
          · rw [← d, hG.2.1 p (zp_low S) hp hl6]
            exact h3 p hb c
          · exact h1 p hp ((rb p).mpr ⟨hb, c⟩) q ((rb q).mpr ⟨hq, d⟩) hn
      · intro h1
        refine ⟨fun p hp hb q hq hn => h1 p hp ((rb p).mp hb).1 q ((rb q).mp hq).1 hn, Nat.eq_of_testBit_eq (fun q => ?_)⟩
        rw [zp_sd_bit, Nat.zero_testBit]
        cases c : (zp_sd S (2 ^ zp_low S)).testBit q
        · rfl
        · rw [h1 (zp_low S) hl6 hl q ((rb q).mp c).1 ((rb q).mp c).2]
          rfl
theorem zq_clique {g u : Nat → Nat} (hG : zp_G g) (hu : zp_RQ g u 64) : zp_bst u 64 = zp_mq g 64 := by
  have key : ∀ n, n < 64 → zp_bst u (n + 1) = zp_mq g (n + 1) := by
    intro n
    induction n with
    | zero =>
      intro _
      show 0 = if 0 < zp_pop 0 ∧ zp_isq g 0 = true then zp_pop 0 else 0
      have : zp_pop 0 = 0 := by decide
      rw [this, if_neg (fun z => absurd z.1 (by decide))]
    | succ n ih =>
      intro hn
      have e : zp_mq g (n + 1 + 1) = if zp_mq g (n + 1) < zp_pop (n + 1) ∧ zp_isq g (n + 1) = true then zp_pop (n + 1) else zp_mq g (n + 1) := rfl
      have h := zr_clq hG hu 64 (n + 1) hn hn
      rw [zp_bst_s u (Nat.succ_pos n), e, ih (by omega)]
      by_cases c : zp_mq g (n + 1) < zp_pop (n + 1) ∧ zp_isq g (n + 1) = true
      · rw [if_pos c, if_pos ⟨h.mpr c.2, c.1⟩]
      · rw [if_neg c, if_neg (fun z => c ⟨z.2, h.mp z.1⟩)]
  exact key 63 (by decide)
theorem zr_tnb {g : Nat → Nat} {i j : Nat} (hij : i ≠ j) (p q : Nat) : (zp_tn g i j p).testBit q = ((g p).testBit q ^^ decide ((p = i ∧ q = j) ∨ (p = j ∧ q = i))) := by
  rw [zp_tn_at hij]
  by_cases h1 : p = i
  · rw [if_pos h1, Nat.testBit_xor, Nat.testBit_two_pow, h1, show decide (j = q) = decide ((i = i ∧ q = j) ∨ (i = j ∧ q = i)) from decide_eq_decide.mpr ⟨fun h => Or.inl ⟨rfl, h.symm⟩, fun h => h.elim (fun z => z.2.symm) (fun z => absurd z.1 hij)⟩]
  · rw [if_neg h1]
    by_cases h2 : p = j
    · rw [if_pos h2, Nat.testBit_xor, Nat.testBit_two_pow, h2, show decide (i = q) = decide ((j = i ∧ q = j) ∨ (j = j ∧ q = i)) from decide_eq_decide.mpr ⟨fun h => Or.inr ⟨rfl, h.symm⟩, fun h => h.elim (fun z => absurd z.1.symm hij) (fun z => z.2.symm)⟩]
    · rw [if_neg h2, show decide ((p = i ∧ q = j) ∨ (p = j ∧ q = i)) = false from decide_eq_false (fun h => h.elim (fun z => h1 z.1) (fun z => h2 z.1)), Bool.xor_false]
theorem zq_tn {g : Nat → Nat} (hG : zp_G g) {i j : Nat} (hi : i < 6) (hj : j < 6) (hij : i ≠ j) : zp_G (zp_tn g i j) := by
  refine ⟨zp_tn_lt hG.1 hi hj hij, fun p q hp hq => ?_, fun p hp => ?_⟩
  · rw [zr_tnb hij, zr_tnb hij, hG.2.1 p q hp hq, show decide ((p = i ∧ q = j) ∨ (p = j ∧ q = i)) = decide ((q = i ∧ p = j) ∨ (q = j ∧ p = i)) from decide_eq_decide.mpr ⟨fun h => h.elim (fun z => Or.inr ⟨z.2, z.1⟩) (fun z => Or.inl ⟨z.2, z.1⟩), fun h => h.elim (fun z => Or.inr ⟨z.2, z.1⟩) (fun z => Or.inl ⟨z.2, z.1⟩)⟩]
  · rw [zr_tnb hij, hG.2.2 p hp, decide_eq_false (fun h => h.elim (fun z => hij (z.1.symm.trans z.2)) (fun z => hij (z.2.symm.trans z.1)))]
    rfl
theorem zq_0 : zp_G (fun _ => 0) := ⟨fun _ _ => Nat.zero_lt_succ _, fun p q _ _ => by simp, fun p _ => by simp⟩
theorem zp_fi_any {v : Nat → Nat} (h : ∀ i, v i ≤ 216) (c0 c1 : Nat) : zp_fi v c0 720 = zp_fi v c1 720 := by
  have key : ∀ n, zp_fi v c0 (n + 1) = zp_fi v c1 (n + 1) := by
    intro n
    induction n with
    | zero =>
      have h1 := h 0
      rw [zp_fi_s, zp_fi_s, zp_le_0]
      rw [if_pos (by omega), if_pos (by omega)]
    | succ n ih =>
      rw [zp_fi_s v c0 (n + 1), zp_fi_s v c1 (n + 1), ih]
  exact key 719
end
section
/-! THE CLAIM OUT OF ONE WALK OF THE LAW'S BODY. Your part is whole_start (and what it stands on); all else here is the same for every law, but numbers. -/
def R_law : String := "LayoutWidthsLaw"
def lw_P (b : Addr) (xs : List Int32) (args : Array Value) (s : State) : Prop := args = #[.ref b] ∧ s.IntsAt b xs ∧ xs.length ≤ 192 ∧ (Jvm.Cond.and given_1 narrow_1).before args s = true
def lw_Q (_ : Array Value) (s : State) (o : Outcome) (t : State) : Prop := o = .returned (some (.int 1)) ∧ Framed s o t [] 600000 7290000
def lw_Z (below : List Frame) (a : Array Value) (s : State) : State → Prop := fun t => ∃ o, t.status = .running ∧ Ended t below o ∧ lw_Q a s o t
/-- the law's own end, with 1 on the stack, nothing written that was there before, its room as the claim has it -/
theorem lw_ret {p : Program} {l : Launch} {e : Env} {s : State} {m : MethodId} {below : List Frame} {meth : Method} {c : Code} {b : Nat} (hx : p.tables.exec = Jvm.exec) (hb : c.code = code) (hr : meth.sig.returnType = ret) (hlocks : meth.locks = false) {pc : Nat} {H : Heap} {ls : Array Slot} (hdg : decode code pc = .ok (.ireturn, 1)) : W p l e room_1 s m #[Value.ref b] below meth c H [] 600000 7290000 (lw_Z below #[Value.ref b] s) (F0 m pc ls [.int 1]) := by
  intro T hT X
  obtain ⟨fs, hret, hrun, hended, hW, hframe⟩ := X.leave (v := some (.int 1)) (hlocks := hlocks) (fun h => by rw [hr] at h; cases h)
  have hmeth' : T.vm.method? m = some meth := X.method'
  refine ⟨T.setFrames fs, ?_, .returned (some (.int 1)), hrun, hended, rfl, ⟨_, rfl⟩, hW, hframe⟩
  jvm_step X.here [X.here.top, hx, hb, hdg, hmeth', hr, ret, narrow_b1]
  (try refine ⟨rfl, ?_⟩); (try refine ⟨rfl, ?_⟩)
  first | (intro acts; rw [hret _ acts rfl rfl rfl]) | rw [hret _ _ rfl rfl rfl]
  exact Steps.refl _
/-- what holds at the law's entry: the machine, the code, the tables' words (any of lw_tbl by 'hts w (by decide +kernel)'), the script of L ints xs at the cell b, what the Statement gives of the start (any of its parts by flat_of_before) -/
def lw_At (p : Program) (s : State) (m : MethodId) (meth : Method) (c : Code) (b L : Nat) (xs : Nat → Int32) : Prop :=
  p.tables.exec = Jvm.exec ∧ c.code = code ∧ meth.sig.returnType = ret ∧ c.maxLocals = 4 ∧ s.vm.findClass R_law = some m.cls ∧ (∀ w ∈ lw_tbl, w.before #[Value.ref b] s = true) ∧ va_X b L xs s s.heap ∧ b < s.heap.size ∧ meth.locks = false ∧ (Jvm.Cond.and given_1 narrow_1).before #[Value.ref b] s = true
end
section
/-! the law's own frame: two objects side by side, the script -/
section
variable {D : va_G} {cl : List vw_C} {H H1 : Heap} {A : Nat → Prop} {ws wr w1 : va_W}
theorem zl_left (h : va_P D cl (ws ++ wr) H) : va_P D cl ws H := fun k q hq => h k q (by rw [List.getElem?_append_left (List.getElem?_eq_some_iff.mp hq).1]; exact hq)
theorem zl_right (h : va_P D cl (ws ++ wr) H) : va_P D cl wr H := fun k q hq => h (ws.length + k) q (by rw [List.getElem?_append_right (by omega), Nat.add_sub_cancel_left]; exact hq)
theorem zl_Dl (h : va_D A (ws ++ wr)) : va_D A ws := ⟨fun i j x y hi hj e => h.1 i j x y (by rw [List.getElem?_append_left (List.getElem?_eq_some_iff.mp hi).1]; exact hi) (by rw [List.getElem?_append_left (List.getElem?_eq_some_iff.mp hj).1]; exact hj) e, fun k q hq => h.2 k q (by rw [List.getElem?_append_left (List.getElem?_eq_some_iff.mp hq).1]; exact hq)⟩
theorem zl_Dr (h : va_D A (ws ++ wr)) : va_D A wr := ⟨fun i j x y hi hj e => by
    have := h.1 (ws.length + i) (ws.length + j) x y (by rw [List.getElem?_append_right (by omega), Nat.add_sub_cancel_left]; exact hi) (by rw [List.getElem?_append_right (by omega), Nat.add_sub_cancel_left]; exact hj) e
    omega, fun k q hq => h.2 (ws.length + k) q (by rw [List.getElem?_append_right (by omega), Nat.add_sub_cancel_left]; exact hq)⟩
theorem zl_apart (h : va_D A (ws ++ wr)) (i j : Nat) (x y : Nat × va_E) (hi : ws[i]? = some x) (hj : wr[j]? = some y) : x.1 ≠ y.1 := by
  intro e
  have hl := (List.getElem?_eq_some_iff.mp hi).1
  have := h.1 i (ws.length + j) x y (by rw [List.getElem?_append_left hl]; exact hi) (by rw [List.getElem?_append_right (by omega), Nat.add_sub_cancel_left]; exact hj) e
  omega
theorem zl_out (hP : va_P D cl wr H) (ap : ∀ (i j : Nat) (x y : Nat × va_E), ws[i]? = some x → wr[j]? = some y → x.1 ≠ y.1) (k : Nat) (q : Nat × va_E) (hq : wr[k]? = some q) : ¬ va_A ws H.size q.1 := by
  intro z
  rcases z with ⟨i, e, h⟩ | h
  · exact ap i k _ q h hq rfl
  · have := (hP k q hq).lt
    omega
theorem zl_joinX (hP : va_P D cl (ws ++ wr) H) (hD : va_D A (ws ++ wr)) (hk : ∀ q : Nat, q < H.size → ¬ va_A ws H.size q → H1[q]? = H[q]?) (hF : ∀ q, va_A ws H.size q → A q) (hP1 : va_P D cl w1 H1) (hD1 : va_D (va_A ws H.size) w1) : va_P D cl (w1 ++ wr) H1 ∧ va_D A (w1 ++ wr) := by
  have o := zl_out (zl_right hP) (zl_apart hD)
  refine ⟨hP1.app ((zl_right hP).kept (fun k q hq => hk q.1 ((zl_right hP) k q hq).lt (o k q hq))), va_D.app (hD1.weaken (fun _ _ _ h => hF _ h)) (zl_Dr hD) (fun i j x y hi hj e => ?_)⟩
  exact o j y hj (by rw [← e]; exact hD1.2 i x hi)
theorem zl_joinM (hP : va_P D cl (wr ++ ws) H) (hD : va_D A (wr ++ ws)) (hk : ∀ q : Nat, q < H.size → ¬ va_A ws H.size q → H1[q]? = H[q]?) (hF : ∀ q, va_A ws H.size q → A q) (hP1 : va_P D cl w1 H1) (hD1 : va_D (va_A ws H.size) w1) : va_P D cl (wr ++ w1) H1 ∧ va_D A (wr ++ w1) := by
  have o := zl_out (ws := ws) (zl_left hP) (fun i j x y hi hj e => zl_apart hD j i y x hj hi e.symm)
  refine ⟨((zl_left hP).kept (fun k q hq => hk q.1 ((zl_left hP) k q hq).lt (o k q hq))).app hP1, va_D.app (zl_Dl hD) (hD1.weaken (fun _ _ _ h => hF _ h)) (fun i j x y hi hj e => ?_)⟩
  exact o i x hi (by rw [e]; exact hD1.2 j y hj)
end
def zl_O (D : va_G) (dA : ClassId) (A : Nat → Prop) (s : State) (H : Heap) (locs : List Loc) (qx : Nat) (fx : List Value) (sx : zw_L) (qm : Nat) (fm : List Value) (sm : zw_L) : Prop :=
  va_K D vwCl [(dA, .int)] s ∧ va_P D vwCl (zw_ow dA 0 qx fx sx ++ zw_ow dA 1 qm fm sm) H ∧ va_D A (zw_ow dA 0 qx fx sx ++ zw_ow dA 1 qm fm sm) ∧ va_S A s.heap H locs ∧ (∀ q : Nat, s.heap.size ≤ q → A q)
section
variable {p : Program} {l : Launch} {e : Env} {R : Room} {s : State} {m : MethodId} {args : Array Value} {below : List Frame} {meth : Method} {c : Code} {H : Heap} {locs : List Loc} {cells slots : Nat} {Q : State → Prop}
variable {cc : ByteArray} {pc : Nat} {ls : Array Slot} {rest : List Value} {nL : Nat} {own : String}
variable {D : va_G} {dA : ClassId} {A : Nat → Prop} {qx qm : Nat} {fx fm : List Value} {sx sm : zw_L}
theorem zl_callX {y : MethodName} {code' : ByteArray} {L index : Nat} {ret : Option FieldType} {rm : Room} {av : List Value} {post : Int32 → List Value → zw_L → Prop} (X : CallFix p m c cc nL s args lw_all own) (O : zl_O D dA A s H locs qx fx sx qm fm sm) (hM : zw_Ci l D dA y code' L ret rm 0 qx av fx sx post) (n : Nat) (hT : GoodIn lw_all (wsV own index RX0 y (ws_ y code' L ret))) (hc0 : rm.cells = 0) (hs0 : rm.slots = 0)
    (hd : y.cls = RX0 ∧ y.cls ≠ "java/lang/invoke/MethodHandle" ∧ y.cls ≠ "java/lang/invoke/VarHandle" ∧ (parseMethodDescriptor y.desc).map (fun d => d.parameters.length) = some n) (hR : rm.frames + 1 ≤ R.frames ∧ 8 + (L + 11) + rm.locals ≤ R.locals) (hn : av.length = n) (hls : ls.size = nL) {st : List Value} (hst : st = av.reverse ++ .ref qx :: rest) (hroom : (rest.map fun v => v.category).sum ≤ 8) (hdg : decode cc pc = .ok (.invokevirtual index, 3)) (hf : cells ≤ R.cells ∧ slots ≤ R.slots)
    (kk : ∀ (r : Int32) (fx' : List Value) (sx' : zw_L) (H1 : Heap) (locs1 : List Loc), post r fx' sx' → zl_O D dA A s H1 locs1 qx fx' sx' qm fm sm → W p l e R s m args below meth c H1 locs1 cells slots Q (F0 m (pc + 3) ls (.int r :: rest))) : W p l e R s m args below meth c H locs cells slots Q (F0 m pc ls st) := by
  subst hst
  have hP := zl_left O.2.1
  have hD := zl_Dl O.2.2.1
  have hFc : ∀ q, va_A (zw_ow dA 0 qx fx sx) H.size q → A q := by
    intro q h
    rcases h with ⟨k, e, h⟩ | h
    · exact hD.2 k (q, e) h
    · exact O.2.2.2.2 q (Nat.le_trans O.2.2.2.1.1 h)
  refine va_calli (va_runV (As := av) (rest := rest) X (hM H.size) (cwV n X.2.2.2.2 hT rfl hc0 hs0 hd hR) ⟨fun a U g mk q => by obtain ⟨q0, q1, qP, qK, qD⟩ := q; exact ⟨q0, q1, qP, va_K.moved (u := U) (U := U.calling g mk a) (Vm.Alike.refl U.vm) qK, qD⟩, va_recv O.1 hP (ci := 0) (q0 := 0) rfl rfl, fun U hU hW => ⟨rfl, by rw [hU], by rw [hU]; exact hP, va_K.moved hW.alike O.1, hD.weaken (fun _ _ _ _ => trivial)⟩⟩ rfl hn hls rfl (lv_room hroom) hdg hf) O.2.2.2.1 (fun q _ h => hFc q h) hFc (fun r u t H1 locs1 ht hvm hw hB hz1 hk1 hS1 => ?_)
  obtain ⟨hP1, hK1, hD1⟩ := hB
  rw [ht] at hP1
  obtain ⟨hP2, hD2⟩ := zl_joinX O.2.1 O.2.2.1 hk1 hFc hP1 hD1
  exact kk r u.1 u.2 H1 locs1 hw ⟨O.1, hP2, hD2, hS1, O.2.2.2.2⟩
theorem zl_callM {y : MethodName} {code' : ByteArray} {L index : Nat} {ret : Option FieldType} {rm : Room} {av : List Value} {post : Int32 → List Value → zw_L → Prop} (X : CallFix p m c cc nL s args lw_all own) (O : zl_O D dA A s H locs qx fx sx qm fm sm) (hM : zw_Ci l D dA y code' L ret rm 1 qm av fm sm post) (n : Nat) (hT : GoodIn lw_all (wsV own index RX1 y (ws_ y code' L ret))) (hc0 : rm.cells = 0) (hs0 : rm.slots = 0)
    (hd : y.cls = RX1 ∧ y.cls ≠ "java/lang/invoke/MethodHandle" ∧ y.cls ≠ "java/lang/invoke/VarHandle" ∧ (parseMethodDescriptor y.desc).map (fun d => d.parameters.length) = some n) (hR : rm.frames + 1 ≤ R.frames ∧ 8 + (L + 11) + rm.locals ≤ R.locals) (hn : av.length = n) (hls : ls.size = nL) {st : List Value} (hst : st = av.reverse ++ .ref qm :: rest) (hroom : (rest.map fun v => v.category).sum ≤ 8) (hdg : decode cc pc = .ok (.invokevirtual index, 3)) (hf : cells ≤ R.cells ∧ slots ≤ R.slots)
    (kk : ∀ (r : Int32) (fm' : List Value) (sm' : zw_L) (H1 : Heap) (locs1 : List Loc), post r fm' sm' → zl_O D dA A s H1 locs1 qx fx sx qm fm' sm' → W p l e R s m args below meth c H1 locs1 cells slots Q (F0 m (pc + 3) ls (.int r :: rest))) : W p l e R s m args below meth c H locs cells slots Q (F0 m pc ls st) := by
  subst hst
  have hP := zl_right O.2.1
  have hD := zl_Dr O.2.2.1
  have hFc : ∀ q, va_A (zw_ow dA 1 qm fm sm) H.size q → A q := by
    intro q h
    rcases h with ⟨k, e, h⟩ | h
    · exact hD.2 k (q, e) h
    · exact O.2.2.2.2 q (Nat.le_trans O.2.2.2.1.1 h)
  refine va_calli (va_runV (As := av) (rest := rest) X (hM H.size) (cwV n X.2.2.2.2 hT rfl hc0 hs0 hd hR) ⟨fun a U g mk q => by obtain ⟨q0, q1, qP, qK, qD⟩ := q; exact ⟨q0, q1, qP, va_K.moved (u := U) (U := U.calling g mk a) (Vm.Alike.refl U.vm) qK, qD⟩, va_recv O.1 hP (ci := 1) (q0 := 0) rfl rfl, fun U hU hW => ⟨rfl, by rw [hU], by rw [hU]; exact hP, va_K.moved hW.alike O.1, hD.weaken (fun _ _ _ _ => trivial)⟩⟩ rfl hn hls rfl (lv_room hroom) hdg hf) O.2.2.2.1 (fun q _ h => hFc q h) hFc (fun r u t H1 locs1 ht hvm hw hB hz1 hk1 hS1 => ?_)
  obtain ⟨hP1, hK1, hD1⟩ := hB
  rw [ht] at hP1
  obtain ⟨hP2, hD2⟩ := zl_joinM O.2.1 O.2.2.1 hk1 hFc hP1 hD1
  exact kk r u.1 u.2 H1 locs1 hw ⟨O.1, hP2, hD2, hS1, O.2.2.2.2⟩
/-- the script read: aload_0, iload_3, iconst j, iadd, iaload -/
theorem zl_ld {b L i j : Nat} {xs : Nat → Int32} {n : Int} {lv : List (Nat × Value)} (X : CallFix p m c cc nL s args lw_all own) (hX : va_X b L xs s s.heap) (hbl : b < s.heap.size) (hbA : ¬ A b) (hS : va_S A s.heap H locs) (hl : lv_has ls nL lv) (k0 k3 : Nat) (h0 : lv[k0]? = some (0, .ref b)) (h3 : lv[k3]? = some (3, .int (nI i))) (hij : i + j < L) (hL : L < 2147483648) (hv : Int32.ofInt n = nI j) (d1 : decode cc pc = .ok (.aload_n 0, 1)) (d2 : decode cc (pc + 1) = .ok (.iload_n 3, 1)) (d3 : decode cc (pc + 1 + 1) = .ok (.iconst n, 1)) (d4 : decode cc (pc + 1 + 1 + 1) = .ok (.iadd, 1)) (d5 : decode cc (pc + 1 + 1 + 1 + 1) = .ok (.iaload, 1))
    (kk : W p l e R s m args below meth c H locs cells slots Q (F0 m (pc + 1 + 1 + 1 + 1 + 1) ls (.int (xs (i + j)) :: rest))) : W p l e R s m args below meth c H locs cells slots Q (F0 m pc ls rest) := by
  refine lv_aload_n X.1 X.2.1 d1 rfl (lv_at hl k0 h0) ?_
  refine lv_iload_n X.1 X.2.1 d2 rfl (lv_at hl k3 h3) ?_
  refine lv_iconst (v := nI j) X.1 X.2.1 d3 hv ?_
  refine zw_add X d4 ?_
  refine va_sld X.1 X.2.1 hX hbl hbA hS (vp_in_nI hij hL) d5 ?_
  rw [nI_clamp (Nat.lt_trans hij hL)]
  exact kk
/-- i > L - 3 -/
theorem zl_gt {L i : Nat} {tgt : Nat} {off : Int} (X : CallFix p m c cc nL s args lw_all own) (hL : L < 1000) (hi : i < 1000) (hd0 : decode cc pc = .ok (.isub, 1)) (hd : decode cc (pc + 1) = .ok (.if_icmp .gt off, 3)) (ht : ((pc + 1 : Nat) : Int) + off = (tgt : Int)) (kt : L < i + 3 → W p l e R s m args below meth c H locs cells slots Q (F0 m tgt ls rest)) (kf : i + 3 ≤ L → W p l e R s m args below meth c H locs cells slots Q (F0 m (pc + 1 + 3) ls rest)) : W p l e R s m args below meth c H locs cells slots Q (F0 m pc ls (.int (nI 3) :: .int (nI L) :: .int (nI i) :: rest)) := by
  have h1 : (nI L - nI 3).toInt = (L : Int) - (3 : Nat) := pk_sub_toInt (by omega) (by decide)
  have h2 : (nI i).toInt = (i : Int) := nI_toInt (by omega)
  refine lv_isub X.1 X.2.1 hd0 ?_
  refine lv_icmp_gt (tgt := tgt) X.1 X.2.1 hd ht (fun h => kt ?_) (fun h => kf ?_)
  · have h3 := Int32.lt_iff_toInt_lt.mp h
    rw [h1, h2] at h3
    omega
  · have h3 : ¬ (nI L - nI 3).toInt < (nI i).toInt := fun q => h (Int32.lt_iff_toInt_lt.mpr q)
    rw [h1, h2] at h3
    omega
end
/-- between two calls: both objects hold the same graph; what the model knows is true of it -/
def zl_I (D : va_G) (dA : ClassId) (A : Nat → Prop) (s : State) (H : Heap) (locs : List Loc) (qx qm : Nat) (ax am : Nat → Nat) : Prop :=
  ∃ (g co wy ah pl tr : Nat → Nat) (kn : Nat) (lf rw nu le cn fi : Nat → Nat), zp_G g ∧ (kn = 0 ∨ (kn = 1 ∧ zp_KN g le cn fi)) ∧ zl_O D dA A s H locs qx (fX ax) (sX ax g co wy ah pl tr) qm (fM am kn) (sM am g lf rw nu le cn fi)
end
section
/-! the law's cases (written by gen/law.py) -/
section
variable {p : Program} {l : Launch} {e : Env} {s : State} {m : MethodId} {args : Array Value} {below : List Frame} {meth : Method} {c : Code} {H : Heap} {locs : List Loc} {Q : State → Prop}
variable {ls : Array Slot} {D : va_G} {dA : ClassId} {A : Nat → Prop} {qx qm b L i : Nat} {ax am : Nat → Nat} {xs : Nat → Int32}
set_option maxHeartbeats 4000000 in
set_option maxRecDepth 100000 in
theorem zl_c0 (X : CallFix p m c code 4 s args lw_all R_law) (hX : va_X b L xs s s.heap) (hbl : b < s.heap.size) (hbA : ¬ A b) (hL : L < 1000) (hi : i + 3 ≤ L) (hl : lv_has ls 4 [(0, .ref b), (1, .ref qx), (2, .ref qm), (3, .int (nI i))]) (END : ∀ (H : Heap) (locs : List Loc), zl_I D dA A s H locs qx qm ax am → W p l e room_1 s m args below meth c H locs 15 267 Q (F0 m 397 ls [])) (hI : zl_I D dA A s H locs qx qm ax am) : W p l e room_1 s m args below meth c H locs 15 267 Q (F0 m 116 ls []) := by
  obtain ⟨g, co, wy, ah, pl, tr, kn, lf, rw, nu, le, cn, fi, hG, hkn, O⟩ := hI
  by_cases hb : zp_bad (xs (i + 1)) = 0 ∧ zp_bad (xs (i + 2)) = 0 ∧ ¬ xs (i + 1) = xs (i + 2)
  · obtain ⟨u, hu, eu⟩ := zp_bad_of hb.1
    obtain ⟨v, hv, ev⟩ := zp_bad_of hb.2.1
    have huv : u ≠ v := fun q => hb.2.2 (by rw [eu, ev, q])
    refine lv_aload_n X.1 X.2.1 dL_law_116 rfl (lv_at hl 1 rfl) ?_
    refine zl_ld X hX hbl hbA O.2.2.2.1 hl 0 3 rfl rfl (j := 1) (by omega) (by omega) (by decide) dL_law_117 dL_law_118 dL_law_119 dL_law_120 dL_law_121 ?_
    rw [eu]
    refine zl_ld X hX hbl hbA O.2.2.2.1 hl 0 3 rfl rfl (j := 2) (by omega) (by omega) (by decide) dL_law_122 dL_law_123 dL_law_124 dL_law_125 dL_law_126 ?_
    rw [ev]
    refine zl_callX X O (zX_line l D dA qx ax g co wy ah pl tr hG.1 u v hu hv huv) 2 (lw_V q61 q62 q63 q31 q64) rfl rfl (by decide +kernel) ⟨Nat.le_of_ble_eq_true rfl, Nat.le_of_ble_eq_true rfl⟩ rfl hl.1 rfl (Nat.le_of_ble_eq_true rfl) dL_law_127 ⟨Nat.le_of_ble_eq_true rfl, Nat.le_of_ble_eq_true rfl⟩ (fun r fs' as' H locs hp O => ?_)
    obtain ⟨rfl, rfl, rfl⟩ := hp
    refine lv_aload_n X.1 X.2.1 dL_law_130 rfl (lv_at hl 2 rfl) ?_
    refine zl_ld X hX hbl hbA O.2.2.2.1 hl 0 3 rfl rfl (j := 1) (by omega) (by omega) (by decide) dL_law_131 dL_law_132 dL_law_133 dL_law_134 dL_law_135 ?_
    rw [eu]
    refine zl_ld X hX hbl hbA O.2.2.2.1 hl 0 3 rfl rfl (j := 2) (by omega) (by omega) (by decide) dL_law_136 dL_law_137 dL_law_138 dL_law_139 dL_law_140 ?_
    rw [ev]
    refine zl_callM X O (zM_line l D dA qm am g lf rw nu le cn fi kn hG.1 u v hu hv huv) 2 (lw_V q225 q226 q227 q32 q228) rfl rfl (by decide +kernel) ⟨Nat.le_of_ble_eq_true rfl, Nat.le_of_ble_eq_true rfl⟩ rfl hl.1 rfl (Nat.le_of_ble_eq_true rfl) dL_law_141 ⟨Nat.le_of_ble_eq_true rfl, Nat.le_of_ble_eq_true rfl⟩ (fun r fs' as' H locs hp O => ?_)
    obtain ⟨rfl, rfl, rfl⟩ := hp
    refine lv_icmp_eq (tgt := 397) X.1 X.2.1 dL_law_144 (by decide) (fun _ => END _ _ ⟨zp_tn g u v, _, _, _, _, _, 0, _, _, _, _, _, _, zq_tn hG hu hv huv, Or.inl rfl, O⟩) (fun h => absurd ?_ h)
    rfl
  · have hb2 : zp_bad (xs (i + 1)) = 1 ∨ zp_bad (xs (i + 2)) = 1 ∨ xs (i + 1) = xs (i + 2) := by
      by_cases h1 : zp_bad (xs (i + 1)) = 0
      · by_cases h2 : zp_bad (xs (i + 2)) = 0
        · by_cases h3 : xs (i + 1) = xs (i + 2)
          · exact Or.inr (Or.inr h3)
          · exact absurd ⟨h1, h2, h3⟩ hb
        · exact Or.inr (Or.inl (zp_bad_1 h2))
      · exact Or.inl (zp_bad_1 h1)
    refine lv_aload_n X.1 X.2.1 dL_law_116 rfl (lv_at hl 1 rfl) ?_
    refine zl_ld X hX hbl hbA O.2.2.2.1 hl 0 3 rfl rfl (j := 1) (by omega) (by omega) (by decide) dL_law_117 dL_law_118 dL_law_119 dL_law_120 dL_law_121 ?_
    refine zl_ld X hX hbl hbA O.2.2.2.1 hl 0 3 rfl rfl (j := 2) (by omega) (by omega) (by decide) dL_law_122 dL_law_123 dL_law_124 dL_law_125 dL_law_126 ?_
    refine zl_callX X O (zX_lineB l D dA qx ax g co wy ah pl tr (xs (i + 1)) (xs (i + 2)) hb2) 2 (lw_V q61 q62 q63 q31 q64) rfl rfl (by decide +kernel) ⟨Nat.le_of_ble_eq_true rfl, Nat.le_of_ble_eq_true rfl⟩ rfl hl.1 rfl (Nat.le_of_ble_eq_true rfl) dL_law_127 ⟨Nat.le_of_ble_eq_true rfl, Nat.le_of_ble_eq_true rfl⟩ (fun r fs' as' H locs hp O => ?_)
    obtain ⟨rfl, rfl, rfl⟩ := hp
    refine lv_aload_n X.1 X.2.1 dL_law_130 rfl (lv_at hl 2 rfl) ?_
    refine zl_ld X hX hbl hbA O.2.2.2.1 hl 0 3 rfl rfl (j := 1) (by omega) (by omega) (by decide) dL_law_131 dL_law_132 dL_law_133 dL_law_134 dL_law_135 ?_
    refine zl_ld X hX hbl hbA O.2.2.2.1 hl 0 3 rfl rfl (j := 2) (by omega) (by omega) (by decide) dL_law_136 dL_law_137 dL_law_138 dL_law_139 dL_law_140 ?_
    refine zl_callM X O (zM_lineB l D dA qm am g lf rw nu le cn fi kn (xs (i + 1)) (xs (i + 2)) hb2) 2 (lw_V q225 q226 q227 q32 q228) rfl rfl (by decide +kernel) ⟨Nat.le_of_ble_eq_true rfl, Nat.le_of_ble_eq_true rfl⟩ rfl hl.1 rfl (Nat.le_of_ble_eq_true rfl) dL_law_141 ⟨Nat.le_of_ble_eq_true rfl, Nat.le_of_ble_eq_true rfl⟩ (fun r fs' as' H locs hp O => ?_)
    obtain ⟨rfl, rfl, rfl⟩ := hp
    refine lv_icmp_eq (tgt := 397) X.1 X.2.1 dL_law_144 (by decide) (fun _ => END _ _ ⟨g, _, _, _, _, _, kn, _, _, _, _, _, _, hG, hkn, O⟩) (fun h => absurd ?_ h)
    rfl
set_option maxHeartbeats 4000000 in
set_option maxRecDepth 100000 in
theorem zl_c1 (X : CallFix p m c code 4 s args lw_all R_law) (hX : va_X b L xs s s.heap) (hbl : b < s.heap.size) (hbA : ¬ A b) (hL : L < 1000) (hi : i + 3 ≤ L) (hl : lv_has ls 4 [(0, .ref b), (1, .ref qx), (2, .ref qm), (3, .int (nI i))]) (END : ∀ (H : Heap) (locs : List Loc), zl_I D dA A s H locs qx qm ax am → W p l e room_1 s m args below meth c H locs 15 267 Q (F0 m 397 ls [])) (hI : zl_I D dA A s H locs qx qm ax am) : W p l e room_1 s m args below meth c H locs 15 267 Q (F0 m 149 ls []) := by
  obtain ⟨g, co, wy, ah, pl, tr, kn, lf, rw, nu, le, cn, fi, hG, hkn, O⟩ := hI
  refine lv_aload_n X.1 X.2.1 dL_law_149 rfl (lv_at hl 1 rfl) ?_
  refine zl_callX X O (zX_clear l D dA qx ax g co wy ah pl tr hG.1) 0 (lw_V q73 q74 q75 q31 q76) rfl rfl (by decide +kernel) ⟨Nat.le_of_ble_eq_true rfl, Nat.le_of_ble_eq_true rfl⟩ rfl hl.1 rfl (Nat.le_of_ble_eq_true rfl) dL_law_150 ⟨Nat.le_of_ble_eq_true rfl, Nat.le_of_ble_eq_true rfl⟩ (fun r fs' as' H locs hp O => ?_)
  obtain ⟨rfl, rfl, rfl⟩ := hp
  refine lv_aload_n X.1 X.2.1 dL_law_153 rfl (lv_at hl 2 rfl) ?_
  refine zl_callM X O (zM_clear l D dA qm am g lf rw nu le cn fi kn hG.1) 0 (lw_V q237 q238 q239 q32 q240) rfl rfl (by decide +kernel) ⟨Nat.le_of_ble_eq_true rfl, Nat.le_of_ble_eq_true rfl⟩ rfl hl.1 rfl (Nat.le_of_ble_eq_true rfl) dL_law_154 ⟨Nat.le_of_ble_eq_true rfl, Nat.le_of_ble_eq_true rfl⟩ (fun r fs' as' H locs hp O => ?_)
  obtain ⟨rfl, rfl, rfl⟩ := hp
  refine lv_icmp_eq (tgt := 397) X.1 X.2.1 dL_law_157 (by decide) (fun _ => END _ _ ⟨(fun _ => 0), _, _, _, _, _, 0, _, _, _, _, _, _, zq_0, Or.inl rfl, O⟩) (fun h => absurd ?_ h)
  rfl
set_option maxHeartbeats 4000000 in
set_option maxRecDepth 100000 in
theorem zl_c2 (X : CallFix p m c code 4 s args lw_all R_law) (hX : va_X b L xs s s.heap) (hbl : b < s.heap.size) (hbA : ¬ A b) (hL : L < 1000) (hi : i + 3 ≤ L) (hl : lv_has ls 4 [(0, .ref b), (1, .ref qx), (2, .ref qm), (3, .int (nI i))]) (END : ∀ (H : Heap) (locs : List Loc), zl_I D dA A s H locs qx qm ax am → W p l e room_1 s m args below meth c H locs 15 267 Q (F0 m 397 ls [])) (hI : zl_I D dA A s H locs qx qm ax am) : W p l e room_1 s m args below meth c H locs 15 267 Q (F0 m 162 ls []) := by
  obtain ⟨g, co, wy, ah, pl, tr, kn, lf, rw, nu, le, cn, fi, hG, hkn, O⟩ := hI
  refine lv_aload_n X.1 X.2.1 dL_law_162 rfl (lv_at hl 1 rfl) ?_
  refine zl_callX X O (zX_lines l D dA qx ax g co wy ah pl tr hG.1) 0 (lw_V q85 q78 q79 q31 q80) rfl rfl (by decide +kernel) ⟨Nat.le_of_ble_eq_true rfl, Nat.le_of_ble_eq_true rfl⟩ rfl hl.1 rfl (Nat.le_of_ble_eq_true rfl) dL_law_163 ⟨Nat.le_of_ble_eq_true rfl, Nat.le_of_ble_eq_true rfl⟩ (fun r fs' as' H locs hp O => ?_)
  obtain ⟨rfl, rfl, rfl⟩ := hp
  refine lv_aload_n X.1 X.2.1 dL_law_166 rfl (lv_at hl 2 rfl) ?_
  refine zl_callM X O (zM_lines l D dA qm am g lf rw nu le cn fi kn hG.1) 0 (lw_V q249 q242 q243 q32 q244) rfl rfl (by decide +kernel) ⟨Nat.le_of_ble_eq_true rfl, Nat.le_of_ble_eq_true rfl⟩ rfl hl.1 rfl (Nat.le_of_ble_eq_true rfl) dL_law_167 ⟨Nat.le_of_ble_eq_true rfl, Nat.le_of_ble_eq_true rfl⟩ (fun r fs' as' H locs hp O => ?_)
  obtain ⟨rfl, rfl, rfl⟩ := hp
  refine lv_icmp_eq (tgt := 397) X.1 X.2.1 dL_law_170 (by decide) (fun _ => END _ _ ⟨g, _, _, _, _, _, kn, _, _, _, _, _, _, hG, hkn, O⟩) (fun h => absurd ?_ h)
  rfl
set_option maxHeartbeats 4000000 in
set_option maxRecDepth 100000 in
theorem zl_c3 (X : CallFix p m c code 4 s args lw_all R_law) (hX : va_X b L xs s s.heap) (hbl : b < s.heap.size) (hbA : ¬ A b) (hL : L < 1000) (hi : i + 3 ≤ L) (hl : lv_has ls 4 [(0, .ref b), (1, .ref qx), (2, .ref qm), (3, .int (nI i))]) (END : ∀ (H : Heap) (locs : List Loc), zl_I D dA A s H locs qx qm ax am → W p l e room_1 s m args below meth c H locs 15 267 Q (F0 m 397 ls [])) (hI : zl_I D dA A s H locs qx qm ax am) : W p l e room_1 s m args below meth c H locs 15 267 Q (F0 m 175 ls []) := by
  obtain ⟨g, co, wy, ah, pl, tr, kn, lf, rw, nu, le, cn, fi, hG, hkn, O⟩ := hI
  refine lv_aload_n X.1 X.2.1 dL_law_175 rfl (lv_at hl 1 rfl) ?_
  refine zl_callX X O (zX_cutWidth l D dA qx ax g co wy ah pl tr hG.1) 0 (lw_V q86 q87 q88 q31 q89) rfl rfl (by decide +kernel) ⟨Nat.le_of_ble_eq_true rfl, Nat.le_of_ble_eq_true rfl⟩ rfl hl.1 rfl (Nat.le_of_ble_eq_true rfl) dL_law_176 ⟨Nat.le_of_ble_eq_true rfl, Nat.le_of_ble_eq_true rfl⟩ (fun r fs' as' H locs hp O => ?_)
  obtain ⟨x, hx, rfl, rfl, rfl⟩ := hp
  refine lv_aload_n X.1 X.2.1 dL_law_179 rfl (lv_at hl 2 rfl) ?_
  refine zl_callM X O (zM_cutWidth l D dA qm am g lf rw nu le cn fi kn hG.1 hkn) 0 (lw_V q250 q251 q252 q32 q253) rfl rfl (by decide +kernel) ⟨Nat.le_of_ble_eq_true rfl, Nat.le_of_ble_eq_true rfl⟩ rfl hl.1 rfl (Nat.le_of_ble_eq_true rfl) dL_law_180 ⟨Nat.le_of_ble_eq_true rfl, Nat.le_of_ble_eq_true rfl⟩ (fun r fs' as' H locs hp O => ?_)
  obtain ⟨lf', rw', nu', le', cn', fi', hK, rfl, rfl, rfl⟩ := hp
  refine lv_icmp_eq (tgt := 397) X.1 X.2.1 dL_law_183 (by decide) (fun _ => END _ _ ⟨g, _, _, _, _, _, 1, _, _, _, _, _, _, hG, Or.inr ⟨rfl, hK⟩, O⟩) (fun h => absurd ?_ h)
  rw [zq_least hG (k := 0) (by decide) hx, (hK 0 (by decide)).1]; rfl
set_option maxHeartbeats 4000000 in
set_option maxRecDepth 100000 in
theorem zl_c4 (X : CallFix p m c code 4 s args lw_all R_law) (hX : va_X b L xs s s.heap) (hbl : b < s.heap.size) (hbA : ¬ A b) (hL : L < 1000) (hi : i + 3 ≤ L) (hl : lv_has ls 4 [(0, .ref b), (1, .ref qx), (2, .ref qm), (3, .int (nI i))]) (END : ∀ (H : Heap) (locs : List Loc), zl_I D dA A s H locs qx qm ax am → W p l e room_1 s m args below meth c H locs 15 267 Q (F0 m 397 ls [])) (hI : zl_I D dA A s H locs qx qm ax am) : W p l e room_1 s m args below meth c H locs 15 267 Q (F0 m 188 ls []) := by
  obtain ⟨g, co, wy, ah, pl, tr, kn, lf, rw, nu, le, cn, fi, hG, hkn, O⟩ := hI
  refine lv_aload_n X.1 X.2.1 dL_law_188 rfl (lv_at hl 1 rfl) ?_
  refine zl_callX X O (zX_separation l D dA qx ax g co wy ah pl tr hG.1) 0 (lw_V q122 q123 q124 q31 q125) rfl rfl (by decide +kernel) ⟨Nat.le_of_ble_eq_true rfl, Nat.le_of_ble_eq_true rfl⟩ rfl hl.1 rfl (Nat.le_of_ble_eq_true rfl) dL_law_189 ⟨Nat.le_of_ble_eq_true rfl, Nat.le_of_ble_eq_true rfl⟩ (fun r fs' as' H locs hp O => ?_)
  obtain ⟨x, hx, rfl, rfl, rfl⟩ := hp
  refine lv_aload_n X.1 X.2.1 dL_law_192 rfl (lv_at hl 2 rfl) ?_
  refine zl_callM X O (zM_separation l D dA qm am g lf rw nu le cn fi kn hG.1 hkn) 0 (lw_V q282 q283 q284 q32 q285) rfl rfl (by decide +kernel) ⟨Nat.le_of_ble_eq_true rfl, Nat.le_of_ble_eq_true rfl⟩ rfl hl.1 rfl (Nat.le_of_ble_eq_true rfl) dL_law_193 ⟨Nat.le_of_ble_eq_true rfl, Nat.le_of_ble_eq_true rfl⟩ (fun r fs' as' H locs hp O => ?_)
  obtain ⟨lf', rw', nu', le', cn', fi', hK, rfl, rfl, rfl⟩ := hp
  refine lv_icmp_eq (tgt := 397) X.1 X.2.1 dL_law_196 (by decide) (fun _ => END _ _ ⟨g, _, _, _, _, _, 1, _, _, _, _, _, _, hG, Or.inr ⟨rfl, hK⟩, O⟩) (fun h => absurd ?_ h)
  rw [zq_least hG (k := 1) (by decide) hx, (hK 1 (by decide)).1]; rfl
set_option maxHeartbeats 4000000 in
set_option maxRecDepth 100000 in
theorem zl_c6 (X : CallFix p m c code 4 s args lw_all R_law) (hX : va_X b L xs s s.heap) (hbl : b < s.heap.size) (hbA : ¬ A b) (hL : L < 1000) (hi : i + 3 ≤ L) (hl : lv_has ls 4 [(0, .ref b), (1, .ref qx), (2, .ref qm), (3, .int (nI i))]) (END : ∀ (H : Heap) (locs : List Loc), zl_I D dA A s H locs qx qm ax am → W p l e room_1 s m args below meth c H locs 15 267 Q (F0 m 397 ls [])) (hI : zl_I D dA A s H locs qx qm ax am) : W p l e room_1 s m args below meth c H locs 15 267 Q (F0 m 214 ls []) := by
  obtain ⟨g, co, wy, ah, pl, tr, kn, lf, rw, nu, le, cn, fi, hG, hkn, O⟩ := hI
  refine lv_aload_n X.1 X.2.1 dL_law_214 rfl (lv_at hl 1 rfl) ?_
  refine zl_callX X O (zX_length l D dA qx ax g co wy ah pl tr hG.1) 0 (lw_V q138 q139 q140 q31 q141) rfl rfl (by decide +kernel) ⟨Nat.le_of_ble_eq_true rfl, Nat.le_of_ble_eq_true rfl⟩ rfl hl.1 rfl (Nat.le_of_ble_eq_true rfl) dL_law_215 ⟨Nat.le_of_ble_eq_true rfl, Nat.le_of_ble_eq_true rfl⟩ (fun r fs' as' H locs hp O => ?_)
  obtain ⟨x, hx, rfl, rfl, rfl⟩ := hp
  refine lv_aload_n X.1 X.2.1 dL_law_218 rfl (lv_at hl 2 rfl) ?_
  refine zl_callM X O (zM_length l D dA qm am g lf rw nu le cn fi kn hG.1 hkn) 0 (lw_V q290 q291 q292 q32 q293) rfl rfl (by decide +kernel) ⟨Nat.le_of_ble_eq_true rfl, Nat.le_of_ble_eq_true rfl⟩ rfl hl.1 rfl (Nat.le_of_ble_eq_true rfl) dL_law_219 ⟨Nat.le_of_ble_eq_true rfl, Nat.le_of_ble_eq_true rfl⟩ (fun r fs' as' H locs hp O => ?_)
  obtain ⟨lf', rw', nu', le', cn', fi', hK, rfl, rfl, rfl⟩ := hp
  refine lv_icmp_eq (tgt := 397) X.1 X.2.1 dL_law_222 (by decide) (fun _ => END _ _ ⟨g, _, _, _, _, _, 1, _, _, _, _, _, _, hG, Or.inr ⟨rfl, hK⟩, O⟩) (fun h => absurd ?_ h)
  rw [zq_least hG (k := 3) (by decide) hx, (hK 3 (by decide)).1]; rfl
set_option maxHeartbeats 4000000 in
set_option maxRecDepth 100000 in
theorem zl_c7 (X : CallFix p m c code 4 s args lw_all R_law) (hX : va_X b L xs s s.heap) (hbl : b < s.heap.size) (hbA : ¬ A b) (hL : L < 1000) (hi : i + 3 ≤ L) (hl : lv_has ls 4 [(0, .ref b), (1, .ref qx), (2, .ref qm), (3, .int (nI i))]) (END : ∀ (H : Heap) (locs : List Loc), zl_I D dA A s H locs qx qm ax am → W p l e room_1 s m args below meth c H locs 15 267 Q (F0 m 397 ls [])) (hI : zl_I D dA A s H locs qx qm ax am) : W p l e room_1 s m args below meth c H locs 15 267 Q (F0 m 227 ls []) := by
  obtain ⟨g, co, wy, ah, pl, tr, kn, lf, rw, nu, le, cn, fi, hG, hkn, O⟩ := hI
  refine lv_aload_n X.1 X.2.1 dL_law_227 rfl (lv_at hl 1 rfl) ?_
  refine zl_callX X O (zX_width l D dA qx ax g co wy ah pl tr hG.1) 0 (lw_V q142 q143 q144 q31 q145) rfl rfl (by decide +kernel) ⟨Nat.le_of_ble_eq_true rfl, Nat.le_of_ble_eq_true rfl⟩ rfl hl.1 rfl (Nat.le_of_ble_eq_true rfl) dL_law_228 ⟨Nat.le_of_ble_eq_true rfl, Nat.le_of_ble_eq_true rfl⟩ (fun r fs' as' H locs hp O => ?_)
  obtain ⟨x, hx, rfl, rfl, rfl⟩ := hp
  refine lv_aload_n X.1 X.2.1 dL_law_231 rfl (lv_at hl 2 rfl) ?_
  refine zl_callM X O (zM_width l D dA qm am g lf rw nu le cn fi kn hG.1 hkn) 0 (lw_V q294 q295 q296 q32 q297) rfl rfl (by decide +kernel) ⟨Nat.le_of_ble_eq_true rfl, Nat.le_of_ble_eq_true rfl⟩ rfl hl.1 rfl (Nat.le_of_ble_eq_true rfl) dL_law_232 ⟨Nat.le_of_ble_eq_true rfl, Nat.le_of_ble_eq_true rfl⟩ (fun r fs' as' H locs hp O => ?_)
  obtain ⟨lf', rw', nu', le', cn', fi', hK, rfl, rfl, rfl⟩ := hp
  refine lv_icmp_eq (tgt := 397) X.1 X.2.1 dL_law_235 (by decide) (fun _ => END _ _ ⟨g, _, _, _, _, _, 1, _, _, _, _, _, _, hG, Or.inr ⟨rfl, hK⟩, O⟩) (fun h => absurd ?_ h)
  rw [zq_least hG (k := 2) (by decide) hx, (hK 4 (by decide)).1]; rfl
set_option maxHeartbeats 4000000 in
set_option maxRecDepth 100000 in
theorem zl_c8 (X : CallFix p m c code 4 s args lw_all R_law) (hX : va_X b L xs s s.heap) (hbl : b < s.heap.size) (hbA : ¬ A b) (hL : L < 1000) (hi : i + 3 ≤ L) (hl : lv_has ls 4 [(0, .ref b), (1, .ref qx), (2, .ref qm), (3, .int (nI i))]) (END : ∀ (H : Heap) (locs : List Loc), zl_I D dA A s H locs qx qm ax am → W p l e room_1 s m args below meth c H locs 15 267 Q (F0 m 397 ls [])) (hI : zl_I D dA A s H locs qx qm ax am) : W p l e room_1 s m args below meth c H locs 15 267 Q (F0 m 240 ls []) := by
  obtain ⟨g, co, wy, ah, pl, tr, kn, lf, rw, nu, le, cn, fi, hG, hkn, O⟩ := hI
  refine lv_aload_n X.1 X.2.1 dL_law_240 rfl (lv_at hl 1 rfl) ?_
  refine zl_callX X O (zX_fill l D dA qx ax g co wy ah pl tr hG.1) 0 (lw_V q146 q147 q148 q31 q149) rfl rfl (by decide +kernel) ⟨Nat.le_of_ble_eq_true rfl, Nat.le_of_ble_eq_true rfl⟩ rfl hl.1 rfl (Nat.le_of_ble_eq_true rfl) dL_law_241 ⟨Nat.le_of_ble_eq_true rfl, Nat.le_of_ble_eq_true rfl⟩ (fun r fs' as' H locs hp O => ?_)
  obtain ⟨x, hx, rfl, rfl, rfl⟩ := hp
  refine lv_aload_n X.1 X.2.1 dL_law_244 rfl (lv_at hl 2 rfl) ?_
  refine zl_callM X O (zM_fill l D dA qm am g lf rw nu le cn fi kn hG.1 hkn) 0 (lw_V q298 q299 q300 q32 q301) rfl rfl (by decide +kernel) ⟨Nat.le_of_ble_eq_true rfl, Nat.le_of_ble_eq_true rfl⟩ rfl hl.1 rfl (Nat.le_of_ble_eq_true rfl) dL_law_245 ⟨Nat.le_of_ble_eq_true rfl, Nat.le_of_ble_eq_true rfl⟩ (fun r fs' as' H locs hp O => ?_)
  obtain ⟨lf', rw', nu', le', cn', fi', hK, rfl, rfl, rfl⟩ := hp
  refine lv_icmp_eq (tgt := 397) X.1 X.2.1 dL_law_248 (by decide) (fun _ => END _ _ ⟨g, _, _, _, _, _, 1, _, _, _, _, _, _, hG, Or.inr ⟨rfl, hK⟩, O⟩) (fun h => absurd ?_ h)
  rw [zq_least hG (k := 4) (by decide) hx, (hK 5 (by decide)).1]; rfl
set_option maxHeartbeats 4000000 in
set_option maxRecDepth 100000 in
theorem zl_c5 (X : CallFix p m c code 4 s args lw_all R_law) (hX : va_X b L xs s s.heap) (hbl : b < s.heap.size) (hbA : ¬ A b) (hL : L < 1000) (hi : i + 3 ≤ L) (hl : lv_has ls 4 [(0, .ref b), (1, .ref qx), (2, .ref qm), (3, .int (nI i))]) (END : ∀ (H : Heap) (locs : List Loc), zl_I D dA A s H locs qx qm ax am → W p l e room_1 s m args below meth c H locs 15 267 Q (F0 m 397 ls [])) (hI : zl_I D dA A s H locs qx qm ax am) : W p l e room_1 s m args below meth c H locs 15 267 Q (F0 m 201 ls []) := by
  obtain ⟨g, co, wy, ah, pl, tr, kn, lf, rw, nu, le, cn, fi, hG, hkn, O⟩ := hI
  obtain ⟨fit, hF, hs⟩ := zq_str hG
  refine lv_aload_n X.1 X.2.1 dL_law_201 rfl (lv_at hl 1 rfl) ?_
  refine zl_callX X O (zX_stretch l D dA qx ax g co wy ah pl tr hG.1 fit hF) 0 (lw_V q126 q127 q128 q31 q129) rfl rfl (by decide +kernel) ⟨Nat.le_of_ble_eq_true rfl, Nat.le_of_ble_eq_true rfl⟩ rfl hl.1 rfl (Nat.le_of_ble_eq_true rfl) dL_law_202 ⟨Nat.le_of_ble_eq_true rfl, Nat.le_of_ble_eq_true rfl⟩ (fun r fs' as' H locs hp O => ?_)
  obtain ⟨P, T, rfl, rfl, rfl⟩ := hp
  refine lv_aload_n X.1 X.2.1 dL_law_205 rfl (lv_at hl 2 rfl) ?_
  refine zl_callM X O (zM_stretch l D dA qm am g lf rw nu le cn fi kn hG.1 hkn) 0 (lw_V q286 q287 q288 q32 q289) rfl rfl (by decide +kernel) ⟨Nat.le_of_ble_eq_true rfl, Nat.le_of_ble_eq_true rfl⟩ rfl hl.1 rfl (Nat.le_of_ble_eq_true rfl) dL_law_206 ⟨Nat.le_of_ble_eq_true rfl, Nat.le_of_ble_eq_true rfl⟩ (fun r fs' as' H locs hp O => ?_)
  obtain ⟨lf', rw', nu', le', cn', fi', hK, rfl, rfl, rfl⟩ := hp
  refine lv_icmp_eq (tgt := 397) X.1 X.2.1 dL_law_209 (by decide) (fun _ => END _ _ ⟨g, _, _, _, _, _, 1, _, _, _, _, _, _, hG, Or.inr ⟨rfl, hK⟩, O⟩) (fun h => absurd ?_ h)
  rw [hs, (hK 2 (by decide)).1]
set_option maxHeartbeats 4000000 in
set_option maxRecDepth 100000 in
theorem zl_c9 (X : CallFix p m c code 4 s args lw_all R_law) (hX : va_X b L xs s s.heap) (hbl : b < s.heap.size) (hbA : ¬ A b) (hL : L < 1000) (hi : i + 3 ≤ L) (hl : lv_has ls 4 [(0, .ref b), (1, .ref qx), (2, .ref qm), (3, .int (nI i))]) (END : ∀ (H : Heap) (locs : List Loc), zl_I D dA A s H locs qx qm ax am → W p l e room_1 s m args below meth c H locs 15 267 Q (F0 m 397 ls [])) (hI : zl_I D dA A s H locs qx qm ax am) : W p l e room_1 s m args below meth c H locs 15 267 Q (F0 m 253 ls []) := by
  obtain ⟨g, co, wy, ah, pl, tr, kn, lf, rw, nu, le, cn, fi, hG, hkn, O⟩ := hI
  refine lv_aload_n X.1 X.2.1 dL_law_253 rfl (lv_at hl 1 rfl) ?_
  refine zl_callX X O (zX_cutOrders l D dA qx ax g co wy ah pl tr hG.1) 0 (lw_V q150 q151 q152 q31 q153) rfl rfl (by decide +kernel) ⟨Nat.le_of_ble_eq_true rfl, Nat.le_of_ble_eq_true rfl⟩ rfl hl.1 rfl (Nat.le_of_ble_eq_true rfl) dL_law_254 ⟨Nat.le_of_ble_eq_true rfl, Nat.le_of_ble_eq_true rfl⟩ (fun r fs' as' H locs hp O => ?_)
  obtain ⟨x, u, hx, hu, rfl, rfl, rfl⟩ := hp
  refine lv_aload_n X.1 X.2.1 dL_law_257 rfl (lv_at hl 2 rfl) ?_
  refine zl_callM X O (zM_cutOrders l D dA qm am g lf rw nu le cn fi kn hG.1 hkn) 0 (lw_V q302 q303 q304 q32 q305) rfl rfl (by decide +kernel) ⟨Nat.le_of_ble_eq_true rfl, Nat.le_of_ble_eq_true rfl⟩ rfl hl.1 rfl (Nat.le_of_ble_eq_true rfl) dL_law_258 ⟨Nat.le_of_ble_eq_true rfl, Nat.le_of_ble_eq_true rfl⟩ (fun r fs' as' H locs hp O => ?_)
  obtain ⟨lf', rw', nu', le', cn', fi', hK, rfl, rfl, rfl⟩ := hp
  refine lv_icmp_eq (tgt := 397) X.1 X.2.1 dL_law_261 (by decide) (fun _ => END _ _ ⟨g, _, _, _, _, _, 1, _, _, _, _, _, _, hG, Or.inr ⟨rfl, hK⟩, O⟩) (fun h => absurd ?_ h)
  obtain ⟨c0, hc⟩ := (hK 0 (by decide)).2.1
  rw [zq_count hG (k := 0) (by decide) hx hu c0, hc]; rfl
set_option maxHeartbeats 4000000 in
set_option maxRecDepth 100000 in
theorem zl_c10 (X : CallFix p m c code 4 s args lw_all R_law) (hX : va_X b L xs s s.heap) (hbl : b < s.heap.size) (hbA : ¬ A b) (hL : L < 1000) (hi : i + 3 ≤ L) (hl : lv_has ls 4 [(0, .ref b), (1, .ref qx), (2, .ref qm), (3, .int (nI i))]) (END : ∀ (H : Heap) (locs : List Loc), zl_I D dA A s H locs qx qm ax am → W p l e room_1 s m args below meth c H locs 15 267 Q (F0 m 397 ls [])) (hI : zl_I D dA A s H locs qx qm ax am) : W p l e room_1 s m args below meth c H locs 15 267 Q (F0 m 266 ls []) := by
  obtain ⟨g, co, wy, ah, pl, tr, kn, lf, rw, nu, le, cn, fi, hG, hkn, O⟩ := hI
  refine lv_aload_n X.1 X.2.1 dL_law_266 rfl (lv_at hl 1 rfl) ?_
  refine zl_callX X O (zX_lengthOrders l D dA qx ax g co wy ah pl tr hG.1) 0 (lw_V q158 q159 q160 q31 q161) rfl rfl (by decide +kernel) ⟨Nat.le_of_ble_eq_true rfl, Nat.le_of_ble_eq_true rfl⟩ rfl hl.1 rfl (Nat.le_of_ble_eq_true rfl) dL_law_267 ⟨Nat.le_of_ble_eq_true rfl, Nat.le_of_ble_eq_true rfl⟩ (fun r fs' as' H locs hp O => ?_)
  obtain ⟨x, u, hx, hu, rfl, rfl, rfl⟩ := hp
  refine lv_aload_n X.1 X.2.1 dL_law_270 rfl (lv_at hl 2 rfl) ?_
  refine zl_callM X O (zM_lengthOrders l D dA qm am g lf rw nu le cn fi kn hG.1 hkn) 0 (lw_V q310 q311 q312 q32 q313) rfl rfl (by decide +kernel) ⟨Nat.le_of_ble_eq_true rfl, Nat.le_of_ble_eq_true rfl⟩ rfl hl.1 rfl (Nat.le_of_ble_eq_true rfl) dL_law_271 ⟨Nat.le_of_ble_eq_true rfl, Nat.le_of_ble_eq_true rfl⟩ (fun r fs' as' H locs hp O => ?_)
  obtain ⟨lf', rw', nu', le', cn', fi', hK, rfl, rfl, rfl⟩ := hp
  refine lv_icmp_eq (tgt := 397) X.1 X.2.1 dL_law_274 (by decide) (fun _ => END _ _ ⟨g, _, _, _, _, _, 1, _, _, _, _, _, _, hG, Or.inr ⟨rfl, hK⟩, O⟩) (fun h => absurd ?_ h)
  obtain ⟨c0, hc⟩ := (hK 3 (by decide)).2.1
  rw [zq_count hG (k := 3) (by decide) hx hu c0, hc]; rfl
set_option maxHeartbeats 4000000 in
set_option maxRecDepth 100000 in
theorem zl_c11 (X : CallFix p m c code 4 s args lw_all R_law) (hX : va_X b L xs s s.heap) (hbl : b < s.heap.size) (hbA : ¬ A b) (hL : L < 1000) (hi : i + 3 ≤ L) (hl : lv_has ls 4 [(0, .ref b), (1, .ref qx), (2, .ref qm), (3, .int (nI i))]) (END : ∀ (H : Heap) (locs : List Loc), zl_I D dA A s H locs qx qm ax am → W p l e room_1 s m args below meth c H locs 15 267 Q (F0 m 397 ls [])) (hI : zl_I D dA A s H locs qx qm ax am) : W p l e room_1 s m args below meth c H locs 15 267 Q (F0 m 279 ls []) := by
  obtain ⟨g, co, wy, ah, pl, tr, kn, lf, rw, nu, le, cn, fi, hG, hkn, O⟩ := hI
  refine lv_aload_n X.1 X.2.1 dL_law_279 rfl (lv_at hl 1 rfl) ?_
  refine zl_callX X O (zX_fillOrders l D dA qx ax g co wy ah pl tr hG.1) 0 (lw_V q162 q163 q164 q31 q165) rfl rfl (by decide +kernel) ⟨Nat.le_of_ble_eq_true rfl, Nat.le_of_ble_eq_true rfl⟩ rfl hl.1 rfl (Nat.le_of_ble_eq_true rfl) dL_law_280 ⟨Nat.le_of_ble_eq_true rfl, Nat.le_of_ble_eq_true rfl⟩ (fun r fs' as' H locs hp O => ?_)
  obtain ⟨x, u, hx, hu, rfl, rfl, rfl⟩ := hp
  refine lv_aload_n X.1 X.2.1 dL_law_283 rfl (lv_at hl 2 rfl) ?_
  refine zl_callM X O (zM_fillOrders l D dA qm am g lf rw nu le cn fi kn hG.1 hkn) 0 (lw_V q314 q315 q316 q32 q317) rfl rfl (by decide +kernel) ⟨Nat.le_of_ble_eq_true rfl, Nat.le_of_ble_eq_true rfl⟩ rfl hl.1 rfl (Nat.le_of_ble_eq_true rfl) dL_law_284 ⟨Nat.le_of_ble_eq_true rfl, Nat.le_of_ble_eq_true rfl⟩ (fun r fs' as' H locs hp O => ?_)
  obtain ⟨lf', rw', nu', le', cn', fi', hK, rfl, rfl, rfl⟩ := hp
  refine lv_icmp_eq (tgt := 397) X.1 X.2.1 dL_law_287 (by decide) (fun _ => END _ _ ⟨g, _, _, _, _, _, 1, _, _, _, _, _, _, hG, Or.inr ⟨rfl, hK⟩, O⟩) (fun h => absurd ?_ h)
  obtain ⟨c0, hc⟩ := (hK 5 (by decide)).2.1
  rw [zq_count hG (k := 4) (by decide) hx hu c0, hc]; rfl
set_option maxHeartbeats 4000000 in
set_option maxRecDepth 100000 in
theorem zl_c12 (X : CallFix p m c code 4 s args lw_all R_law) (hX : va_X b L xs s s.heap) (hbl : b < s.heap.size) (hbA : ¬ A b) (hL : L < 1000) (hi : i + 3 ≤ L) (hl : lv_has ls 4 [(0, .ref b), (1, .ref qx), (2, .ref qm), (3, .int (nI i))]) (END : ∀ (H : Heap) (locs : List Loc), zl_I D dA A s H locs qx qm ax am → W p l e room_1 s m args below meth c H locs 15 267 Q (F0 m 397 ls [])) (hI : zl_I D dA A s H locs qx qm ax am) : W p l e room_1 s m args below meth c H locs 15 267 Q (F0 m 292 ls []) := by
  obtain ⟨g, co, wy, ah, pl, tr, kn, lf, rw, nu, le, cn, fi, hG, hkn, O⟩ := hI
  by_cases hb : zp_bad (xs (i + 1)) = 0
  · obtain ⟨u, hu, eu⟩ := zp_bad_of hb
    refine lv_aload_n X.1 X.2.1 dL_law_292 rfl (lv_at hl 1 rfl) ?_
    refine zl_ld X hX hbl hbA O.2.2.2.1 hl 0 3 rfl rfl (j := 1) (by omega) (by omega) (by decide) dL_law_293 dL_law_294 dL_law_295 dL_law_296 dL_law_297 ?_
    rw [eu]
    refine zl_callX X O (zX_lengthOrder l D dA qx ax g co wy ah pl tr hG.1 u hu (zp_row (zp_fi (zp_v g 3) 0 720)) (fun x hx => zq_first hG (k := 3) (by decide) hx 0)) 1 (lw_V q166 q167 q168 q31 q169) rfl rfl (by decide +kernel) ⟨Nat.le_of_ble_eq_true rfl, Nat.le_of_ble_eq_true rfl⟩ rfl hl.1 rfl (Nat.le_of_ble_eq_true rfl) dL_law_298 ⟨Nat.le_of_ble_eq_true rfl, Nat.le_of_ble_eq_true rfl⟩ (fun r fs' as' H locs hp O => ?_)
    obtain ⟨x, rfl, rfl, rfl⟩ := hp
    refine lv_aload_n X.1 X.2.1 dL_law_301 rfl (lv_at hl 2 rfl) ?_
    refine zl_ld X hX hbl hbA O.2.2.2.1 hl 0 3 rfl rfl (j := 1) (by omega) (by omega) (by decide) dL_law_302 dL_law_303 dL_law_304 dL_law_305 dL_law_306 ?_
    rw [eu]
    refine zl_callM X O (zM_lengthOrder l D dA qm am g lf rw nu le cn fi kn hG.1 hkn u hu) 1 (lw_V q318 q319 q320 q32 q321) rfl rfl (by decide +kernel) ⟨Nat.le_of_ble_eq_true rfl, Nat.le_of_ble_eq_true rfl⟩ rfl hl.1 rfl (Nat.le_of_ble_eq_true rfl) dL_law_307 ⟨Nat.le_of_ble_eq_true rfl, Nat.le_of_ble_eq_true rfl⟩ (fun r fs' as' H locs hp O => ?_)
    obtain ⟨lf', rw', nu', le', cn', fi', hK, rfl, rfl, rfl⟩ := hp
    refine lv_icmp_eq (tgt := 397) X.1 X.2.1 dL_law_310 (by decide) (fun _ => END _ _ ⟨g, _, _, _, _, _, 1, _, _, _, _, _, _, hG, Or.inr ⟨rfl, hK⟩, O⟩) (fun h => absurd ?_ h)
    obtain ⟨c0, hc⟩ := (hK 3 (by decide)).2.2
    rw [hc, zp_fi_any (v := zp_v g 3) (fun i => zp_nm_le _ _ _) 0 c0]
  · have hb1 := zp_bad_1 hb
    refine lv_aload_n X.1 X.2.1 dL_law_292 rfl (lv_at hl 1 rfl) ?_
    refine zl_ld X hX hbl hbA O.2.2.2.1 hl 0 3 rfl rfl (j := 1) (by omega) (by omega) (by decide) dL_law_293 dL_law_294 dL_law_295 dL_law_296 dL_law_297 ?_
    refine zl_callX X O (zX_lengthOrderB l D dA qx ax g co wy ah pl tr (xs (i + 1)) hb1) 1 (lw_V q166 q167 q168 q31 q169) rfl rfl (by decide +kernel) ⟨Nat.le_of_ble_eq_true rfl, Nat.le_of_ble_eq_true rfl⟩ rfl hl.1 rfl (Nat.le_of_ble_eq_true rfl) dL_law_298 ⟨Nat.le_of_ble_eq_true rfl, Nat.le_of_ble_eq_true rfl⟩ (fun r fs' as' H locs hp O => ?_)
    obtain ⟨rfl, rfl, rfl⟩ := hp
    refine lv_aload_n X.1 X.2.1 dL_law_301 rfl (lv_at hl 2 rfl) ?_
    refine zl_ld X hX hbl hbA O.2.2.2.1 hl 0 3 rfl rfl (j := 1) (by omega) (by omega) (by decide) dL_law_302 dL_law_303 dL_law_304 dL_law_305 dL_law_306 ?_
    refine zl_callM X O (zM_lengthOrderB l D dA qm am g lf rw nu le cn fi kn (xs (i + 1)) hb1) 1 (lw_V q318 q319 q320 q32 q321) rfl rfl (by decide +kernel) ⟨Nat.le_of_ble_eq_true rfl, Nat.le_of_ble_eq_true rfl⟩ rfl hl.1 rfl (Nat.le_of_ble_eq_true rfl) dL_law_307 ⟨Nat.le_of_ble_eq_true rfl, Nat.le_of_ble_eq_true rfl⟩ (fun r fs' as' H locs hp O => ?_)
    obtain ⟨rfl, rfl, rfl⟩ := hp
    refine lv_icmp_eq (tgt := 397) X.1 X.2.1 dL_law_310 (by decide) (fun _ => END _ _ ⟨g, _, _, _, _, _, kn, _, _, _, _, _, _, hG, hkn, O⟩) (fun h => absurd ?_ h)
    rfl
set_option maxHeartbeats 4000000 in
set_option maxRecDepth 100000 in
theorem zl_c13 (X : CallFix p m c code 4 s args lw_all R_law) (hX : va_X b L xs s s.heap) (hbl : b < s.heap.size) (hbA : ¬ A b) (hL : L < 1000) (hi : i + 3 ≤ L) (hl : lv_has ls 4 [(0, .ref b), (1, .ref qx), (2, .ref qm), (3, .int (nI i))]) (END : ∀ (H : Heap) (locs : List Loc), zl_I D dA A s H locs qx qm ax am → W p l e room_1 s m args below meth c H locs 15 267 Q (F0 m 397 ls [])) (hI : zl_I D dA A s H locs qx qm ax am) : W p l e room_1 s m args below meth c H locs 15 267 Q (F0 m 315 ls []) := by
  obtain ⟨g, co, wy, ah, pl, tr, kn, lf, rw, nu, le, cn, fi, hG, hkn, O⟩ := hI
  by_cases hb : zp_bad (xs (i + 1)) = 0
  · obtain ⟨u, hu, eu⟩ := zp_bad_of hb
    refine lv_aload_n X.1 X.2.1 dL_law_315 rfl (lv_at hl 1 rfl) ?_
    refine zl_ld X hX hbl hbA O.2.2.2.1 hl 0 3 rfl rfl (j := 1) (by omega) (by omega) (by decide) dL_law_316 dL_law_317 dL_law_318 dL_law_319 dL_law_320 ?_
    rw [eu]
    refine zl_callX X O (zX_widthOrder l D dA qx ax g co wy ah pl tr hG.1 u hu (zp_row (zp_fi (zp_v g 4) 0 720)) (fun x hx => zq_first hG (k := 2) (by decide) hx 0)) 1 (lw_V q178 q179 q180 q31 q181) rfl rfl (by decide +kernel) ⟨Nat.le_of_ble_eq_true rfl, Nat.le_of_ble_eq_true rfl⟩ rfl hl.1 rfl (Nat.le_of_ble_eq_true rfl) dL_law_321 ⟨Nat.le_of_ble_eq_true rfl, Nat.le_of_ble_eq_true rfl⟩ (fun r fs' as' H locs hp O => ?_)
    obtain ⟨x, rfl, rfl, rfl⟩ := hp
    refine lv_aload_n X.1 X.2.1 dL_law_324 rfl (lv_at hl 2 rfl) ?_
    refine zl_ld X hX hbl hbA O.2.2.2.1 hl 0 3 rfl rfl (j := 1) (by omega) (by omega) (by decide) dL_law_325 dL_law_326 dL_law_327 dL_law_328 dL_law_329 ?_
    rw [eu]
    refine zl_callM X O (zM_widthOrder l D dA qm am g lf rw nu le cn fi kn hG.1 hkn u hu) 1 (lw_V q326 q327 q328 q32 q329) rfl rfl (by decide +kernel) ⟨Nat.le_of_ble_eq_true rfl, Nat.le_of_ble_eq_true rfl⟩ rfl hl.1 rfl (Nat.le_of_ble_eq_true rfl) dL_law_330 ⟨Nat.le_of_ble_eq_true rfl, Nat.le_of_ble_eq_true rfl⟩ (fun r fs' as' H locs hp O => ?_)
    obtain ⟨lf', rw', nu', le', cn', fi', hK, rfl, rfl, rfl⟩ := hp
    refine lv_icmp_eq (tgt := 397) X.1 X.2.1 dL_law_333 (by decide) (fun _ => END _ _ ⟨g, _, _, _, _, _, 1, _, _, _, _, _, _, hG, Or.inr ⟨rfl, hK⟩, O⟩) (fun h => absurd ?_ h)
    obtain ⟨c0, hc⟩ := (hK 4 (by decide)).2.2
    rw [hc, zp_fi_any (v := zp_v g 4) (fun i => zp_nm_le _ _ _) 0 c0]
  · have hb1 := zp_bad_1 hb
    refine lv_aload_n X.1 X.2.1 dL_law_315 rfl (lv_at hl 1 rfl) ?_
    refine zl_ld X hX hbl hbA O.2.2.2.1 hl 0 3 rfl rfl (j := 1) (by omega) (by omega) (by decide) dL_law_316 dL_law_317 dL_law_318 dL_law_319 dL_law_320 ?_
    refine zl_callX X O (zX_widthOrderB l D dA qx ax g co wy ah pl tr (xs (i + 1)) hb1) 1 (lw_V q178 q179 q180 q31 q181) rfl rfl (by decide +kernel) ⟨Nat.le_of_ble_eq_true rfl, Nat.le_of_ble_eq_true rfl⟩ rfl hl.1 rfl (Nat.le_of_ble_eq_true rfl) dL_law_321 ⟨Nat.le_of_ble_eq_true rfl, Nat.le_of_ble_eq_true rfl⟩ (fun r fs' as' H locs hp O => ?_)
    obtain ⟨rfl, rfl, rfl⟩ := hp
    refine lv_aload_n X.1 X.2.1 dL_law_324 rfl (lv_at hl 2 rfl) ?_
    refine zl_ld X hX hbl hbA O.2.2.2.1 hl 0 3 rfl rfl (j := 1) (by omega) (by omega) (by decide) dL_law_325 dL_law_326 dL_law_327 dL_law_328 dL_law_329 ?_
    refine zl_callM X O (zM_widthOrderB l D dA qm am g lf rw nu le cn fi kn (xs (i + 1)) hb1) 1 (lw_V q326 q327 q328 q32 q329) rfl rfl (by decide +kernel) ⟨Nat.le_of_ble_eq_true rfl, Nat.le_of_ble_eq_true rfl⟩ rfl hl.1 rfl (Nat.le_of_ble_eq_true rfl) dL_law_330 ⟨Nat.le_of_ble_eq_true rfl, Nat.le_of_ble_eq_true rfl⟩ (fun r fs' as' H locs hp O => ?_)
    obtain ⟨rfl, rfl, rfl⟩ := hp
    refine lv_icmp_eq (tgt := 397) X.1 X.2.1 dL_law_333 (by decide) (fun _ => END _ _ ⟨g, _, _, _, _, _, kn, _, _, _, _, _, _, hG, hkn, O⟩) (fun h => absurd ?_ h)
    rfl
set_option maxHeartbeats 4000000 in
set_option maxRecDepth 100000 in
theorem zl_c14 (X : CallFix p m c code 4 s args lw_all R_law) (hX : va_X b L xs s s.heap) (hbl : b < s.heap.size) (hbA : ¬ A b) (hL : L < 1000) (hi : i + 3 ≤ L) (hl : lv_has ls 4 [(0, .ref b), (1, .ref qx), (2, .ref qm), (3, .int (nI i))]) (END : ∀ (H : Heap) (locs : List Loc), zl_I D dA A s H locs qx qm ax am → W p l e room_1 s m args below meth c H locs 15 267 Q (F0 m 397 ls [])) (hI : zl_I D dA A s H locs qx qm ax am) : W p l e room_1 s m args below meth c H locs 15 267 Q (F0 m 338 ls []) := by
  obtain ⟨g, co, wy, ah, pl, tr, kn, lf, rw, nu, le, cn, fi, hG, hkn, O⟩ := hI
  refine lv_aload_n X.1 X.2.1 dL_law_338 rfl (lv_at hl 1 rfl) ?_
  refine zl_callX X O (zX_whole l D dA qx ax g co wy ah pl tr hG.1) 0 (lw_V q182 q183 q184 q31 q185) rfl rfl (by decide +kernel) ⟨Nat.le_of_ble_eq_true rfl, Nat.le_of_ble_eq_true rfl⟩ rfl hl.1 rfl (Nat.le_of_ble_eq_true rfl) dL_law_339 ⟨Nat.le_of_ble_eq_true rfl, Nat.le_of_ble_eq_true rfl⟩ (fun r fs' as' H locs hp O => ?_)
  obtain ⟨x, hx, rfl, rfl, rfl⟩ := hp
  refine lv_aload_n X.1 X.2.1 dL_law_342 rfl (lv_at hl 2 rfl) ?_
  refine zl_callM X O (zM_whole l D dA qm am g lf rw nu le cn fi kn hG.1 hkn) 0 (lw_V q330 q331 q332 q32 q333) rfl rfl (by decide +kernel) ⟨Nat.le_of_ble_eq_true rfl, Nat.le_of_ble_eq_true rfl⟩ rfl hl.1 rfl (Nat.le_of_ble_eq_true rfl) dL_law_343 ⟨Nat.le_of_ble_eq_true rfl, Nat.le_of_ble_eq_true rfl⟩ (fun r fs' as' H locs hp O => ?_)
  obtain ⟨lf', rw', nu', le', cn', fi', hK, rfl, rfl, rfl⟩ := hp
  refine lv_icmp_eq (tgt := 397) X.1 X.2.1 dL_law_346 (by decide) (fun _ => END _ _ ⟨g, _, _, _, _, _, 1, _, _, _, _, _, _, hG, Or.inr ⟨rfl, hK⟩, O⟩) (fun h => absurd ?_ h)
  rw [zq_least hG (k := 4) (by decide) hx, (hK 5 (by decide)).1]; rfl
set_option maxHeartbeats 4000000 in
set_option maxRecDepth 100000 in
theorem zl_c15 (X : CallFix p m c code 4 s args lw_all R_law) (hX : va_X b L xs s s.heap) (hbl : b < s.heap.size) (hbA : ¬ A b) (hL : L < 1000) (hi : i + 3 ≤ L) (hl : lv_has ls 4 [(0, .ref b), (1, .ref qx), (2, .ref qm), (3, .int (nI i))]) (END : ∀ (H : Heap) (locs : List Loc), zl_I D dA A s H locs qx qm ax am → W p l e room_1 s m args below meth c H locs 15 267 Q (F0 m 397 ls [])) (hI : zl_I D dA A s H locs qx qm ax am) : W p l e room_1 s m args below meth c H locs 15 267 Q (F0 m 351 ls []) := by
  obtain ⟨g, co, wy, ah, pl, tr, kn, lf, rw, nu, le, cn, fi, hG, hkn, O⟩ := hI
  by_cases hb : zp_bad (xs (i + 1)) = 0 ∧ zp_bad (xs (i + 2)) = 0 ∧ ¬ xs (i + 1) = xs (i + 2)
  · obtain ⟨u, hu, eu⟩ := zp_bad_of hb.1
    obtain ⟨v, hv, ev⟩ := zp_bad_of hb.2.1
    have huv : u ≠ v := fun q => hb.2.2 (by rw [eu, ev, q])
    cases ht : (g u).testBit v
    · skip
      refine lv_aload_n X.1 X.2.1 dL_law_351 rfl (lv_at hl 1 rfl) ?_
      refine zl_ld X hX hbl hbA O.2.2.2.1 hl 0 3 rfl rfl (j := 1) (by omega) (by omega) (by decide) dL_law_352 dL_law_353 dL_law_354 dL_law_355 dL_law_356 ?_
      rw [eu]
      refine zl_ld X hX hbl hbA O.2.2.2.1 hl 0 3 rfl rfl (j := 2) (by omega) (by omega) (by decide) dL_law_357 dL_law_358 dL_law_359 dL_law_360 dL_law_361 ?_
      rw [ev]
      refine zl_callX X O (zX_growth l D dA qx ax g co wy ah pl tr hG.1 u v hu hv huv ht) 2 (lw_V q186 q187 q188 q31 q189) rfl rfl (by decide +kernel) ⟨Nat.le_of_ble_eq_true rfl, Nat.le_of_ble_eq_true rfl⟩ rfl hl.1 rfl (Nat.le_of_ble_eq_true rfl) dL_law_362 ⟨Nat.le_of_ble_eq_true rfl, Nat.le_of_ble_eq_true rfl⟩ (fun r fs' as' H locs hp O => ?_)
      obtain ⟨x, x2, hx, hx2, rfl, rfl, rfl⟩ := hp
      refine lv_aload_n X.1 X.2.1 dL_law_365 rfl (lv_at hl 2 rfl) ?_
      refine zl_ld X hX hbl hbA O.2.2.2.1 hl 0 3 rfl rfl (j := 1) (by omega) (by omega) (by decide) dL_law_366 dL_law_367 dL_law_368 dL_law_369 dL_law_370 ?_
      rw [eu]
      refine zl_ld X hX hbl hbA O.2.2.2.1 hl 0 3 rfl rfl (j := 2) (by omega) (by omega) (by decide) dL_law_371 dL_law_372 dL_law_373 dL_law_374 dL_law_375 ?_
      rw [ev]
      refine zl_callM X O (zM_growth l D dA qm am g lf rw nu le cn fi kn hG.1 hkn u v hu hv huv ht) 2 (lw_V q334 q335 q336 q32 q337) rfl rfl (by decide +kernel) ⟨Nat.le_of_ble_eq_true rfl, Nat.le_of_ble_eq_true rfl⟩ rfl hl.1 rfl (Nat.le_of_ble_eq_true rfl) dL_law_376 ⟨Nat.le_of_ble_eq_true rfl, Nat.le_of_ble_eq_true rfl⟩ (fun r fs' as' H locs hp O => ?_)
      obtain ⟨lf', rw', nu', le', cn', fi', hK, rfl, rfl, rfl⟩ := hp
      refine lv_icmp_eq (tgt := 397) X.1 X.2.1 dL_law_379 (by decide) (fun _ => END _ _ ⟨g, _, _, _, _, _, 1, _, _, _, _, _, _, hG, Or.inr ⟨rfl, hK⟩, O⟩) (fun h => absurd ?_ h)
      rw [zq_least hG (k := 2) (by decide) hx, zq_least (zq_tn hG hu hv huv) (k := 2) (by decide) hx2, (hK 4 (by decide)).1]; rfl
    · skip
      refine lv_aload_n X.1 X.2.1 dL_law_351 rfl (lv_at hl 1 rfl) ?_
      refine zl_ld X hX hbl hbA O.2.2.2.1 hl 0 3 rfl rfl (j := 1) (by omega) (by omega) (by decide) dL_law_352 dL_law_353 dL_law_354 dL_law_355 dL_law_356 ?_
      rw [eu]
      refine zl_ld X hX hbl hbA O.2.2.2.1 hl 0 3 rfl rfl (j := 2) (by omega) (by omega) (by decide) dL_law_357 dL_law_358 dL_law_359 dL_law_360 dL_law_361 ?_
      rw [ev]
      refine zl_callX X O (zX_growth0 l D dA qx ax g co wy ah pl tr hG.1 u v hu hv huv ht) 2 (lw_V q186 q187 q188 q31 q189) rfl rfl (by decide +kernel) ⟨Nat.le_of_ble_eq_true rfl, Nat.le_of_ble_eq_true rfl⟩ rfl hl.1 rfl (Nat.le_of_ble_eq_true rfl) dL_law_362 ⟨Nat.le_of_ble_eq_true rfl, Nat.le_of_ble_eq_true rfl⟩ (fun r fs' as' H locs hp O => ?_)
      obtain ⟨rfl, rfl, rfl⟩ := hp
      refine lv_aload_n X.1 X.2.1 dL_law_365 rfl (lv_at hl 2 rfl) ?_
      refine zl_ld X hX hbl hbA O.2.2.2.1 hl 0 3 rfl rfl (j := 1) (by omega) (by omega) (by decide) dL_law_366 dL_law_367 dL_law_368 dL_law_369 dL_law_370 ?_
      rw [eu]
      refine zl_ld X hX hbl hbA O.2.2.2.1 hl 0 3 rfl rfl (j := 2) (by omega) (by omega) (by decide) dL_law_371 dL_law_372 dL_law_373 dL_law_374 dL_law_375 ?_
      rw [ev]
      refine zl_callM X O (zM_growth0 l D dA qm am g lf rw nu le cn fi kn hG.1 u v hu hv huv ht) 2 (lw_V q334 q335 q336 q32 q337) rfl rfl (by decide +kernel) ⟨Nat.le_of_ble_eq_true rfl, Nat.le_of_ble_eq_true rfl⟩ rfl hl.1 rfl (Nat.le_of_ble_eq_true rfl) dL_law_376 ⟨Nat.le_of_ble_eq_true rfl, Nat.le_of_ble_eq_true rfl⟩ (fun r fs' as' H locs hp O => ?_)
      obtain ⟨rfl, rfl, rfl⟩ := hp
      refine lv_icmp_eq (tgt := 397) X.1 X.2.1 dL_law_379 (by decide) (fun _ => END _ _ ⟨g, _, _, _, _, _, kn, _, _, _, _, _, _, hG, hkn, O⟩) (fun h => absurd ?_ h)
      rfl
  · have hb2 : zp_bad (xs (i + 1)) = 1 ∨ zp_bad (xs (i + 2)) = 1 ∨ xs (i + 1) = xs (i + 2) := by
      by_cases h1 : zp_bad (xs (i + 1)) = 0
      · by_cases h2 : zp_bad (xs (i + 2)) = 0
        · by_cases h3 : xs (i + 1) = xs (i + 2)
          · exact Or.inr (Or.inr h3)
          · exact absurd ⟨h1, h2, h3⟩ hb
        · exact Or.inr (Or.inl (zp_bad_1 h2))
      · exact Or.inl (zp_bad_1 h1)
    refine lv_aload_n X.1 X.2.1 dL_law_351 rfl (lv_at hl 1 rfl) ?_
    refine zl_ld X hX hbl hbA O.2.2.2.1 hl 0 3 rfl rfl (j := 1) (by omega) (by omega) (by decide) dL_law_352 dL_law_353 dL_law_354 dL_law_355 dL_law_356 ?_
    refine zl_ld X hX hbl hbA O.2.2.2.1 hl 0 3 rfl rfl (j := 2) (by omega) (by omega) (by decide) dL_law_357 dL_law_358 dL_law_359 dL_law_360 dL_law_361 ?_
    refine zl_callX X O (zX_growthB l D dA qx ax g co wy ah pl tr (xs (i + 1)) (xs (i + 2)) hb2) 2 (lw_V q186 q187 q188 q31 q189) rfl rfl (by decide +kernel) ⟨Nat.le_of_ble_eq_true rfl, Nat.le_of_ble_eq_true rfl⟩ rfl hl.1 rfl (Nat.le_of_ble_eq_true rfl) dL_law_362 ⟨Nat.le_of_ble_eq_true rfl, Nat.le_of_ble_eq_true rfl⟩ (fun r fs' as' H locs hp O => ?_)
    obtain ⟨rfl, rfl, rfl⟩ := hp
    refine lv_aload_n X.1 X.2.1 dL_law_365 rfl (lv_at hl 2 rfl) ?_
    refine zl_ld X hX hbl hbA O.2.2.2.1 hl 0 3 rfl rfl (j := 1) (by omega) (by omega) (by decide) dL_law_366 dL_law_367 dL_law_368 dL_law_369 dL_law_370 ?_
    refine zl_ld X hX hbl hbA O.2.2.2.1 hl 0 3 rfl rfl (j := 2) (by omega) (by omega) (by decide) dL_law_371 dL_law_372 dL_law_373 dL_law_374 dL_law_375 ?_
    refine zl_callM X O (zM_growthB l D dA qm am g lf rw nu le cn fi kn (xs (i + 1)) (xs (i + 2)) hb2) 2 (lw_V q334 q335 q336 q32 q337) rfl rfl (by decide +kernel) ⟨Nat.le_of_ble_eq_true rfl, Nat.le_of_ble_eq_true rfl⟩ rfl hl.1 rfl (Nat.le_of_ble_eq_true rfl) dL_law_376 ⟨Nat.le_of_ble_eq_true rfl, Nat.le_of_ble_eq_true rfl⟩ (fun r fs' as' H locs hp O => ?_)
    obtain ⟨rfl, rfl, rfl⟩ := hp
    refine lv_icmp_eq (tgt := 397) X.1 X.2.1 dL_law_379 (by decide) (fun _ => END _ _ ⟨g, _, _, _, _, _, kn, _, _, _, _, _, _, hG, hkn, O⟩) (fun h => absurd ?_ h)
    rfl
set_option maxHeartbeats 4000000 in
set_option maxRecDepth 100000 in
theorem zl_c16 (X : CallFix p m c code 4 s args lw_all R_law) (hX : va_X b L xs s s.heap) (hbl : b < s.heap.size) (hbA : ¬ A b) (hL : L < 1000) (hi : i + 3 ≤ L) (hl : lv_has ls 4 [(0, .ref b), (1, .ref qx), (2, .ref qm), (3, .int (nI i))]) (END : ∀ (H : Heap) (locs : List Loc), zl_I D dA A s H locs qx qm ax am → W p l e room_1 s m args below meth c H locs 15 267 Q (F0 m 397 ls [])) (hI : zl_I D dA A s H locs qx qm ax am) : W p l e room_1 s m args below meth c H locs 15 267 Q (F0 m 384 ls []) := by
  obtain ⟨g, co, wy, ah, pl, tr, kn, lf, rw, nu, le, cn, fi, hG, hkn, O⟩ := hI
  refine lv_aload_n X.1 X.2.1 dL_law_384 rfl (lv_at hl 1 rfl) ?_
  refine zl_callX X O (zX_clique l D dA qx ax g co wy ah pl tr hG.1) 0 (lw_V q190 q191 q192 q31 q193) rfl rfl (by decide +kernel) ⟨Nat.le_of_ble_eq_true rfl, Nat.le_of_ble_eq_true rfl⟩ rfl hl.1 rfl (Nat.le_of_ble_eq_true rfl) dL_law_385 ⟨Nat.le_of_ble_eq_true rfl, Nat.le_of_ble_eq_true rfl⟩ (fun r fs' as' H locs hp O => ?_)
  obtain ⟨u, hu, rfl, rfl, rfl⟩ := hp
  refine lv_aload_n X.1 X.2.1 dL_law_388 rfl (lv_at hl 2 rfl) ?_
  refine zl_callM X O (zM_clique l D dA qm am g lf rw nu le cn fi kn hG.1) 0 (lw_V q342 q343 q344 q32 q345) rfl rfl (by decide +kernel) ⟨Nat.le_of_ble_eq_true rfl, Nat.le_of_ble_eq_true rfl⟩ rfl hl.1 rfl (Nat.le_of_ble_eq_true rfl) dL_law_389 ⟨Nat.le_of_ble_eq_true rfl, Nat.le_of_ble_eq_true rfl⟩ (fun r fs' as' H locs hp O => ?_)
  obtain ⟨rfl, rfl, rfl⟩ := hp
  refine lv_icmp_eq (tgt := 397) X.1 X.2.1 dL_law_392 (by decide) (fun _ => END _ _ ⟨g, _, _, _, _, _, kn, _, _, _, _, _, _, hG, hkn, O⟩) (fun h => absurd ?_ h)
  rw [zq_clique hG hu]
end
end
section
/-! the law: its loop, its start (written by gen/law2.py) -/
set_option maxHeartbeats 4000000 in
set_option maxRecDepth 100000 in
theorem zl_loop {p : Program} {l : Launch} {e : Env} {s : State} {m : MethodId} {below : List Frame} {meth : Method} {c : Code} {b L : Nat} {xs : Nat → Int32} {D : va_G} {dA : ClassId} {qx qm : Nat} {ax am : Nat → Nat} (hL : L ≤ 192) (X : CallFix p m c code 4 s #[Value.ref b] lw_all R_law) (hr : meth.sig.returnType = ret) (hlocks : meth.locks = false) (hX : va_X b L xs s s.heap) (hbl : b < s.heap.size) (hbA : ¬ (fun q : Nat => s.heap.size ≤ q) b) :
    ∀ (n i : Nat), L < i + 3 + 3 * n → i ≤ L → ∀ (H : Heap) (locs : List Loc), zl_I D dA (fun q : Nat => s.heap.size ≤ q) s H locs qx qm ax am → ∀ (ls : Array Slot), lv_has ls 4 [(0, .ref b), (1, .ref qx), (2, .ref qm), (3, .int (nI i))] → W p l e room_1 s m #[Value.ref b] below meth c H locs 15 267 (lw_Z below #[Value.ref b] s) (F0 m 18 ls []) := by
  intro n
  induction n with
  | zero =>
    intro i hn hi H locs hI ls hl
    have hS : va_S (fun q : Nat => s.heap.size ≤ q) s.heap H locs := by obtain ⟨g, co, wy, ah, pl, tr, kn, lf, rw, nu, le, cn, fi, hG, hkn, O⟩ := hI; exact O.2.2.2.1
    refine lv_iload_n X.1 X.2.1 dL_law_18 rfl (lv_at hl 3 rfl) ?_
    refine lv_aload_n X.1 X.2.1 dL_law_19 rfl (lv_at hl 0 rfl) ?_
    refine va_slen X.1 X.2.1 hX hbl hbA hS dL_law_20 ?_
    refine zw_top (y := nI L) rfl ?_
    refine lv_iconst (v := nI 3) X.1 X.2.1 dL_law_21 (by decide) ?_
    refine zl_gt (tgt := 403) X (by omega) (by omega) dL_law_22 dL_law_23 (by decide) (fun cb => ?_) (fun cb => ?_)
    · refine lv_iconst (v := 1) X.1 X.2.1 dL_law_403 (by decide) ?_
      refine W.widen (k := 600000) (n := 7290000) (by decide) (by decide) ?_
      refine va_forget hS.2.2 ?_
      exact lw_ret X.1 X.2.1 hr hlocks dL_law_404
    · exact absurd cb (by omega)
  | succ n ih =>
    intro i hn hi H locs hI ls hl
    have hS : va_S (fun q : Nat => s.heap.size ≤ q) s.heap H locs := by obtain ⟨g, co, wy, ah, pl, tr, kn, lf, rw, nu, le, cn, fi, hG, hkn, O⟩ := hI; exact O.2.2.2.1
    refine lv_iload_n X.1 X.2.1 dL_law_18 rfl (lv_at hl 3 rfl) ?_
    refine lv_aload_n X.1 X.2.1 dL_law_19 rfl (lv_at hl 0 rfl) ?_
    refine va_slen X.1 X.2.1 hX hbl hbA hS dL_law_20 ?_
    refine zw_top (y := nI L) rfl ?_
    refine lv_iconst (v := nI 3) X.1 X.2.1 dL_law_21 (by decide) ?_
    refine zl_gt (tgt := 403) X (by omega) (by omega) dL_law_22 dL_law_23 (by decide) (fun cb => ?_) (fun cb => ?_)
    · refine lv_iconst (v := 1) X.1 X.2.1 dL_law_403 (by decide) ?_
      refine W.widen (k := 600000) (n := 7290000) (by decide) (by decide) ?_
      refine va_forget hS.2.2 ?_
      exact lw_ret X.1 X.2.1 hr hlocks dL_law_404
    · have END : ∀ (H : Heap) (locs : List Loc), zl_I D dA (fun q : Nat => s.heap.size ≤ q) s H locs qx qm ax am → W p l e room_1 s m #[Value.ref b] below meth c H locs 15 267 (lw_Z below #[Value.ref b] s) (F0 m 397 ls []) := by
        intro H locs hI
        refine lv_iinc (v := nI (i + 3)) (lv' := [(3, .int (nI (i + 3))), (0, .ref b), (1, .ref qx), (2, .ref qm)]) X.1 X.2.1 dL_law_397 hl (k := 3) rfl (by have h : Int32.ofInt 3 = nI 3 := (by decide); rw [h, nI_add]) (by decide) rfl (fun ls hl => ?_)
        refine lv_goto (tgt := 18) X.1 X.2.1 dL_law_400 (by decide) ?_
        exact ih (i + 3) (by omega) (by omega) H locs hI ls (lv_sub hl [1, 2, 3, 0] rfl)
      refine lv_aload_n X.1 X.2.1 dL_law_26 rfl (lv_at hl 0 rfl) ?_
      refine lv_iload_n X.1 X.2.1 dL_law_27 rfl (lv_at hl 3 rfl) ?_
      refine va_sld X.1 X.2.1 hX hbl hbA hS (vp_in_nI (show i < L by omega) (by omega)) dL_law_28 ?_
      refine lv_bipush (v := nI 31) X.1 X.2.1 dL_law_29 (by decide) ?_
      refine lv_iand X.1 X.2.1 dL_law_31 ?_
      obtain ⟨j, hj, ej⟩ := pk_andE (xs (nI i).toNatClampNeg) (m := nI 31) 5 (by decide)
      rw [ej]
      rcases (show j = 0 ∨ j = 1 ∨ j = 2 ∨ j = 3 ∨ j = 4 ∨ j = 5 ∨ j = 6 ∨ j = 7 ∨ j = 8 ∨ j = 9 ∨ j = 10 ∨ j = 11 ∨ j = 12 ∨ j = 13 ∨ j = 14 ∨ j = 15 ∨ j = 16 ∨ 16 < j by omega) with q | q | q | q | q | q | q | q | q | q | q | q | q | q | q | q | q | q
      · subst q
        refine lv_tableIn (tgt := 116) (off := 84) X.1 X.2.1 dL_law_32 (by decide) (by decide) rfl (by decide) ?_
        exact zl_c0 X hX hbl hbA (by omega) (by omega) hl END hI
      · subst q
        refine lv_tableIn (tgt := 149) (off := 117) X.1 X.2.1 dL_law_32 (by decide) (by decide) rfl (by decide) ?_
        exact zl_c1 X hX hbl hbA (by omega) (by omega) hl END hI
      · subst q
        refine lv_tableIn (tgt := 162) (off := 130) X.1 X.2.1 dL_law_32 (by decide) (by decide) rfl (by decide) ?_
        exact zl_c2 X hX hbl hbA (by omega) (by omega) hl END hI
      · subst q
        refine lv_tableIn (tgt := 175) (off := 143) X.1 X.2.1 dL_law_32 (by decide) (by decide) rfl (by decide) ?_
        exact zl_c3 X hX hbl hbA (by omega) (by omega) hl END hI
      · subst q
        refine lv_tableIn (tgt := 188) (off := 156) X.1 X.2.1 dL_law_32 (by decide) (by decide) rfl (by decide) ?_
        exact zl_c4 X hX hbl hbA (by omega) (by omega) hl END hI
      · subst q
        refine lv_tableIn (tgt := 201) (off := 169) X.1 X.2.1 dL_law_32 (by decide) (by decide) rfl (by decide) ?_
        exact zl_c5 X hX hbl hbA (by omega) (by omega) hl END hI
      · subst q
        refine lv_tableIn (tgt := 214) (off := 182) X.1 X.2.1 dL_law_32 (by decide) (by decide) rfl (by decide) ?_
        exact zl_c6 X hX hbl hbA (by omega) (by omega) hl END hI
      · subst q
        refine lv_tableIn (tgt := 227) (off := 195) X.1 X.2.1 dL_law_32 (by decide) (by decide) rfl (by decide) ?_
        exact zl_c7 X hX hbl hbA (by omega) (by omega) hl END hI
      · subst q
        refine lv_tableIn (tgt := 240) (off := 208) X.1 X.2.1 dL_law_32 (by decide) (by decide) rfl (by decide) ?_
        exact zl_c8 X hX hbl hbA (by omega) (by omega) hl END hI
      · subst q
        refine lv_tableIn (tgt := 253) (off := 221) X.1 X.2.1 dL_law_32 (by decide) (by decide) rfl (by decide) ?_
        exact zl_c9 X hX hbl hbA (by omega) (by omega) hl END hI
      · subst q
        refine lv_tableIn (tgt := 266) (off := 234) X.1 X.2.1 dL_law_32 (by decide) (by decide) rfl (by decide) ?_
        exact zl_c10 X hX hbl hbA (by omega) (by omega) hl END hI
      · subst q
        refine lv_tableIn (tgt := 279) (off := 247) X.1 X.2.1 dL_law_32 (by decide) (by decide) rfl (by decide) ?_
        exact zl_c11 X hX hbl hbA (by omega) (by omega) hl END hI
      · subst q
        refine lv_tableIn (tgt := 292) (off := 260) X.1 X.2.1 dL_law_32 (by decide) (by decide) rfl (by decide) ?_
        exact zl_c12 X hX hbl hbA (by omega) (by omega) hl END hI
      · subst q
        refine lv_tableIn (tgt := 315) (off := 283) X.1 X.2.1 dL_law_32 (by decide) (by decide) rfl (by decide) ?_
        exact zl_c13 X hX hbl hbA (by omega) (by omega) hl END hI
      · subst q
        refine lv_tableIn (tgt := 338) (off := 306) X.1 X.2.1 dL_law_32 (by decide) (by decide) rfl (by decide) ?_
        exact zl_c14 X hX hbl hbA (by omega) (by omega) hl END hI
      · subst q
        refine lv_tableIn (tgt := 351) (off := 319) X.1 X.2.1 dL_law_32 (by decide) (by decide) rfl (by decide) ?_
        exact zl_c15 X hX hbl hbA (by omega) (by omega) hl END hI
      · subst q
        refine lv_tableIn (tgt := 384) (off := 352) X.1 X.2.1 dL_law_32 (by decide) (by decide) rfl (by decide) ?_
        exact zl_c16 X hX hbl hbA (by omega) (by omega) hl END hI
      · refine lv_tableOut (tgt := 397) X.1 X.2.1 dL_law_32 (Or.inr ?_) (by decide) ?_
        · rw [nI_toInt (by omega)]; omega
        · exact END _ _ hI
end
section
/-! the law from its entry: the two objects are made, then its loop -/
set_option maxHeartbeats 4000000 in
set_option maxRecDepth 100000 in
theorem whole_start {p : Program} {e : Env} {s : State} {m : MethodId} {below : List Frame} {meth : Method} {c : Code} (l : Launch) {b L : Nat} {xs : Nat → Int32} (hL : L ≤ 192) (C0 : lw_At p s m meth c b L xs) : W p l e room_1 s m #[Value.ref b] below meth c s.heap [] 0 0 (lw_Z below #[Value.ref b] s) (entryFrame m ([Value.ref b] : List Value).toArray 4) := by
  obtain ⟨hx, hb, hr, hml, hown, hts0, hX, hbl, hlocks, hgv⟩ := id C0
  have hts : ∀ w ∈ lw_all, w.before #[Value.ref b] s = true := fun w h => hts0 w (lw_all_tbl h)
  have hA : ∀ q : Nat, s.heap.size ≤ q → (fun q : Nat => s.heap.size ≤ q) q := fun _ h => h
  have hbA : ¬ (fun q : Nat => s.heap.size ≤ q) b := Nat.not_le.mpr hbl
  obtain ⟨c0_, iS0, hKn0⟩ := u_known (C := RX0) (T := TX0) (N := 6) (n := 6) hts0 (fun w h => lw_all_tbl (in_X0 w h)) (hts0 _ (lw_all_tbl q34))
  obtain ⟨c1_, iS1, hKn1⟩ := u_known (C := RX1) (T := TX1) (N := 8) (n := 8) hts0 (fun w h => lw_all_tbl (in_X1 w h)) (hts0 _ (lw_all_tbl q195))
  obtain ⟨D, hKc⟩ : ∃ D : va_G, ∀ (k : Nat) (q : vw_C), vwCl[k]? = some q → u_Kn s q.1 q.2.1 q.2.2 (D.1 k) (D.2 k) := by
    refine ⟨(fun k => if k = 0 then c0_ else c1_, fun k => if k = 0 then iS0 else iS1), ?_⟩
    intro k q hq
    match k, hq with
    | 0, hq => cases hq; exact hKn0
    | 1, hq => cases hq; exact hKn1
    | k + 2, hq => simp [vwCl] at hq
  have hS : va_S (fun q : Nat => s.heap.size ≤ q) s.heap s.heap [] := va_S.rf
  have hK : va_K D vwCl [] s := ⟨hKc, fun k q h => by simp at h⟩
  have hP : va_P D vwCl [] s.heap := fun k q h => by simp at h
  have hD : va_D (fun q : Nat => s.heap.size ≤ q) [] := ⟨fun i j p q h => by simp at h, fun k q h => by simp at h⟩
  have hl := lv_entry ([.ref b]) (n := 4) (Nat.le_of_ble_eq_true rfl)
  rw [lg_entry_eq]
  generalize (lg_sl ([.ref b]) ++ List.replicate (4 - (lg_sl ([.ref b])).length) Slot.unset).toArray = ls at hl ⊢
  have hl : lv_has ls 4 [(0, .ref b)] := hl
  -- new LayoutWidths
  refine va_new (ci := 0) (fs := [.null, .null, .null, .null, .null, .null]) (C := RX0) (T := TX0) (N := 6) hx hb hts in_X0 tyX0 tyX0_ok hown (hts _ q33) (hts _ q34) (hts _ q31) hK hP hD hS hA rfl (fun j hj => by rcases (show j = 0 ∨ j = 1 ∨ j = 2 ∨ j = 3 ∨ j = 4 ∨ j = 5 by omega) with rfl | rfl | rfl | rfl | rfl | rfl <;> rfl) (Nat.le_of_ble_eq_true rfl) (Nat.le_of_ble_eq_true rfl) dL_law_0 (fun qx H hP hD hS => ?_)
  have hP : va_P D vwCl [(qx, .inr (0, [.null, .null, .null, .null, .null, .null]))] H := hP
  have hD : va_D (fun q : Nat => s.heap.size ≤ q) [(qx, .inr (0, [.null, .null, .null, .null, .null, .null]))] := hD
  refine W.widen (k := 1) (n := 6) (by omega) (by omega) ?_
  refine lv_dup hx hb dL_law_3 rfl ?_
  have hFc := va_free (wc := [(qx, .inr (0, [.null, .null, .null, .null, .null, .null]))]) hD hS hA [0] rfl
  refine va_callv (va_runI (As := []) (rest := [.ref qx]) ⟨hx, hb, hml, hown, hts⟩ (zX_init l D qx H.size) (cwI 0 hts (lw_meth q37) rfl rfl rfl (hts _ q31) (hts _ q35) (hts _ q36) rfl (by decide +kernel) ⟨Nat.le_of_ble_eq_true rfl, Nat.le_of_ble_eq_true rfl⟩) ⟨fun a U g mk q => by obtain ⟨q0, q1, qP, qK, qD⟩ := q; exact ⟨q0, q1, qP, va_K.moved (u := U) (U := U.calling g mk a) (Vm.Alike.refl U.vm) qK, qD⟩, fun U hU hW => ⟨rfl, by rw [hU], by rw [hU]; exact hP, va_K.moved hW.alike hK, hD.weaken (fun _ _ _ _ => trivial)⟩⟩ rfl rfl hl.1 rfl (lv_room (Nat.le_of_ble_eq_true rfl)) dL_law_4 ⟨Nat.le_of_ble_eq_true rfl, Nat.le_of_ble_eq_true rfl⟩) hS (fun q _ h => hFc q h) hFc (fun u t H1 locs ht hvm _ hB hz1 hk1 hS => ?_)
  obtain ⟨dA, ax⟩ := u
  obtain ⟨hP1, hK1, hD1⟩ := hB
  rw [ht] at hP1
  have hK := va_K.moved hvm.symm hK1
  have hP := hP1
  have hD := hD1.weaken (fun _ _ _ h => hFc _ h)
  generalize H1 = H at hP hS ⊢
  refine lv_astore_n (lv' := [(1, .ref qx), (0, .ref b)]) hx hb dL_law_7 rfl hl (by decide) rfl (fun ls hl => ?_)
  -- new LayoutWidthsModel
  refine va_new (ci := 1) (fs := [.null, .null, .null, .null, .null, .null, .null, .int (nI 0)]) (C := RX1) (T := TX1) (N := 8) hx hb hts in_X1 tyX1 tyX1_ok hown (hts _ q194) (hts _ q195) (hts _ q32) hK hP hD hS hA rfl (fun j hj => by rcases (show j = 0 ∨ j = 1 ∨ j = 2 ∨ j = 3 ∨ j = 4 ∨ j = 5 ∨ j = 6 ∨ j = 7 by omega) with rfl | rfl | rfl | rfl | rfl | rfl | rfl | rfl <;> rfl) (Nat.le_of_ble_eq_true rfl) (Nat.le_of_ble_eq_true rfl) dL_law_8 (fun qm H hP hD hS => ?_)
  refine W.widen (k := 8) (n := 225) (by omega) (by omega) ?_
  refine lv_dup hx hb dL_law_11 rfl ?_
  have hPc := zl_right hP
  have hDc := zl_Dr hD
  have hKc := hK.sub (tys' := []) [] rfl
  have hFc : ∀ q, va_A [(qm, .inr (1, [.null, .null, .null, .null, .null, .null, .null, .int (nI 0)]))] H.size q → (fun q : Nat => s.heap.size ≤ q) q := by
    intro q h
    rcases h with ⟨k, e, h⟩ | h
    · exact hDc.2 k (q, e) h
    · exact Nat.le_trans hS.1 h
  refine va_callv (va_runI (As := []) (rest := [.ref qm]) ⟨hx, hb, hml, hown, hts⟩ (zM_init l D qm H.size) (cwI 0 hts (lw_meth q198) rfl rfl rfl (hts _ q32) (hts _ q196) (hts _ q197) rfl (by decide +kernel) ⟨Nat.le_of_ble_eq_true rfl, Nat.le_of_ble_eq_true rfl⟩) ⟨fun a U g mk q => by obtain ⟨q0, q1, qP, qK, qD⟩ := q; exact ⟨q0, q1, qP, va_K.moved (u := U) (U := U.calling g mk a) (Vm.Alike.refl U.vm) qK, qD⟩, fun U hU hW => ⟨rfl, by rw [hU], by rw [hU]; exact hPc, va_K.moved hW.alike hKc, hDc.weaken (fun _ _ _ _ => trivial)⟩⟩ rfl rfl hl.1 rfl (lv_room (Nat.le_of_ble_eq_true rfl)) dL_law_12 ⟨Nat.le_of_ble_eq_true rfl, Nat.le_of_ble_eq_true rfl⟩) hS (fun q _ h => hFc q h) hFc (fun u t H1 locs ht hvm _ hB hz1 hk1 hS => ?_)
  obtain ⟨dB, am⟩ := u
  obtain ⟨hP3, hK3, hD3⟩ := hB
  rw [ht] at hP3
  have hK2 := va_K.moved hvm.symm hK3
  have hd : dB = dA := Option.some.inj ((hK2.2 0 _ rfl).2.symm.trans (hK.2 0 _ rfl).2)
  subst hd
  obtain ⟨hP, hD⟩ := zl_joinM hP hD hk1 hFc hP3 hD3
  refine lv_astore_n (lv' := [(2, .ref qm), (1, .ref qx), (0, .ref b)]) hx hb dL_law_15 rfl hl (by decide) rfl (fun ls hl => ?_)
  refine lv_iconst (v := nI 0) hx hb dL_law_16 (by decide) ?_
  refine lv_istore_n (lv' := [(3, .int (nI 0)), (2, .ref qm), (1, .ref qx), (0, .ref b)]) hx hb dL_law_17 rfl hl (by decide) rfl (fun ls hl => ?_)
  refine W.widen (k := 15) (n := 267) (by omega) (by omega) ?_
  exact zl_loop (ax := ax) (am := am) hL ⟨hx, hb, hml, hown, hts⟩ hr hlocks hX hbl hbA (L + 1) 0 (by omega) (Nat.zero_le L) H1 locs ⟨(fun _ => 0), (fun _ => 0), (fun _ => 0), (fun _ => 0), (fun _ => 0), (fun _ => 0), 0, (fun _ => 0), (fun _ => 0), (fun _ => 0), (fun _ => 0), (fun _ => 0), (fun _ => 0), zq_0, Or.inl rfl, hK, hP, hD, hS, hA⟩ ls (lv_sub hl [3, 2, 1, 0] rfl)
end
section
set_option maxHeartbeats 4000000 in
theorem lw_walk (l : Launch) (b : Addr) (xs : List Int32) : MetFree l x (headSpec (Jvm.Cond.code x code maxLocals ret :: tables_1) room_1) (lw_P b xs) (fun _ _ _ _ _ => True) lw_Q := by
  refine MetFree.of_bodyS (code := code) (maxLocals := maxLocals) (ret := ret) (by decide) ?_ ?_
  · intro args s m h hn
    obtain ⟨meth, c, h1, h2, h3, h4, h5, h6, -, -⟩ := Cond.code_spec hn (atoms_spec (ws := Jvm.Cond.code x code maxLocals ret :: tables_1) h _ List.mem_cons_self)
    exact ⟨meth, c, h1, h2, h3, h4, h5, h6⟩
  · intro p e s m args below meth c s₁ B hml0 hP _
    obtain ⟨rfl, hx, hbd, hgv⟩ := hP
    obtain ⟨scr, harrAt, hlist, hof, hsmall⟩ := hx
    obtain ⟨hcb, hkn, -, -⟩ := State.arrayAt?_spec harrAt
    have hown : s.vm.findClass R_law = some m.cls := findClass_of_methodNamed B.named
    have hts0 : ∀ c ∈ (Jvm.Cond.code x code maxLocals ret :: tables_1), c.before #[Value.ref b] s = true := atoms_spec (ws := Jvm.Cond.code x code maxLocals ret :: tables_1) B.pre
    have hts : ∀ w ∈ lw_tbl, w.before #[Value.ref b] s = true := k2_hts_sels lw_privs (fun w hw => hts0 w (List.mem_cons_of_mem _ hw)) lw_privs_ok
    have hml : c.maxLocals = 4 := B.maxLocals_eq (hts0 _ List.mem_cons_self)
    have X₀ : Stand p l e room_1 s m #[Value.ref b] below meth c s₁ [] 0 0 := Stand.of_body B
    have hh0 : s₁.heap = s.heap := by rw [B.state]; rfl
    have hsz : scr.slots.size = xs.length := by rw [← Array.length_toList, hlist, List.length_map]
    have hval : ∀ j : Nat, j < xs.length → scr.slots[j]? = some (.int (xs.getD j 0)) := fun j hj => by
      rw [← Array.getElem?_toList, hlist]
      simp [hj]
    have hbl : b < s.heap.size := (Array.getElem?_eq_some_iff.mp hcb).1
    have hX : va_X b xs.length (fun j => xs.getD j 0) s s.heap := ⟨scr, hcb, hof, hkn, hsz, hval⟩
    have K : W p l e room_1 s m #[Value.ref b] below meth c s₁.heap [] 0 0 (lw_Z below #[Value.ref b] s) (entryFrame m ([Value.ref b] : List Value).toArray 4) := by
      rw [hh0]
      exact whole_start l hbd ⟨B.exec, B.bytes, B.returns, hml, hown, hts, hX, hbl, B.notSynchronized, hgv⟩
    obtain ⟨t, a1, o, b1, b2, b3⟩ := K s₁ rfl X₀
    exact ⟨t, o, a1, b1, b2, b3⟩
theorem lw_pre_spec {args : Array Value} {s : State} (h : (Jvm.Cond.and given_1 narrow_1).before args s = true) (hr : rest_1_c.before args s = true) : ∃ (b : Addr) (xs : List Int32), lw_P b xs args s := by
  have hs := flat_of_before _ h
  have hq := flat_of_before _ hr
  have hc : (Cond.count 1).before args s = true := hs _ (by decide +kernel)
  have harr : (Cond.arrayOf (.arg 0) .int).before args s = true := hs _ (by decide +kernel)
  have hle : (Cond.le (.length (.arg 0)) (.int 192)).before args s = true := hs _ (by decide +kernel)
  have hlen : (Cond.isInt (.length (.arg 0))).before args s = true := hq _ (by decide +kernel)
  have hall : (Cond.all (.arg 0) (.isInt (.elem (.arg 0) (.index 0)))).before args s = true := hq _ (by decide +kernel)
  obtain ⟨b, xs, hb, hx⟩ := State.ints_of_pre rfl harr hlen hall
  have hsm : xs.length < 2 ^ 31 := hx.choose_spec.2.2.2
  have hev : (Term.length (.arg 0)).eval args s none [] s = some (.int xs.length.toInt32) := hx.length_eval hb
  have hv := Cond.le_ints hev (show (Term.int 192).eval args s none [] s = some (.int 192) from rfl)
  have hd : xs.length.toInt32 ≤ 192 := by
    simpa [Cond.before, Cond.holds, hv] using hle
  have hN : xs.length ≤ 192 := (Int32.ofNat_le_ofNat hsm (by decide)).mp (show Int32.ofNat xs.length ≤ Int32.ofNat 192 from hd)
  exact ⟨b, xs, Cond.one_arg hc (show args[0]? = some (.ref b) from hb), hx, hN, h⟩
theorem lw_comes (l : Launch) : Comes l x (Jvm.Cond.code x code maxLocals ret :: tables_1) room_1 (fun tb e args s => Calls_1 tb e args s ∧ rest_1 tb e args s ∧ Pre_1 tb e args s)
    (fun _ _ args s o t => lw_Q args s o t) := by
  intro p e ha hc hk s m args below hf hfit hheap happ hpre
  obtain ⟨b, xs, hP⟩ := lw_pre_spec hpre.2.2 hpre.2.1
  obtain ⟨k, o, h1, h2, h3, hQ⟩ := lw_walk l b xs p e ha hc hk s m args below hf ((Spec.applies_iff_loose hf).mp happ).1 hP trivial
  exact ⟨k, o, h1, h2, h3, hQ⟩
theorem lw_frame {s t : State} {o : Outcome} {args : Array Value} (h : Framed s o t [] 600000 7290000) :
    Framed s o t (fieldLocs frame_1_writes args s ++ arrayLocs frame_1_arrays args s ++ staticLocs frame_1_statics s) 600000 7290000 := h
theorem lw_limb (L : Cond) (hL : ∀ (args : Array Value) (s t : State), L.after args s (.returned (some (.int 1))) t = true) :
    ArmFor flags0 classFile x code maxLocals ret World_1 tables_1 room_1 Calls_1 rest_1 Pre_1
      (fun tb e a s o t => postC L tb e a s o t ∧ Framed s o t (fieldLocs frame_1_writes a s ++ arrayLocs frame_1_arrays a s ++ staticLocs frame_1_statics s) 600000 7290000) := by
  intro l _ _ _ p e ha hc hk s m args below hf hfit hheap happ hpre
  obtain ⟨k, o, h1, h2, h3, rfl, hF⟩ := lw_comes l p e ha hc hk s m args below hf hfit hheap happ hpre
  exact ⟨k, _, h1, h2, h3, hL args s _, lw_frame hF⟩
theorem i_vc : Claimed_1_1 ∧ Claimed_1_2 := ⟨lw_limb limb_1_1 (fun args s t => by simp [limb_1_1, Cond.after, Cond.holds, Cond.value]), lw_limb limb_1_2 (fun args s t => Cond.after_iff.mpr (by
  first | (rw [show limb_1_2 = Cond.eq .result (.int 1) from rfl, Cond.eq_ints (x := 1) (y := 1) rfl rfl]; simp; done) | (simp [limb_1_2, Cond.value, Term.eval]; done)))⟩
end
