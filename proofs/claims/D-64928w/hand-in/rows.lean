section
-- ===== PART A: goes FIRST, ahead of the names: the tables' words, and 'selects' of the private methods out of them =====
/-- a private method of a class that the tables say can be made, by its rows of tables_1 -/
def lw_okq (q : MethodName × Nat) : Prop := (q.1.cls ≠ "java/lang/invoke/MethodHandle" ∧ q.1.cls ≠ "java/lang/invoke/VarHandle") ∧ Cond.instantiable q.1.cls q.2 ∈ tables_1 ∧ Cond.privateMethod q.1 ∈ tables_1 ∧ Cond.instanceMethod q.1 ∈ tables_1
set_option maxRecDepth 100000
theorem lw_t1 {w : Cond} (h : w ∈ tables_1_1) : w ∈ tables_1 := List.mem_append_left _ h
theorem lw_t2 {w : Cond} (h : w ∈ tables_1_2) : w ∈ tables_1 := List.mem_append_right _ h
theorem lw_p0 : lw_okq (⟨"RasterRules", "isPixel", "(I)Z"⟩, 7) := ⟨⟨by decide +kernel, by decide +kernel⟩, lw_t1 (List.mem_of_getElem? (i := 4) rfl), lw_t1 (List.mem_of_getElem? (i := 44) rfl), lw_t1 (List.mem_of_getElem? (i := 45) rfl)⟩
theorem lw_p1 : lw_okq (⟨"RasterRules", "clearFigure", "()V"⟩, 7) := ⟨⟨by decide +kernel, by decide +kernel⟩, lw_t1 (List.mem_of_getElem? (i := 4) rfl), lw_t1 (List.mem_of_getElem? (i := 48) rfl), lw_t1 (List.mem_of_getElem? (i := 49) rfl)⟩
theorem lw_p2 : lw_okq (⟨"RasterRules", "distance", "(II)I"⟩, 7) := ⟨⟨by decide +kernel, by decide +kernel⟩, lw_t1 (List.mem_of_getElem? (i := 4) rfl), lw_t1 (List.mem_of_getElem? (i := 52) rfl), lw_t1 (List.mem_of_getElem? (i := 53) rfl)⟩
theorem lw_p3 : lw_okq (⟨"RasterRules", "walkLine", "(IIIIZ)V"⟩, 7) := ⟨⟨by decide +kernel, by decide +kernel⟩, lw_t1 (List.mem_of_getElem? (i := 4) rfl), lw_t1 (List.mem_of_getElem? (i := 56) rfl), lw_t1 (List.mem_of_getElem? (i := 57) rfl)⟩
theorem lw_p4 : lw_okq (⟨"RasterRules", "dot", "(II)V"⟩, 7) := ⟨⟨by decide +kernel, by decide +kernel⟩, lw_t1 (List.mem_of_getElem? (i := 4) rfl), lw_t1 (List.mem_of_getElem? (i := 60) rfl), lw_t1 (List.mem_of_getElem? (i := 61) rfl)⟩
theorem lw_p5 : lw_okq (⟨"RasterRules", "ink", "()I"⟩, 7) := ⟨⟨by decide +kernel, by decide +kernel⟩, lw_t1 (List.mem_of_getElem? (i := 4) rfl), lw_t1 (List.mem_of_getElem? (i := 64) rfl), lw_t1 (List.mem_of_getElem? (i := 65) rfl)⟩
theorem lw_p6 : lw_okq (⟨"RasterRules", "bitsIn", "(I)I"⟩, 7) := ⟨⟨by decide +kernel, by decide +kernel⟩, lw_t1 (List.mem_of_getElem? (i := 4) rfl), lw_t1 (List.mem_of_getElem? (i := 68) rfl), lw_t1 (List.mem_of_getElem? (i := 69) rfl)⟩
theorem lw_p7 : lw_okq (⟨"RasterRules", "drawBlot", "(III)V"⟩, 7) := ⟨⟨by decide +kernel, by decide +kernel⟩, lw_t1 (List.mem_of_getElem? (i := 4) rfl), lw_t1 (List.mem_of_getElem? (i := 76) rfl), lw_t1 (List.mem_of_getElem? (i := 77) rfl)⟩
theorem lw_p8 : lw_okq (⟨"RasterRules", "run", "(III)V"⟩, 7) := ⟨⟨by decide +kernel, by decide +kernel⟩, lw_t1 (List.mem_of_getElem? (i := 4) rfl), lw_t1 (List.mem_of_getElem? (i := 80) rfl), lw_t1 (List.mem_of_getElem? (i := 81) rfl)⟩
theorem lw_p9 : lw_okq (⟨"RasterRules", "drawRing", "(III)V"⟩, 7) := ⟨⟨by decide +kernel, by decide +kernel⟩, lw_t1 (List.mem_of_getElem? (i := 4) rfl), lw_t1 (List.mem_of_getElem? (i := 88) rfl), lw_t1 (List.mem_of_getElem? (i := 89) rfl)⟩
theorem lw_p10 : lw_okq (⟨"RasterRules", "eightDots", "(IIII)V"⟩, 7) := ⟨⟨by decide +kernel, by decide +kernel⟩, lw_t1 (List.mem_of_getElem? (i := 4) rfl), lw_t1 (List.mem_of_getElem? (i := 92) rfl), lw_t1 (List.mem_of_getElem? (i := 93) rfl)⟩
theorem lw_p11 : lw_okq (⟨"RasterRules", "drawCross", "(III)V"⟩, 7) := ⟨⟨by decide +kernel, by decide +kernel⟩, lw_t1 (List.mem_of_getElem? (i := 4) rfl), lw_t1 (List.mem_of_getElem? (i := 100) rfl), lw_t1 (List.mem_of_getElem? (i := 101) rfl)⟩
theorem lw_p12 : lw_okq (⟨"RasterRules", "drawTriangle", "(III)V"⟩, 7) := ⟨⟨by decide +kernel, by decide +kernel⟩, lw_t1 (List.mem_of_getElem? (i := 4) rfl), lw_t1 (List.mem_of_getElem? (i := 108) rfl), lw_t1 (List.mem_of_getElem? (i := 109) rfl)⟩
theorem lw_p13 : lw_okq (⟨"RasterRules", "smallest", "(III)I"⟩, 7) := ⟨⟨by decide +kernel, by decide +kernel⟩, lw_t1 (List.mem_of_getElem? (i := 4) rfl), lw_t1 (List.mem_of_getElem? (i := 112) rfl), lw_t1 (List.mem_of_getElem? (i := 113) rfl)⟩
theorem lw_p14 : lw_okq (⟨"RasterRules", "greatest", "(III)I"⟩, 7) := ⟨⟨by decide +kernel, by decide +kernel⟩, lw_t1 (List.mem_of_getElem? (i := 4) rfl), lw_t1 (List.mem_of_getElem? (i := 116) rfl), lw_t1 (List.mem_of_getElem? (i := 117) rfl)⟩
theorem lw_p15 : lw_okq (⟨"RasterRules", "side", "(IIII)I"⟩, 7) := ⟨⟨by decide +kernel, by decide +kernel⟩, lw_t1 (List.mem_of_getElem? (i := 4) rfl), lw_t1 (List.mem_of_getElem? (i := 120) rfl), lw_t1 (List.mem_of_getElem? (i := 121) rfl)⟩
def lw_privs_1 : List (MethodName × Nat) := [(⟨"RasterRules", "isPixel", "(I)Z"⟩, 7), (⟨"RasterRules", "clearFigure", "()V"⟩, 7), (⟨"RasterRules", "distance", "(II)I"⟩, 7), (⟨"RasterRules", "walkLine", "(IIIIZ)V"⟩, 7), (⟨"RasterRules", "dot", "(II)V"⟩, 7), (⟨"RasterRules", "ink", "()I"⟩, 7), (⟨"RasterRules", "bitsIn", "(I)I"⟩, 7), (⟨"RasterRules", "drawBlot", "(III)V"⟩, 7), (⟨"RasterRules", "run", "(III)V"⟩, 7), (⟨"RasterRules", "drawRing", "(III)V"⟩, 7), (⟨"RasterRules", "eightDots", "(IIII)V"⟩, 7), (⟨"RasterRules", "drawCross", "(III)V"⟩, 7), (⟨"RasterRules", "drawTriangle", "(III)V"⟩, 7), (⟨"RasterRules", "smallest", "(III)I"⟩, 7), (⟨"RasterRules", "greatest", "(III)I"⟩, 7), (⟨"RasterRules", "side", "(IIII)I"⟩, 7)]
theorem lw_r1 : ∀ q ∈ lw_privs_1, lw_okq q := List.forall_mem_cons.mpr ⟨lw_p0, List.forall_mem_cons.mpr ⟨lw_p1, List.forall_mem_cons.mpr ⟨lw_p2, List.forall_mem_cons.mpr ⟨lw_p3, List.forall_mem_cons.mpr ⟨lw_p4, List.forall_mem_cons.mpr ⟨lw_p5, List.forall_mem_cons.mpr ⟨lw_p6, List.forall_mem_cons.mpr ⟨lw_p7, List.forall_mem_cons.mpr ⟨lw_p8, List.forall_mem_cons.mpr ⟨lw_p9, List.forall_mem_cons.mpr ⟨lw_p10, List.forall_mem_cons.mpr ⟨lw_p11, List.forall_mem_cons.mpr ⟨lw_p12, List.forall_mem_cons.mpr ⟨lw_p13, List.forall_mem_cons.mpr ⟨lw_p14, List.forall_mem_cons.mpr ⟨lw_p15, fun _ h => absurd h List.not_mem_nil⟩⟩⟩⟩⟩⟩⟩⟩⟩⟩⟩⟩⟩⟩⟩⟩
theorem lw_p16 : lw_okq (⟨"RasterRules", "addRun", "(III)V"⟩, 7) := ⟨⟨by decide +kernel, by decide +kernel⟩, lw_t1 (List.mem_of_getElem? (i := 4) rfl), lw_t1 (List.mem_of_getElem? (i := 132) rfl), lw_t1 (List.mem_of_getElem? (i := 133) rfl)⟩
theorem lw_p17 : lw_okq (⟨"RasterRulesModel", "isPixel", "(I)Z"⟩, 3) := ⟨⟨by decide +kernel, by decide +kernel⟩, lw_t1 (List.mem_of_getElem? (i := 151) rfl), lw_t1 (List.mem_of_getElem? (i := 176) rfl), lw_t1 (List.mem_of_getElem? (i := 177) rfl)⟩
theorem lw_p18 : lw_okq (⟨"RasterRulesModel", "onLine", "(IIIIII)Z"⟩, 3) := ⟨⟨by decide +kernel, by decide +kernel⟩, lw_t1 (List.mem_of_getElem? (i := 151) rfl), lw_t1 (List.mem_of_getElem? (i := 180) rfl), lw_t1 (List.mem_of_getElem? (i := 181) rfl)⟩
theorem lw_p19 : lw_okq (⟨"RasterRulesModel", "size", "(I)I"⟩, 3) := ⟨⟨by decide +kernel, by decide +kernel⟩, lw_t1 (List.mem_of_getElem? (i := 151) rfl), lw_t1 (List.mem_of_getElem? (i := 184) rfl), lw_t1 (List.mem_of_getElem? (i := 185) rfl)⟩
theorem lw_p20 : lw_okq (⟨"RasterRulesModel", "nearest", "(IIIIII)Z"⟩, 3) := ⟨⟨by decide +kernel, by decide +kernel⟩, lw_t1 (List.mem_of_getElem? (i := 151) rfl), lw_t1 (List.mem_of_getElem? (i := 188) rfl), lw_t1 (List.mem_of_getElem? (i := 189) rfl)⟩
theorem lw_p21 : lw_okq (⟨"RasterRulesModel", "ink", "()I"⟩, 3) := ⟨⟨by decide +kernel, by decide +kernel⟩, lw_t1 (List.mem_of_getElem? (i := 151) rfl), lw_t1 (List.mem_of_getElem? (i := 192) rfl), lw_t1 (List.mem_of_getElem? (i := 193) rfl)⟩
theorem lw_p22 : lw_okq (⟨"RasterRulesModel", "isRound", "(II)Z"⟩, 3) := ⟨⟨by decide +kernel, by decide +kernel⟩, lw_t1 (List.mem_of_getElem? (i := 151) rfl), lw_t1 (List.mem_of_getElem? (i := 200) rfl), lw_t1 (List.mem_of_getElem? (i := 201) rfl)⟩
theorem lw_p23 : lw_okq (⟨"RasterRulesModel", "onArc", "(III)Z"⟩, 3) := ⟨⟨by decide +kernel, by decide +kernel⟩, lw_t1 (List.mem_of_getElem? (i := 151) rfl), lw_t1 (List.mem_of_getElem? (i := 208) rfl), lw_t1 (List.mem_of_getElem? (i := 209) rfl)⟩
theorem lw_p24 : lw_okq (⟨"RasterRulesModel", "inTriangle", "(IIIII)Z"⟩, 3) := ⟨⟨by decide +kernel, by decide +kernel⟩, lw_t1 (List.mem_of_getElem? (i := 151) rfl), lw_t1 (List.mem_of_getElem? (i := 220) rfl), lw_t1 (List.mem_of_getElem? (i := 221) rfl)⟩
theorem lw_p25 : lw_okq (⟨"RasterRulesModel", "side", "(IIII)I"⟩, 3) := ⟨⟨by decide +kernel, by decide +kernel⟩, lw_t1 (List.mem_of_getElem? (i := 151) rfl), lw_t1 (List.mem_of_getElem? (i := 224) rfl), lw_t1 (List.mem_of_getElem? (i := 225) rfl)⟩
theorem lw_p26 : lw_okq (⟨"RasterRulesModel", "between", "(IIII)Z"⟩, 3) := ⟨⟨by decide +kernel, by decide +kernel⟩, lw_t1 (List.mem_of_getElem? (i := 151) rfl), lw_t1 (List.mem_of_getElem? (i := 228) rfl), lw_t1 (List.mem_of_getElem? (i := 229) rfl)⟩
theorem lw_p27 : lw_okq (⟨"RasterRulesModel", "besideFigure", "(I)Z"⟩, 3) := ⟨⟨by decide +kernel, by decide +kernel⟩, lw_t1 (List.mem_of_getElem? (i := 151) rfl), lw_t1 (List.mem_of_getElem? (i := 236) rfl), lw_t1 (List.mem_of_getElem? (i := 237) rfl)⟩
def lw_privs_2 : List (MethodName × Nat) := [(⟨"RasterRules", "addRun", "(III)V"⟩, 7), (⟨"RasterRulesModel", "isPixel", "(I)Z"⟩, 3), (⟨"RasterRulesModel", "onLine", "(IIIIII)Z"⟩, 3), (⟨"RasterRulesModel", "size", "(I)I"⟩, 3), (⟨"RasterRulesModel", "nearest", "(IIIIII)Z"⟩, 3), (⟨"RasterRulesModel", "ink", "()I"⟩, 3), (⟨"RasterRulesModel", "isRound", "(II)Z"⟩, 3), (⟨"RasterRulesModel", "onArc", "(III)Z"⟩, 3), (⟨"RasterRulesModel", "inTriangle", "(IIIII)Z"⟩, 3), (⟨"RasterRulesModel", "side", "(IIII)I"⟩, 3), (⟨"RasterRulesModel", "between", "(IIII)Z"⟩, 3), (⟨"RasterRulesModel", "besideFigure", "(I)Z"⟩, 3)]
theorem lw_r2 : ∀ q ∈ lw_privs_2, lw_okq q := List.forall_mem_cons.mpr ⟨lw_p16, List.forall_mem_cons.mpr ⟨lw_p17, List.forall_mem_cons.mpr ⟨lw_p18, List.forall_mem_cons.mpr ⟨lw_p19, List.forall_mem_cons.mpr ⟨lw_p20, List.forall_mem_cons.mpr ⟨lw_p21, List.forall_mem_cons.mpr ⟨lw_p22, List.forall_mem_cons.mpr ⟨lw_p23, List.forall_mem_cons.mpr ⟨lw_p24, List.forall_mem_cons.mpr ⟨lw_p25, List.forall_mem_cons.mpr ⟨lw_p26, List.forall_mem_cons.mpr ⟨lw_p27, fun _ h => absurd h List.not_mem_nil⟩⟩⟩⟩⟩⟩⟩⟩⟩⟩⟩⟩
def lw_privs : List (MethodName × Nat) := lw_privs_1 ++ (lw_privs_2)
def lw_tbl : List Cond := k2_sels lw_privs ++ tables_1
theorem lw_privs_ok : ∀ q ∈ lw_privs, lw_okq q := by
  show ∀ q ∈ lw_privs_1 ++ (lw_privs_2), lw_okq q
  exact List.forall_mem_append.mpr ⟨lw_r1, lw_r2⟩
-- ===== ONE list of words for every method: the tables' words that hold all through a run =====
def lw_all : List Cond := lw_tbl.filter goodWord
/-- a word of the tables by its place: claim/WORDS.tsv -/
theorem lw_w {w : Cond} (i : Nat) (h : lw_tbl[i]? = some w) (g : goodWord w = true) : w ∈ lw_all := List.mem_filter.mpr ⟨List.mem_of_getElem? h, g⟩
theorem lw_all_tbl {w : Cond} (h : w ∈ lw_all) : w ∈ lw_tbl := (List.mem_filter.mp h).1
theorem lw_self : GoodIn lw_all lw_all := fun w h => ⟨h, good_of_word (List.mem_filter.mp h).2⟩
/-- a class's field words, by their places -/
theorem lw_in (ws : List Cond) (ps : List Nat) (hp : ws = ps.filterMap (fun i => lw_tbl[i]?)) (hg : ws.all goodWord = true) : ∀ w ∈ ws, w ∈ lw_all := by
  intro w h
  have h1 := List.all_eq_true.mp hg w h
  rw [hp] at h
  obtain ⟨i, -, hi⟩ := List.mem_filterMap.mp h
  exact lw_w i hi h1
/-- the words of a contract for the method y with code b, L locals, answer r -/
abbrev ws_ (y : MethodName) (b : ByteArray) (L : Nat) (r : Option FieldType) : List Cond := Cond.code y b L r :: lw_all
theorem lw_meth {y : MethodName} {b : ByteArray} {L : Nat} {r : Option FieldType} (h : Cond.code y b L r ∈ lw_all) : GoodIn lw_all (ws_ y b L r) := by
  intro w hw
  rcases List.mem_cons.mp hw with e | e
  · rw [e]
    exact lw_self _ h
  · exact lw_self _ e
theorem lw_app {a c : List Cond} (ha : ∀ w ∈ a, w ∈ lw_all) (hc : GoodIn lw_all c) : GoodIn lw_all (a ++ c) := by
  intro w hw
  rcases List.mem_append.mp hw with e | e
  · exact lw_self w (ha w e)
  · exact hc w e
/-- what a call through an object asks: cwV n hts (lw_V ..) -/
theorem lw_V {own : String} {idx : Nat} {C : String} {y : MethodName} {b : ByteArray} {L : Nat} {r : Option FieldType} (h1 : Cond.methodLink own idx y ∈ lw_all) (h2 : Cond.instanceMethod y ∈ lw_all) (h3 : Cond.selects C y y ∈ lw_all) (h4 : Cond.initialized C ∈ lw_all) (h5 : Cond.code y b L r ∈ lw_all) : GoodIn lw_all (wsV own idx C y (ws_ y b L r)) := by
  refine lw_app ?_ (lw_meth h5)
  intro w hw
  simp only [List.mem_cons, List.not_mem_nil, or_false] at hw
  rcases hw with e | e | e | e
  · rw [e]; exact h1
  · rw [e]; exact h2
  · rw [e]; exact h3
  · rw [e]; exact h4
/-- what a static call asks: va_cwS n hts (lw_S ..) -/
theorem lw_S {own : String} {idx : Nat} {y : MethodName} {b : ByteArray} {L : Nat} {r : Option FieldType} (h1 : Cond.methodLink own idx y ∈ lw_all) (h2 : Cond.static y ∈ lw_all) (h3 : Cond.initialized y.cls ∈ lw_all) (h4 : Cond.code y b L r ∈ lw_all) : GoodIn lw_all (va_wsS own idx y (ws_ y b L r)) := by
  refine lw_app ?_ (lw_meth h4)
  intro w hw
  simp only [List.mem_cons, List.not_mem_nil, or_false] at hw
  rcases hw with e | e | e
  · rw [e]; exact h1
  · rw [e]; exact h2
  · rw [e]; exact h3
/-- the words of a contract for a method WITH HANDLERS (hh: its table) -/
abbrev wsW_ (y : MethodName) (b : ByteArray) (L : Nat) (r : Option FieldType) (hh : List (Nat × Nat × Nat × Nat)) : List Cond := Cond.codeWith y b L r hh :: lw_all
theorem lw_methW {y : MethodName} {b : ByteArray} {L : Nat} {r : Option FieldType} {hh : List (Nat × Nat × Nat × Nat)} (h : Cond.codeWith y b L r hh ∈ lw_all) : GoodIn lw_all (wsW_ y b L r hh) := by
  intro w hw
  rcases List.mem_cons.mp hw with e | e
  · rw [e]
    exact lw_self _ h
  · exact lw_self _ e
/-- any list of words by their places (lw_in), good -/
theorem lw_good {ws : List Cond} (h : ∀ w ∈ ws, w ∈ lw_all) : GoodIn lw_all ws := fun w hw => lw_self w (h w hw)
/-- what a call of a method with handlers asks: vx_cwVW n hts (lw_VW ..), vx_cwSW n hts (lw_SW ..) -/
theorem lw_VW {own : String} {idx : Nat} {C : String} {y : MethodName} {b : ByteArray} {L : Nat} {r : Option FieldType} {hh : List (Nat × Nat × Nat × Nat)} (h1 : Cond.methodLink own idx y ∈ lw_all) (h2 : Cond.instanceMethod y ∈ lw_all) (h3 : Cond.selects C y y ∈ lw_all) (h4 : Cond.initialized C ∈ lw_all) (h5 : Cond.codeWith y b L r hh ∈ lw_all) : GoodIn lw_all (wsV own idx C y (wsW_ y b L r hh)) := by
  refine lw_app ?_ (lw_methW h5)
  intro w hw
  simp only [List.mem_cons, List.not_mem_nil, or_false] at hw
  rcases hw with e | e | e | e
  · rw [e]; exact h1
  · rw [e]; exact h2
  · rw [e]; exact h3
  · rw [e]; exact h4
theorem lw_SW {own : String} {idx : Nat} {y : MethodName} {b : ByteArray} {L : Nat} {r : Option FieldType} {hh : List (Nat × Nat × Nat × Nat)} (h1 : Cond.methodLink own idx y ∈ lw_all) (h2 : Cond.static y ∈ lw_all) (h3 : Cond.initialized y.cls ∈ lw_all) (h4 : Cond.codeWith y b L r hh ∈ lw_all) : GoodIn lw_all (va_wsS own idx y (wsW_ y b L r hh)) := by
  refine lw_app ?_ (lw_methW h4)
  intro w hw
  simp only [List.mem_cons, List.not_mem_nil, or_false] at hw
  rcases hw with e | e | e
  · rw [e]; exact h1
  · rw [e]; exact h2
  · rw [e]; exact h3
/-- a word by its place in its run of the tables -/
theorem lw_at {r : List Cond} (hr : ∀ w ∈ r, w ∈ lw_tbl) {w : Cond} (i : Nat) (h : r[i]? = some w) : w ∈ lw_tbl := hr w (List.mem_of_getElem? h)
theorem lw_g {w : Cond} (h : w ∈ lw_tbl) (g : goodWord w = true) : w ∈ lw_all := List.mem_filter.mpr ⟨h, g⟩
theorem lw_ms : ∀ w ∈ k2_sels lw_privs, w ∈ lw_tbl := fun w h => show w ∈ k2_sels lw_privs ++ tables_1 from List.mem_append_left _ h
theorem lw_m1 : ∀ w ∈ tables_1_1, w ∈ lw_tbl := fun w h => show w ∈ k2_sels lw_privs ++ tables_1 from List.mem_append_right (k2_sels lw_privs) (show w ∈ tables_1 from List.mem_append_left _ h)
theorem lw_m2 : ∀ w ∈ tables_1_2, w ∈ lw_tbl := fun w h => show w ∈ k2_sels lw_privs ++ tables_1 from List.mem_append_right (k2_sels lw_privs) (show w ∈ tables_1 from List.mem_append_right _ h)
theorem qs0 : (Cond.selects "RasterRules" ⟨"RasterRules", "isPixel", "(I)Z"⟩ ⟨"RasterRules", "isPixel", "(I)Z"⟩) ∈ lw_all := lw_g (lw_at lw_ms 0 rfl) rfl
theorem qs1 : (Cond.selects "RasterRules" ⟨"RasterRules", "clearFigure", "()V"⟩ ⟨"RasterRules", "clearFigure", "()V"⟩) ∈ lw_all := lw_g (lw_at lw_ms 1 rfl) rfl
theorem qs2 : (Cond.selects "RasterRules" ⟨"RasterRules", "distance", "(II)I"⟩ ⟨"RasterRules", "distance", "(II)I"⟩) ∈ lw_all := lw_g (lw_at lw_ms 2 rfl) rfl
theorem qs3 : (Cond.selects "RasterRules" ⟨"RasterRules", "walkLine", "(IIIIZ)V"⟩ ⟨"RasterRules", "walkLine", "(IIIIZ)V"⟩) ∈ lw_all := lw_g (lw_at lw_ms 3 rfl) rfl
theorem qs4 : (Cond.selects "RasterRules" ⟨"RasterRules", "dot", "(II)V"⟩ ⟨"RasterRules", "dot", "(II)V"⟩) ∈ lw_all := lw_g (lw_at lw_ms 4 rfl) rfl
theorem qs5 : (Cond.selects "RasterRules" ⟨"RasterRules", "ink", "()I"⟩ ⟨"RasterRules", "ink", "()I"⟩) ∈ lw_all := lw_g (lw_at lw_ms 5 rfl) rfl
theorem qs6 : (Cond.selects "RasterRules" ⟨"RasterRules", "bitsIn", "(I)I"⟩ ⟨"RasterRules", "bitsIn", "(I)I"⟩) ∈ lw_all := lw_g (lw_at lw_ms 6 rfl) rfl
theorem qs7 : (Cond.selects "RasterRules" ⟨"RasterRules", "drawBlot", "(III)V"⟩ ⟨"RasterRules", "drawBlot", "(III)V"⟩) ∈ lw_all := lw_g (lw_at lw_ms 7 rfl) rfl
theorem qs8 : (Cond.selects "RasterRules" ⟨"RasterRules", "run", "(III)V"⟩ ⟨"RasterRules", "run", "(III)V"⟩) ∈ lw_all := lw_g (lw_at lw_ms 8 rfl) rfl
theorem qs9 : (Cond.selects "RasterRules" ⟨"RasterRules", "drawRing", "(III)V"⟩ ⟨"RasterRules", "drawRing", "(III)V"⟩) ∈ lw_all := lw_g (lw_at lw_ms 9 rfl) rfl
theorem qs10 : (Cond.selects "RasterRules" ⟨"RasterRules", "eightDots", "(IIII)V"⟩ ⟨"RasterRules", "eightDots", "(IIII)V"⟩) ∈ lw_all := lw_g (lw_at lw_ms 10 rfl) rfl
theorem qs11 : (Cond.selects "RasterRules" ⟨"RasterRules", "drawCross", "(III)V"⟩ ⟨"RasterRules", "drawCross", "(III)V"⟩) ∈ lw_all := lw_g (lw_at lw_ms 11 rfl) rfl
theorem qs12 : (Cond.selects "RasterRules" ⟨"RasterRules", "drawTriangle", "(III)V"⟩ ⟨"RasterRules", "drawTriangle", "(III)V"⟩) ∈ lw_all := lw_g (lw_at lw_ms 12 rfl) rfl
theorem qs13 : (Cond.selects "RasterRules" ⟨"RasterRules", "smallest", "(III)I"⟩ ⟨"RasterRules", "smallest", "(III)I"⟩) ∈ lw_all := lw_g (lw_at lw_ms 13 rfl) rfl
theorem qs14 : (Cond.selects "RasterRules" ⟨"RasterRules", "greatest", "(III)I"⟩ ⟨"RasterRules", "greatest", "(III)I"⟩) ∈ lw_all := lw_g (lw_at lw_ms 14 rfl) rfl
theorem qs15 : (Cond.selects "RasterRules" ⟨"RasterRules", "side", "(IIII)I"⟩ ⟨"RasterRules", "side", "(IIII)I"⟩) ∈ lw_all := lw_g (lw_at lw_ms 15 rfl) rfl
theorem qs16 : (Cond.selects "RasterRules" ⟨"RasterRules", "addRun", "(III)V"⟩ ⟨"RasterRules", "addRun", "(III)V"⟩) ∈ lw_all := lw_g (lw_at lw_ms 16 rfl) rfl
theorem qs17 : (Cond.selects "RasterRulesModel" ⟨"RasterRulesModel", "isPixel", "(I)Z"⟩ ⟨"RasterRulesModel", "isPixel", "(I)Z"⟩) ∈ lw_all := lw_g (lw_at lw_ms 17 rfl) rfl
theorem qs18 : (Cond.selects "RasterRulesModel" ⟨"RasterRulesModel", "onLine", "(IIIIII)Z"⟩ ⟨"RasterRulesModel", "onLine", "(IIIIII)Z"⟩) ∈ lw_all := lw_g (lw_at lw_ms 18 rfl) rfl
theorem qs19 : (Cond.selects "RasterRulesModel" ⟨"RasterRulesModel", "size", "(I)I"⟩ ⟨"RasterRulesModel", "size", "(I)I"⟩) ∈ lw_all := lw_g (lw_at lw_ms 19 rfl) rfl
theorem qs20 : (Cond.selects "RasterRulesModel" ⟨"RasterRulesModel", "nearest", "(IIIIII)Z"⟩ ⟨"RasterRulesModel", "nearest", "(IIIIII)Z"⟩) ∈ lw_all := lw_g (lw_at lw_ms 20 rfl) rfl
theorem qs21 : (Cond.selects "RasterRulesModel" ⟨"RasterRulesModel", "ink", "()I"⟩ ⟨"RasterRulesModel", "ink", "()I"⟩) ∈ lw_all := lw_g (lw_at lw_ms 21 rfl) rfl
theorem qs22 : (Cond.selects "RasterRulesModel" ⟨"RasterRulesModel", "isRound", "(II)Z"⟩ ⟨"RasterRulesModel", "isRound", "(II)Z"⟩) ∈ lw_all := lw_g (lw_at lw_ms 22 rfl) rfl
theorem qs23 : (Cond.selects "RasterRulesModel" ⟨"RasterRulesModel", "onArc", "(III)Z"⟩ ⟨"RasterRulesModel", "onArc", "(III)Z"⟩) ∈ lw_all := lw_g (lw_at lw_ms 23 rfl) rfl
theorem qs24 : (Cond.selects "RasterRulesModel" ⟨"RasterRulesModel", "inTriangle", "(IIIII)Z"⟩ ⟨"RasterRulesModel", "inTriangle", "(IIIII)Z"⟩) ∈ lw_all := lw_g (lw_at lw_ms 24 rfl) rfl
theorem qs25 : (Cond.selects "RasterRulesModel" ⟨"RasterRulesModel", "side", "(IIII)I"⟩ ⟨"RasterRulesModel", "side", "(IIII)I"⟩) ∈ lw_all := lw_g (lw_at lw_ms 25 rfl) rfl
theorem qs26 : (Cond.selects "RasterRulesModel" ⟨"RasterRulesModel", "between", "(IIII)Z"⟩ ⟨"RasterRulesModel", "between", "(IIII)Z"⟩) ∈ lw_all := lw_g (lw_at lw_ms 26 rfl) rfl
theorem qs27 : (Cond.selects "RasterRulesModel" ⟨"RasterRulesModel", "besideFigure", "(I)Z"⟩ ⟨"RasterRulesModel", "besideFigure", "(I)Z"⟩) ∈ lw_all := lw_g (lw_at lw_ms 27 rfl) rfl
/-- an instruction at its place: its length, and the place behind it -/
def dk (cc : ByteArray) (pc : Nat) (i : Instr) (n q : Nat) : Prop := decode cc pc = .ok (i, n) ∧ pc + n = q
/-- a branch at its place: the place behind it, and its target -/
def db (cc : ByteArray) (pc : Nat) (i : Int → Instr) (q t : Nat) : Prop := ∃ off : Int, decode cc pc = .ok (i off, 3) ∧ pc + 3 = q ∧ (pc : Int) + off = (t : Int)
end
section
set_option maxRecDepth 100000
def RX0 : String := "RasterRules"
def TX0 : u_T := fun k => match k with
  | 0 => ("RasterRules", "penMode", "I", false)
  | 1 => ("RasterRules", "rows", "[I", true)
  | 2 => ("RasterRules", "figure", "[I", true)
  | 3 => ("RasterRules", "waiting", "I", false)
  | 4 => ("RasterRules", "runRow", "[B", true)
  | 5 => ("RasterRules", "runFirst", "[B", true)
  | _ => ("RasterRules", "runLast", "[B", true)
def tyX0 : Nat → FieldType := fun k => match k with
  | 0 => .int
  | 1 => .array .int
  | 2 => .array .int
  | 3 => .int
  | 4 => .array .byte
  | 5 => .array .byte
  | _ => .array .byte
abbrev wsX00 : List Cond := u_ws RX0 TX0 7
theorem nmX0 : ∀ a, a < 7 → ∀ b, b < 7 → a ≠ b → (TX0 a).2.1 ≠ (TX0 b).2.1 := by decide +kernel
theorem tyX0_ok : ∀ k, k < 7 → parseFieldDescriptor (TX0 k).2.2.1 = some (tyX0 k) := by decide +kernel
abbrev cX0_init : ByteArray := prog_1_method_1_code
def yX0_init : MethodName := ⟨RX0, "<init>", "()V"⟩
abbrev cX0_pen : ByteArray := prog_1_method_2_code
def yX0_pen : MethodName := ⟨RX0, "pen", "(I)Z"⟩
abbrev cX0_line : ByteArray := prog_1_method_3_code
def yX0_line : MethodName := ⟨RX0, "line", "(II)I"⟩
abbrev cX0_isPixel : ByteArray := prog_1_method_13_code
def yX0_isPixel : MethodName := ⟨RX0, "isPixel", "(I)Z"⟩
abbrev cX0_clearFigure : ByteArray := prog_1_method_16_code
def yX0_clearFigure : MethodName := ⟨RX0, "clearFigure", "()V"⟩
abbrev cX0_distance : ByteArray := prog_1_method_14_code
def yX0_distance : MethodName := ⟨RX0, "distance", "(II)I"⟩
abbrev cX0_walkLine : ByteArray := prog_1_method_20_code
def yX0_walkLine : MethodName := ⟨RX0, "walkLine", "(IIIIZ)V"⟩
abbrev cX0_dot : ByteArray := prog_1_method_17_code
def yX0_dot : MethodName := ⟨RX0, "dot", "(II)V"⟩
abbrev cX0_ink : ByteArray := prog_1_method_19_code
def yX0_ink : MethodName := ⟨RX0, "ink", "()I"⟩
abbrev cX0_bitsIn : ByteArray := prog_1_method_15_code
def yX0_bitsIn : MethodName := ⟨RX0, "bitsIn", "(I)I"⟩
abbrev cX0_disc : ByteArray := prog_1_method_4_code
def yX0_disc : MethodName := ⟨RX0, "disc", "(II)I"⟩
abbrev cX0_drawBlot : ByteArray := prog_1_method_23_code
def yX0_drawBlot : MethodName := ⟨RX0, "drawBlot", "(III)V"⟩
abbrev cX0_run : ByteArray := prog_1_method_18_code
def yX0_run : MethodName := ⟨RX0, "run", "(III)V"⟩
abbrev cX0_ring : ByteArray := prog_1_method_5_code
def yX0_ring : MethodName := ⟨RX0, "ring", "(II)I"⟩
abbrev cX0_drawRing : ByteArray := prog_1_method_21_code
def yX0_drawRing : MethodName := ⟨RX0, "drawRing", "(III)V"⟩
abbrev cX0_eightDots : ByteArray := prog_1_method_22_code
def yX0_eightDots : MethodName := ⟨RX0, "eightDots", "(IIII)V"⟩
abbrev cX0_blot : ByteArray := prog_1_method_6_code
def yX0_blot : MethodName := ⟨RX0, "blot", "(III)I"⟩
abbrev cX0_drawCross : ByteArray := prog_1_method_24_code
def yX0_drawCross : MethodName := ⟨RX0, "drawCross", "(III)V"⟩
abbrev cX0_triangle : ByteArray := prog_1_method_7_code
def yX0_triangle : MethodName := ⟨RX0, "triangle", "(III)I"⟩
abbrev cX0_drawTriangle : ByteArray := prog_1_method_26_code
def yX0_drawTriangle : MethodName := ⟨RX0, "drawTriangle", "(III)V"⟩
abbrev cX0_smallest : ByteArray := prog_1_method_27_code
def yX0_smallest : MethodName := ⟨RX0, "smallest", "(III)I"⟩
abbrev cX0_greatest : ByteArray := prog_1_method_28_code
def yX0_greatest : MethodName := ⟨RX0, "greatest", "(III)I"⟩
abbrev cX0_side : ByteArray := prog_1_method_25_code
def yX0_side : MethodName := ⟨RX0, "side", "(IIII)I"⟩
abbrev cX0_flood : ByteArray := prog_1_method_8_code
def yX0_flood : MethodName := ⟨RX0, "flood", "(I)I"⟩
abbrev cX0_get : ByteArray := prog_1_method_9_code
def yX0_get : MethodName := ⟨RX0, "get", "(I)I"⟩
abbrev cX0_addRun : ByteArray := prog_1_method_29_code
def yX0_addRun : MethodName := ⟨RX0, "addRun", "(III)V"⟩
abbrev cX0_count : ByteArray := prog_1_method_10_code
def yX0_count : MethodName := ⟨RX0, "count", "()I"⟩
abbrev cX0_row : ByteArray := prog_1_method_11_code
def yX0_row : MethodName := ⟨RX0, "row", "(I)I"⟩
abbrev cX0_move : ByteArray := prog_1_method_12_code
def yX0_move : MethodName := ⟨RX0, "move", "(II)I"⟩
def RX1 : String := "RasterRulesModel"
def TX1 : u_T := fun k => match k with
  | 0 => ("RasterRulesModel", "set", "[Z", false)
  | 1 => ("RasterRulesModel", "figure", "[Z", false)
  | _ => ("RasterRulesModel", "pen", "I", false)
def tyX1 : Nat → FieldType := fun k => match k with
  | 0 => .array .boolean
  | 1 => .array .boolean
  | _ => .int
abbrev wsX10 : List Cond := u_ws RX1 TX1 3
theorem nmX1 : ∀ a, a < 3 → ∀ b, b < 3 → a ≠ b → (TX1 a).2.1 ≠ (TX1 b).2.1 := by decide +kernel
theorem tyX1_ok : ∀ k, k < 3 → parseFieldDescriptor (TX1 k).2.2.1 = some (tyX1 k) := by decide +kernel
abbrev cX1_init : ByteArray := prog_3_method_1_code
def yX1_init : MethodName := ⟨RX1, "<init>", "()V"⟩
abbrev cX1_pen : ByteArray := prog_3_method_4_code
def yX1_pen : MethodName := ⟨RX1, "pen", "(I)Z"⟩
abbrev cX1_line : ByteArray := prog_3_method_8_code
def yX1_line : MethodName := ⟨RX1, "line", "(II)I"⟩
abbrev cX1_isPixel : ByteArray := prog_3_method_2_code
def yX1_isPixel : MethodName := ⟨RX1, "isPixel", "(I)Z"⟩
abbrev cX1_onLine : ByteArray := prog_3_method_7_code
def yX1_onLine : MethodName := ⟨RX1, "onLine", "(IIIIII)Z"⟩
abbrev cX1_size : ByteArray := prog_3_method_3_code
def yX1_size : MethodName := ⟨RX1, "size", "(I)I"⟩
abbrev cX1_nearest : ByteArray := prog_3_method_6_code
def yX1_nearest : MethodName := ⟨RX1, "nearest", "(IIIIII)Z"⟩
abbrev cX1_ink : ByteArray := prog_3_method_5_code
def yX1_ink : MethodName := ⟨RX1, "ink", "()I"⟩
abbrev cX1_disc : ByteArray := prog_3_method_10_code
def yX1_disc : MethodName := ⟨RX1, "disc", "(II)I"⟩
abbrev cX1_isRound : ByteArray := prog_3_method_9_code
def yX1_isRound : MethodName := ⟨RX1, "isRound", "(II)Z"⟩
abbrev cX1_ring : ByteArray := prog_3_method_12_code
def yX1_ring : MethodName := ⟨RX1, "ring", "(II)I"⟩
abbrev cX1_onArc : ByteArray := prog_3_method_11_code
def yX1_onArc : MethodName := ⟨RX1, "onArc", "(III)Z"⟩
abbrev cX1_blot : ByteArray := prog_3_method_13_code
def yX1_blot : MethodName := ⟨RX1, "blot", "(III)I"⟩
abbrev cX1_triangle : ByteArray := prog_3_method_17_code
def yX1_triangle : MethodName := ⟨RX1, "triangle", "(III)I"⟩
abbrev cX1_inTriangle : ByteArray := prog_3_method_16_code
def yX1_inTriangle : MethodName := ⟨RX1, "inTriangle", "(IIIII)Z"⟩
abbrev cX1_side : ByteArray := prog_3_method_14_code
def yX1_side : MethodName := ⟨RX1, "side", "(IIII)I"⟩
abbrev cX1_between : ByteArray := prog_3_method_15_code
def yX1_between : MethodName := ⟨RX1, "between", "(IIII)Z"⟩
abbrev cX1_flood : ByteArray := prog_3_method_19_code
def yX1_flood : MethodName := ⟨RX1, "flood", "(I)I"⟩
abbrev cX1_besideFigure : ByteArray := prog_3_method_18_code
def yX1_besideFigure : MethodName := ⟨RX1, "besideFigure", "(I)Z"⟩
abbrev cX1_get : ByteArray := prog_3_method_20_code
def yX1_get : MethodName := ⟨RX1, "get", "(I)I"⟩
abbrev cX1_count : ByteArray := prog_3_method_21_code
def yX1_count : MethodName := ⟨RX1, "count", "()I"⟩
abbrev cX1_row : ByteArray := prog_3_method_22_code
def yX1_row : MethodName := ⟨RX1, "row", "(I)I"⟩
abbrev cX1_move : ByteArray := prog_3_method_23_code
def yX1_move : MethodName := ⟨RX1, "move", "(II)I"⟩
def RJ0 : String := "java/lang/Object"
abbrev cJ0_init : ByteArray := object_method_1_code
def yJ0_init : MethodName := ⟨RJ0, "<init>", "()V"⟩
abbrev cL_law : ByteArray := code
theorem q29 : (Jvm.Cond.initialized "RasterRules") ∈ lw_all := lw_g (lw_at lw_m1 1 rfl) rfl
theorem q32 : (Jvm.Cond.instantiable "RasterRules" (7 : Nat)) ∈ lw_all := lw_g (lw_at lw_m1 4 rfl) rfl
theorem q34 : (Jvm.Cond.instanceMethod ({ cls := "RasterRules", name := "<init>", desc := "()V" } : Jvm.MethodName)) ∈ lw_all := lw_g (lw_at lw_m1 6 rfl) rfl
theorem q35 : (Jvm.Cond.code ({ cls := "RasterRules", name := "<init>", desc := "()V" } : Jvm.MethodName) prog_1_method_1_code (1 : Nat) (Option.none : Option Jvm.ClassFile.FieldType)) ∈ lw_all := lw_g (lw_at lw_m1 7 rfl) rfl
theorem q36 : (Jvm.Cond.methodLink "RasterRules" (1 : Nat) ({ cls := "java/lang/Object", name := "<init>", desc := "()V" } : Jvm.MethodName)) ∈ lw_all := lw_g (lw_at lw_m1 8 rfl) rfl
theorem q39 : (Jvm.Cond.fieldLink "RasterRules" (26 : Nat) "RasterRules" "penMode" "I") ∈ lw_all := lw_g (lw_at lw_m1 11 rfl) rfl
theorem q40 : (Jvm.Cond.fieldLink "RasterRules" (7 : Nat) "RasterRules" "rows" "[I") ∈ lw_all := lw_g (lw_at lw_m1 12 rfl) rfl
theorem q41 : (Jvm.Cond.fieldLink "RasterRules" (13 : Nat) "RasterRules" "figure" "[I") ∈ lw_all := lw_g (lw_at lw_m1 13 rfl) rfl
theorem q42 : (Jvm.Cond.fieldLink "RasterRules" (66 : Nat) "RasterRules" "waiting" "I") ∈ lw_all := lw_g (lw_at lw_m1 14 rfl) rfl
theorem q43 : (Jvm.Cond.fieldLink "RasterRules" (16 : Nat) "RasterRules" "runRow" "[B") ∈ lw_all := lw_g (lw_at lw_m1 15 rfl) rfl
theorem q44 : (Jvm.Cond.fieldLink "RasterRules" (20 : Nat) "RasterRules" "runFirst" "[B") ∈ lw_all := lw_g (lw_at lw_m1 16 rfl) rfl
theorem q45 : (Jvm.Cond.fieldLink "RasterRules" (23 : Nat) "RasterRules" "runLast" "[B") ∈ lw_all := lw_g (lw_at lw_m1 17 rfl) rfl
theorem q46 : (Jvm.Cond.lays "RasterRules" "RasterRules" "penMode" "I") ∈ lw_all := lw_g (lw_at lw_m1 18 rfl) rfl
theorem q47 : (Jvm.Cond.soleField "RasterRules" "penMode") ∈ lw_all := lw_g (lw_at lw_m1 19 rfl) rfl
theorem q48 : (Jvm.Cond.laysFinal "RasterRules" "RasterRules" "rows" "[I") ∈ lw_all := lw_g (lw_at lw_m1 20 rfl) rfl
theorem q49 : (Jvm.Cond.soleField "RasterRules" "rows") ∈ lw_all := lw_g (lw_at lw_m1 21 rfl) rfl
theorem q50 : (Jvm.Cond.laysFinal "RasterRules" "RasterRules" "figure" "[I") ∈ lw_all := lw_g (lw_at lw_m1 22 rfl) rfl
theorem q51 : (Jvm.Cond.soleField "RasterRules" "figure") ∈ lw_all := lw_g (lw_at lw_m1 23 rfl) rfl
theorem q52 : (Jvm.Cond.lays "RasterRules" "RasterRules" "waiting" "I") ∈ lw_all := lw_g (lw_at lw_m1 24 rfl) rfl
theorem q53 : (Jvm.Cond.soleField "RasterRules" "waiting") ∈ lw_all := lw_g (lw_at lw_m1 25 rfl) rfl
theorem q54 : (Jvm.Cond.laysFinal "RasterRules" "RasterRules" "runRow" "[B") ∈ lw_all := lw_g (lw_at lw_m1 26 rfl) rfl
theorem q55 : (Jvm.Cond.soleField "RasterRules" "runRow") ∈ lw_all := lw_g (lw_at lw_m1 27 rfl) rfl
theorem q56 : (Jvm.Cond.laysFinal "RasterRules" "RasterRules" "runFirst" "[B") ∈ lw_all := lw_g (lw_at lw_m1 28 rfl) rfl
theorem q57 : (Jvm.Cond.soleField "RasterRules" "runFirst") ∈ lw_all := lw_g (lw_at lw_m1 29 rfl) rfl
theorem q58 : (Jvm.Cond.laysFinal "RasterRules" "RasterRules" "runLast" "[B") ∈ lw_all := lw_g (lw_at lw_m1 30 rfl) rfl
theorem q59 : (Jvm.Cond.soleField "RasterRules" "runLast") ∈ lw_all := lw_g (lw_at lw_m1 31 rfl) rfl
theorem q60 : (Jvm.Cond.superclass "RasterRules" "java/lang/Object") ∈ lw_all := lw_g (lw_at lw_m1 32 rfl) rfl
theorem q64 : (Jvm.Cond.instanceMethod ({ cls := "RasterRules", name := "pen", desc := "(I)Z" } : Jvm.MethodName)) ∈ lw_all := lw_g (lw_at lw_m1 36 rfl) rfl
theorem q65 : (Jvm.Cond.selects "RasterRules" ({ cls := "RasterRules", name := "pen", desc := "(I)Z" } : Jvm.MethodName) ({ cls := "RasterRules", name := "pen", desc := "(I)Z" } : Jvm.MethodName)) ∈ lw_all := lw_g (lw_at lw_m1 37 rfl) rfl
theorem q66 : (Jvm.Cond.code ({ cls := "RasterRules", name := "pen", desc := "(I)Z" } : Jvm.MethodName) prog_1_method_2_code (2 : Nat) (Option.some Jvm.ClassFile.FieldType.boolean)) ∈ lw_all := lw_g (lw_at lw_m1 38 rfl) rfl
theorem q68 : (Jvm.Cond.instanceMethod ({ cls := "RasterRules", name := "line", desc := "(II)I" } : Jvm.MethodName)) ∈ lw_all := lw_g (lw_at lw_m1 40 rfl) rfl
theorem q69 : (Jvm.Cond.selects "RasterRules" ({ cls := "RasterRules", name := "line", desc := "(II)I" } : Jvm.MethodName) ({ cls := "RasterRules", name := "line", desc := "(II)I" } : Jvm.MethodName)) ∈ lw_all := lw_g (lw_at lw_m1 41 rfl) rfl
theorem q70 : (Jvm.Cond.code ({ cls := "RasterRules", name := "line", desc := "(II)I" } : Jvm.MethodName) prog_1_method_3_code (5 : Nat) (Option.some Jvm.ClassFile.FieldType.int)) ∈ lw_all := lw_g (lw_at lw_m1 42 rfl) rfl
theorem q71 : (Jvm.Cond.methodLink "RasterRules" (30 : Nat) ({ cls := "RasterRules", name := "isPixel", desc := "(I)Z" } : Jvm.MethodName)) ∈ lw_all := lw_g (lw_at lw_m1 43 rfl) rfl
theorem q72 : (Jvm.Cond.privateMethod ({ cls := "RasterRules", name := "isPixel", desc := "(I)Z" } : Jvm.MethodName)) ∈ lw_tbl := lw_at lw_m1 44 rfl
theorem q73 : (Jvm.Cond.instanceMethod ({ cls := "RasterRules", name := "isPixel", desc := "(I)Z" } : Jvm.MethodName)) ∈ lw_all := lw_g (lw_at lw_m1 45 rfl) rfl
theorem q74 : (Jvm.Cond.code ({ cls := "RasterRules", name := "isPixel", desc := "(I)Z" } : Jvm.MethodName) prog_1_method_13_code (2 : Nat) (Option.some Jvm.ClassFile.FieldType.boolean)) ∈ lw_all := lw_g (lw_at lw_m1 46 rfl) rfl
theorem q75 : (Jvm.Cond.methodLink "RasterRules" (34 : Nat) ({ cls := "RasterRules", name := "clearFigure", desc := "()V" } : Jvm.MethodName)) ∈ lw_all := lw_g (lw_at lw_m1 47 rfl) rfl
theorem q76 : (Jvm.Cond.privateMethod ({ cls := "RasterRules", name := "clearFigure", desc := "()V" } : Jvm.MethodName)) ∈ lw_tbl := lw_at lw_m1 48 rfl
theorem q77 : (Jvm.Cond.instanceMethod ({ cls := "RasterRules", name := "clearFigure", desc := "()V" } : Jvm.MethodName)) ∈ lw_all := lw_g (lw_at lw_m1 49 rfl) rfl
theorem q78 : (Jvm.Cond.code ({ cls := "RasterRules", name := "clearFigure", desc := "()V" } : Jvm.MethodName) prog_1_method_16_code (2 : Nat) (Option.none : Option Jvm.ClassFile.FieldType)) ∈ lw_all := lw_g (lw_at lw_m1 50 rfl) rfl
theorem q79 : (Jvm.Cond.methodLink "RasterRules" (37 : Nat) ({ cls := "RasterRules", name := "distance", desc := "(II)I" } : Jvm.MethodName)) ∈ lw_all := lw_g (lw_at lw_m1 51 rfl) rfl
theorem q80 : (Jvm.Cond.privateMethod ({ cls := "RasterRules", name := "distance", desc := "(II)I" } : Jvm.MethodName)) ∈ lw_tbl := lw_at lw_m1 52 rfl
theorem q81 : (Jvm.Cond.instanceMethod ({ cls := "RasterRules", name := "distance", desc := "(II)I" } : Jvm.MethodName)) ∈ lw_all := lw_g (lw_at lw_m1 53 rfl) rfl
theorem q82 : (Jvm.Cond.code ({ cls := "RasterRules", name := "distance", desc := "(II)I" } : Jvm.MethodName) prog_1_method_14_code (3 : Nat) (Option.some Jvm.ClassFile.FieldType.int)) ∈ lw_all := lw_g (lw_at lw_m1 54 rfl) rfl
theorem q83 : (Jvm.Cond.methodLink "RasterRules" (41 : Nat) ({ cls := "RasterRules", name := "walkLine", desc := "(IIIIZ)V" } : Jvm.MethodName)) ∈ lw_all := lw_g (lw_at lw_m1 55 rfl) rfl
theorem q84 : (Jvm.Cond.privateMethod ({ cls := "RasterRules", name := "walkLine", desc := "(IIIIZ)V" } : Jvm.MethodName)) ∈ lw_tbl := lw_at lw_m1 56 rfl
theorem q85 : (Jvm.Cond.instanceMethod ({ cls := "RasterRules", name := "walkLine", desc := "(IIIIZ)V" } : Jvm.MethodName)) ∈ lw_all := lw_g (lw_at lw_m1 57 rfl) rfl
theorem q86 : (Jvm.Cond.code ({ cls := "RasterRules", name := "walkLine", desc := "(IIIIZ)V" } : Jvm.MethodName) prog_1_method_20_code (13 : Nat) (Option.none : Option Jvm.ClassFile.FieldType)) ∈ lw_all := lw_g (lw_at lw_m1 58 rfl) rfl
theorem q87 : (Jvm.Cond.methodLink "RasterRules" (79 : Nat) ({ cls := "RasterRules", name := "dot", desc := "(II)V" } : Jvm.MethodName)) ∈ lw_all := lw_g (lw_at lw_m1 59 rfl) rfl
theorem q88 : (Jvm.Cond.privateMethod ({ cls := "RasterRules", name := "dot", desc := "(II)V" } : Jvm.MethodName)) ∈ lw_tbl := lw_at lw_m1 60 rfl
theorem q89 : (Jvm.Cond.instanceMethod ({ cls := "RasterRules", name := "dot", desc := "(II)V" } : Jvm.MethodName)) ∈ lw_all := lw_g (lw_at lw_m1 61 rfl) rfl
theorem q90 : (Jvm.Cond.code ({ cls := "RasterRules", name := "dot", desc := "(II)V" } : Jvm.MethodName) prog_1_method_17_code (3 : Nat) (Option.none : Option Jvm.ClassFile.FieldType)) ∈ lw_all := lw_g (lw_at lw_m1 62 rfl) rfl
theorem q91 : (Jvm.Cond.methodLink "RasterRules" (45 : Nat) ({ cls := "RasterRules", name := "ink", desc := "()I" } : Jvm.MethodName)) ∈ lw_all := lw_g (lw_at lw_m1 63 rfl) rfl
theorem q92 : (Jvm.Cond.privateMethod ({ cls := "RasterRules", name := "ink", desc := "()I" } : Jvm.MethodName)) ∈ lw_tbl := lw_at lw_m1 64 rfl
theorem q93 : (Jvm.Cond.instanceMethod ({ cls := "RasterRules", name := "ink", desc := "()I" } : Jvm.MethodName)) ∈ lw_all := lw_g (lw_at lw_m1 65 rfl) rfl
theorem q94 : (Jvm.Cond.code ({ cls := "RasterRules", name := "ink", desc := "()I" } : Jvm.MethodName) prog_1_method_19_code (4 : Nat) (Option.some Jvm.ClassFile.FieldType.int)) ∈ lw_all := lw_g (lw_at lw_m1 66 rfl) rfl
theorem q95 : (Jvm.Cond.methodLink "RasterRules" (72 : Nat) ({ cls := "RasterRules", name := "bitsIn", desc := "(I)I" } : Jvm.MethodName)) ∈ lw_all := lw_g (lw_at lw_m1 67 rfl) rfl
theorem q96 : (Jvm.Cond.privateMethod ({ cls := "RasterRules", name := "bitsIn", desc := "(I)I" } : Jvm.MethodName)) ∈ lw_tbl := lw_at lw_m1 68 rfl
theorem q97 : (Jvm.Cond.instanceMethod ({ cls := "RasterRules", name := "bitsIn", desc := "(I)I" } : Jvm.MethodName)) ∈ lw_all := lw_g (lw_at lw_m1 69 rfl) rfl
theorem q98 : (Jvm.Cond.code ({ cls := "RasterRules", name := "bitsIn", desc := "(I)I" } : Jvm.MethodName) prog_1_method_15_code (4 : Nat) (Option.some Jvm.ClassFile.FieldType.int)) ∈ lw_all := lw_g (lw_at lw_m1 70 rfl) rfl
theorem q100 : (Jvm.Cond.instanceMethod ({ cls := "RasterRules", name := "disc", desc := "(II)I" } : Jvm.MethodName)) ∈ lw_all := lw_g (lw_at lw_m1 72 rfl) rfl
theorem q101 : (Jvm.Cond.selects "RasterRules" ({ cls := "RasterRules", name := "disc", desc := "(II)I" } : Jvm.MethodName) ({ cls := "RasterRules", name := "disc", desc := "(II)I" } : Jvm.MethodName)) ∈ lw_all := lw_g (lw_at lw_m1 73 rfl) rfl
theorem q102 : (Jvm.Cond.code ({ cls := "RasterRules", name := "disc", desc := "(II)I" } : Jvm.MethodName) prog_1_method_4_code (3 : Nat) (Option.some Jvm.ClassFile.FieldType.int)) ∈ lw_all := lw_g (lw_at lw_m1 74 rfl) rfl
theorem q103 : (Jvm.Cond.methodLink "RasterRules" (49 : Nat) ({ cls := "RasterRules", name := "drawBlot", desc := "(III)V" } : Jvm.MethodName)) ∈ lw_all := lw_g (lw_at lw_m1 75 rfl) rfl
theorem q104 : (Jvm.Cond.privateMethod ({ cls := "RasterRules", name := "drawBlot", desc := "(III)V" } : Jvm.MethodName)) ∈ lw_tbl := lw_at lw_m1 76 rfl
theorem q105 : (Jvm.Cond.instanceMethod ({ cls := "RasterRules", name := "drawBlot", desc := "(III)V" } : Jvm.MethodName)) ∈ lw_all := lw_g (lw_at lw_m1 77 rfl) rfl
theorem q106 : (Jvm.Cond.code ({ cls := "RasterRules", name := "drawBlot", desc := "(III)V" } : Jvm.MethodName) prog_1_method_23_code (8 : Nat) (Option.none : Option Jvm.ClassFile.FieldType)) ∈ lw_all := lw_g (lw_at lw_m1 78 rfl) rfl
theorem q107 : (Jvm.Cond.methodLink "RasterRules" (87 : Nat) ({ cls := "RasterRules", name := "run", desc := "(III)V" } : Jvm.MethodName)) ∈ lw_all := lw_g (lw_at lw_m1 79 rfl) rfl
theorem q108 : (Jvm.Cond.privateMethod ({ cls := "RasterRules", name := "run", desc := "(III)V" } : Jvm.MethodName)) ∈ lw_tbl := lw_at lw_m1 80 rfl
theorem q109 : (Jvm.Cond.instanceMethod ({ cls := "RasterRules", name := "run", desc := "(III)V" } : Jvm.MethodName)) ∈ lw_all := lw_g (lw_at lw_m1 81 rfl) rfl
theorem q110 : (Jvm.Cond.code ({ cls := "RasterRules", name := "run", desc := "(III)V" } : Jvm.MethodName) prog_1_method_18_code (6 : Nat) (Option.none : Option Jvm.ClassFile.FieldType)) ∈ lw_all := lw_g (lw_at lw_m1 82 rfl) rfl
theorem q112 : (Jvm.Cond.instanceMethod ({ cls := "RasterRules", name := "ring", desc := "(II)I" } : Jvm.MethodName)) ∈ lw_all := lw_g (lw_at lw_m1 84 rfl) rfl
theorem q113 : (Jvm.Cond.selects "RasterRules" ({ cls := "RasterRules", name := "ring", desc := "(II)I" } : Jvm.MethodName) ({ cls := "RasterRules", name := "ring", desc := "(II)I" } : Jvm.MethodName)) ∈ lw_all := lw_g (lw_at lw_m1 85 rfl) rfl
theorem q114 : (Jvm.Cond.code ({ cls := "RasterRules", name := "ring", desc := "(II)I" } : Jvm.MethodName) prog_1_method_5_code (3 : Nat) (Option.some Jvm.ClassFile.FieldType.int)) ∈ lw_all := lw_g (lw_at lw_m1 86 rfl) rfl
theorem q115 : (Jvm.Cond.methodLink "RasterRules" (53 : Nat) ({ cls := "RasterRules", name := "drawRing", desc := "(III)V" } : Jvm.MethodName)) ∈ lw_all := lw_g (lw_at lw_m1 87 rfl) rfl
theorem q116 : (Jvm.Cond.privateMethod ({ cls := "RasterRules", name := "drawRing", desc := "(III)V" } : Jvm.MethodName)) ∈ lw_tbl := lw_at lw_m1 88 rfl
theorem q117 : (Jvm.Cond.instanceMethod ({ cls := "RasterRules", name := "drawRing", desc := "(III)V" } : Jvm.MethodName)) ∈ lw_all := lw_g (lw_at lw_m1 89 rfl) rfl
theorem q118 : (Jvm.Cond.code ({ cls := "RasterRules", name := "drawRing", desc := "(III)V" } : Jvm.MethodName) prog_1_method_21_code (6 : Nat) (Option.none : Option Jvm.ClassFile.FieldType)) ∈ lw_all := lw_g (lw_at lw_m1 90 rfl) rfl
theorem q119 : (Jvm.Cond.methodLink "RasterRules" (83 : Nat) ({ cls := "RasterRules", name := "eightDots", desc := "(IIII)V" } : Jvm.MethodName)) ∈ lw_all := lw_g (lw_at lw_m1 91 rfl) rfl
theorem q120 : (Jvm.Cond.privateMethod ({ cls := "RasterRules", name := "eightDots", desc := "(IIII)V" } : Jvm.MethodName)) ∈ lw_tbl := lw_at lw_m1 92 rfl
theorem q121 : (Jvm.Cond.instanceMethod ({ cls := "RasterRules", name := "eightDots", desc := "(IIII)V" } : Jvm.MethodName)) ∈ lw_all := lw_g (lw_at lw_m1 93 rfl) rfl
theorem q122 : (Jvm.Cond.code ({ cls := "RasterRules", name := "eightDots", desc := "(IIII)V" } : Jvm.MethodName) prog_1_method_22_code (6 : Nat) (Option.none : Option Jvm.ClassFile.FieldType)) ∈ lw_all := lw_g (lw_at lw_m1 94 rfl) rfl
theorem q124 : (Jvm.Cond.instanceMethod ({ cls := "RasterRules", name := "blot", desc := "(III)I" } : Jvm.MethodName)) ∈ lw_all := lw_g (lw_at lw_m1 96 rfl) rfl
theorem q125 : (Jvm.Cond.selects "RasterRules" ({ cls := "RasterRules", name := "blot", desc := "(III)I" } : Jvm.MethodName) ({ cls := "RasterRules", name := "blot", desc := "(III)I" } : Jvm.MethodName)) ∈ lw_all := lw_g (lw_at lw_m1 97 rfl) rfl
theorem q126 : (Jvm.Cond.code ({ cls := "RasterRules", name := "blot", desc := "(III)I" } : Jvm.MethodName) prog_1_method_6_code (4 : Nat) (Option.some Jvm.ClassFile.FieldType.int)) ∈ lw_all := lw_g (lw_at lw_m1 98 rfl) rfl
theorem q127 : (Jvm.Cond.methodLink "RasterRules" (56 : Nat) ({ cls := "RasterRules", name := "drawCross", desc := "(III)V" } : Jvm.MethodName)) ∈ lw_all := lw_g (lw_at lw_m1 99 rfl) rfl
theorem q128 : (Jvm.Cond.privateMethod ({ cls := "RasterRules", name := "drawCross", desc := "(III)V" } : Jvm.MethodName)) ∈ lw_tbl := lw_at lw_m1 100 rfl
theorem q129 : (Jvm.Cond.instanceMethod ({ cls := "RasterRules", name := "drawCross", desc := "(III)V" } : Jvm.MethodName)) ∈ lw_all := lw_g (lw_at lw_m1 101 rfl) rfl
theorem q130 : (Jvm.Cond.code ({ cls := "RasterRules", name := "drawCross", desc := "(III)V" } : Jvm.MethodName) prog_1_method_24_code (7 : Nat) (Option.none : Option Jvm.ClassFile.FieldType)) ∈ lw_all := lw_g (lw_at lw_m1 102 rfl) rfl
theorem q132 : (Jvm.Cond.instanceMethod ({ cls := "RasterRules", name := "triangle", desc := "(III)I" } : Jvm.MethodName)) ∈ lw_all := lw_g (lw_at lw_m1 104 rfl) rfl
theorem q133 : (Jvm.Cond.selects "RasterRules" ({ cls := "RasterRules", name := "triangle", desc := "(III)I" } : Jvm.MethodName) ({ cls := "RasterRules", name := "triangle", desc := "(III)I" } : Jvm.MethodName)) ∈ lw_all := lw_g (lw_at lw_m1 105 rfl) rfl
theorem q134 : (Jvm.Cond.code ({ cls := "RasterRules", name := "triangle", desc := "(III)I" } : Jvm.MethodName) prog_1_method_7_code (4 : Nat) (Option.some Jvm.ClassFile.FieldType.int)) ∈ lw_all := lw_g (lw_at lw_m1 106 rfl) rfl
theorem q135 : (Jvm.Cond.methodLink "RasterRules" (59 : Nat) ({ cls := "RasterRules", name := "drawTriangle", desc := "(III)V" } : Jvm.MethodName)) ∈ lw_all := lw_g (lw_at lw_m1 107 rfl) rfl
theorem q136 : (Jvm.Cond.privateMethod ({ cls := "RasterRules", name := "drawTriangle", desc := "(III)V" } : Jvm.MethodName)) ∈ lw_tbl := lw_at lw_m1 108 rfl
theorem q137 : (Jvm.Cond.instanceMethod ({ cls := "RasterRules", name := "drawTriangle", desc := "(III)V" } : Jvm.MethodName)) ∈ lw_all := lw_g (lw_at lw_m1 109 rfl) rfl
theorem q138 : (Jvm.Cond.code ({ cls := "RasterRules", name := "drawTriangle", desc := "(III)V" } : Jvm.MethodName) prog_1_method_26_code (15 : Nat) (Option.none : Option Jvm.ClassFile.FieldType)) ∈ lw_all := lw_g (lw_at lw_m1 110 rfl) rfl
theorem q139 : (Jvm.Cond.methodLink "RasterRules" (90 : Nat) ({ cls := "RasterRules", name := "smallest", desc := "(III)I" } : Jvm.MethodName)) ∈ lw_all := lw_g (lw_at lw_m1 111 rfl) rfl
theorem q140 : (Jvm.Cond.privateMethod ({ cls := "RasterRules", name := "smallest", desc := "(III)I" } : Jvm.MethodName)) ∈ lw_tbl := lw_at lw_m1 112 rfl
theorem q141 : (Jvm.Cond.instanceMethod ({ cls := "RasterRules", name := "smallest", desc := "(III)I" } : Jvm.MethodName)) ∈ lw_all := lw_g (lw_at lw_m1 113 rfl) rfl
theorem q142 : (Jvm.Cond.code ({ cls := "RasterRules", name := "smallest", desc := "(III)I" } : Jvm.MethodName) prog_1_method_27_code (5 : Nat) (Option.some Jvm.ClassFile.FieldType.int)) ∈ lw_all := lw_g (lw_at lw_m1 114 rfl) rfl
theorem q143 : (Jvm.Cond.methodLink "RasterRules" (94 : Nat) ({ cls := "RasterRules", name := "greatest", desc := "(III)I" } : Jvm.MethodName)) ∈ lw_all := lw_g (lw_at lw_m1 115 rfl) rfl
theorem q144 : (Jvm.Cond.privateMethod ({ cls := "RasterRules", name := "greatest", desc := "(III)I" } : Jvm.MethodName)) ∈ lw_tbl := lw_at lw_m1 116 rfl
theorem q145 : (Jvm.Cond.instanceMethod ({ cls := "RasterRules", name := "greatest", desc := "(III)I" } : Jvm.MethodName)) ∈ lw_all := lw_g (lw_at lw_m1 117 rfl) rfl
theorem q146 : (Jvm.Cond.code ({ cls := "RasterRules", name := "greatest", desc := "(III)I" } : Jvm.MethodName) prog_1_method_28_code (5 : Nat) (Option.some Jvm.ClassFile.FieldType.int)) ∈ lw_all := lw_g (lw_at lw_m1 118 rfl) rfl
theorem q147 : (Jvm.Cond.methodLink "RasterRules" (97 : Nat) ({ cls := "RasterRules", name := "side", desc := "(IIII)I" } : Jvm.MethodName)) ∈ lw_all := lw_g (lw_at lw_m1 119 rfl) rfl
theorem q148 : (Jvm.Cond.privateMethod ({ cls := "RasterRules", name := "side", desc := "(IIII)I" } : Jvm.MethodName)) ∈ lw_tbl := lw_at lw_m1 120 rfl
theorem q149 : (Jvm.Cond.instanceMethod ({ cls := "RasterRules", name := "side", desc := "(IIII)I" } : Jvm.MethodName)) ∈ lw_all := lw_g (lw_at lw_m1 121 rfl) rfl
theorem q150 : (Jvm.Cond.code ({ cls := "RasterRules", name := "side", desc := "(IIII)I" } : Jvm.MethodName) prog_1_method_25_code (7 : Nat) (Option.some Jvm.ClassFile.FieldType.int)) ∈ lw_all := lw_g (lw_at lw_m1 122 rfl) rfl
theorem q152 : (Jvm.Cond.instanceMethod ({ cls := "RasterRules", name := "flood", desc := "(I)I" } : Jvm.MethodName)) ∈ lw_all := lw_g (lw_at lw_m1 124 rfl) rfl
theorem q153 : (Jvm.Cond.selects "RasterRules" ({ cls := "RasterRules", name := "flood", desc := "(I)I" } : Jvm.MethodName) ({ cls := "RasterRules", name := "flood", desc := "(I)I" } : Jvm.MethodName)) ∈ lw_all := lw_g (lw_at lw_m1 125 rfl) rfl
theorem q154 : (Jvm.Cond.code ({ cls := "RasterRules", name := "flood", desc := "(I)I" } : Jvm.MethodName) prog_1_method_8_code (8 : Nat) (Option.some Jvm.ClassFile.FieldType.int)) ∈ lw_all := lw_g (lw_at lw_m1 126 rfl) rfl
theorem q155 : (Jvm.Cond.methodLink "RasterRules" (62 : Nat) ({ cls := "RasterRules", name := "get", desc := "(I)I" } : Jvm.MethodName)) ∈ lw_all := lw_g (lw_at lw_m1 127 rfl) rfl
theorem q156 : (Jvm.Cond.instanceMethod ({ cls := "RasterRules", name := "get", desc := "(I)I" } : Jvm.MethodName)) ∈ lw_all := lw_g (lw_at lw_m1 128 rfl) rfl
theorem q157 : (Jvm.Cond.selects "RasterRules" ({ cls := "RasterRules", name := "get", desc := "(I)I" } : Jvm.MethodName) ({ cls := "RasterRules", name := "get", desc := "(I)I" } : Jvm.MethodName)) ∈ lw_all := lw_g (lw_at lw_m1 129 rfl) rfl
theorem q158 : (Jvm.Cond.code ({ cls := "RasterRules", name := "get", desc := "(I)I" } : Jvm.MethodName) prog_1_method_9_code (2 : Nat) (Option.some Jvm.ClassFile.FieldType.int)) ∈ lw_all := lw_g (lw_at lw_m1 130 rfl) rfl
theorem q159 : (Jvm.Cond.methodLink "RasterRules" (69 : Nat) ({ cls := "RasterRules", name := "addRun", desc := "(III)V" } : Jvm.MethodName)) ∈ lw_all := lw_g (lw_at lw_m1 131 rfl) rfl
theorem q160 : (Jvm.Cond.privateMethod ({ cls := "RasterRules", name := "addRun", desc := "(III)V" } : Jvm.MethodName)) ∈ lw_tbl := lw_at lw_m1 132 rfl
theorem q161 : (Jvm.Cond.instanceMethod ({ cls := "RasterRules", name := "addRun", desc := "(III)V" } : Jvm.MethodName)) ∈ lw_all := lw_g (lw_at lw_m1 133 rfl) rfl
theorem q162 : (Jvm.Cond.code ({ cls := "RasterRules", name := "addRun", desc := "(III)V" } : Jvm.MethodName) prog_1_method_29_code (6 : Nat) (Option.none : Option Jvm.ClassFile.FieldType)) ∈ lw_all := lw_g (lw_at lw_m1 134 rfl) rfl
theorem q165 : (Jvm.Cond.instanceMethod ({ cls := "RasterRules", name := "count", desc := "()I" } : Jvm.MethodName)) ∈ lw_all := lw_g (lw_at lw_m1 137 rfl) rfl
theorem q166 : (Jvm.Cond.selects "RasterRules" ({ cls := "RasterRules", name := "count", desc := "()I" } : Jvm.MethodName) ({ cls := "RasterRules", name := "count", desc := "()I" } : Jvm.MethodName)) ∈ lw_all := lw_g (lw_at lw_m1 138 rfl) rfl
theorem q167 : (Jvm.Cond.code ({ cls := "RasterRules", name := "count", desc := "()I" } : Jvm.MethodName) prog_1_method_10_code (3 : Nat) (Option.some Jvm.ClassFile.FieldType.int)) ∈ lw_all := lw_g (lw_at lw_m1 139 rfl) rfl
theorem q169 : (Jvm.Cond.instanceMethod ({ cls := "RasterRules", name := "row", desc := "(I)I" } : Jvm.MethodName)) ∈ lw_all := lw_g (lw_at lw_m1 141 rfl) rfl
theorem q170 : (Jvm.Cond.selects "RasterRules" ({ cls := "RasterRules", name := "row", desc := "(I)I" } : Jvm.MethodName) ({ cls := "RasterRules", name := "row", desc := "(I)I" } : Jvm.MethodName)) ∈ lw_all := lw_g (lw_at lw_m1 142 rfl) rfl
theorem q171 : (Jvm.Cond.code ({ cls := "RasterRules", name := "row", desc := "(I)I" } : Jvm.MethodName) prog_1_method_11_code (2 : Nat) (Option.some Jvm.ClassFile.FieldType.int)) ∈ lw_all := lw_g (lw_at lw_m1 143 rfl) rfl
theorem q173 : (Jvm.Cond.instanceMethod ({ cls := "RasterRules", name := "move", desc := "(II)I" } : Jvm.MethodName)) ∈ lw_all := lw_g (lw_at lw_m1 145 rfl) rfl
theorem q174 : (Jvm.Cond.selects "RasterRules" ({ cls := "RasterRules", name := "move", desc := "(II)I" } : Jvm.MethodName) ({ cls := "RasterRules", name := "move", desc := "(II)I" } : Jvm.MethodName)) ∈ lw_all := lw_g (lw_at lw_m1 146 rfl) rfl
theorem q175 : (Jvm.Cond.code ({ cls := "RasterRules", name := "move", desc := "(II)I" } : Jvm.MethodName) prog_1_method_12_code (5 : Nat) (Option.some Jvm.ClassFile.FieldType.int)) ∈ lw_all := lw_g (lw_at lw_m1 147 rfl) rfl
theorem q176 : (Jvm.Cond.methodLink "RasterRules" (75 : Nat) ({ cls := "RasterRules", name := "count", desc := "()I" } : Jvm.MethodName)) ∈ lw_all := lw_g (lw_at lw_m1 148 rfl) rfl
theorem q177 : (Jvm.Cond.constant "RasterRules" (78 : Nat) (16777215 : Int32)) ∈ lw_all := lw_g (lw_at lw_m1 149 rfl) rfl
theorem in_X0 : ∀ w ∈ wsX00, w ∈ lw_all := lw_in wsX00 [46, 48, 50, 52, 54, 56, 58] (by decide +kernel) (by decide +kernel)
theorem q30 : (Jvm.Cond.initialized "RasterRulesModel") ∈ lw_all := lw_g (lw_at lw_m1 2 rfl) rfl
theorem q179 : (Jvm.Cond.instantiable "RasterRulesModel" (3 : Nat)) ∈ lw_all := lw_g (lw_at lw_m1 151 rfl) rfl
theorem q181 : (Jvm.Cond.instanceMethod ({ cls := "RasterRulesModel", name := "<init>", desc := "()V" } : Jvm.MethodName)) ∈ lw_all := lw_g (lw_at lw_m1 153 rfl) rfl
theorem q182 : (Jvm.Cond.code ({ cls := "RasterRulesModel", name := "<init>", desc := "()V" } : Jvm.MethodName) prog_3_method_1_code (1 : Nat) (Option.none : Option Jvm.ClassFile.FieldType)) ∈ lw_all := lw_g (lw_at lw_m1 154 rfl) rfl
theorem q183 : (Jvm.Cond.methodLink "RasterRulesModel" (1 : Nat) ({ cls := "java/lang/Object", name := "<init>", desc := "()V" } : Jvm.MethodName)) ∈ lw_all := lw_g (lw_at lw_m1 155 rfl) rfl
theorem q184 : (Jvm.Cond.fieldLink "RasterRulesModel" (7 : Nat) "RasterRulesModel" "set" "[Z") ∈ lw_all := lw_g (lw_at lw_m1 156 rfl) rfl
theorem q185 : (Jvm.Cond.fieldLink "RasterRulesModel" (13 : Nat) "RasterRulesModel" "figure" "[Z") ∈ lw_all := lw_g (lw_at lw_m1 157 rfl) rfl
theorem q186 : (Jvm.Cond.fieldLink "RasterRulesModel" (16 : Nat) "RasterRulesModel" "pen" "I") ∈ lw_all := lw_g (lw_at lw_m1 158 rfl) rfl
theorem q187 : (Jvm.Cond.lays "RasterRulesModel" "RasterRulesModel" "set" "[Z") ∈ lw_all := lw_g (lw_at lw_m1 159 rfl) rfl
theorem q188 : (Jvm.Cond.soleField "RasterRulesModel" "set") ∈ lw_all := lw_g (lw_at lw_m1 160 rfl) rfl
theorem q189 : (Jvm.Cond.lays "RasterRulesModel" "RasterRulesModel" "figure" "[Z") ∈ lw_all := lw_g (lw_at lw_m1 161 rfl) rfl
theorem q190 : (Jvm.Cond.soleField "RasterRulesModel" "figure") ∈ lw_all := lw_g (lw_at lw_m1 162 rfl) rfl
theorem q191 : (Jvm.Cond.lays "RasterRulesModel" "RasterRulesModel" "pen" "I") ∈ lw_all := lw_g (lw_at lw_m1 163 rfl) rfl
theorem q192 : (Jvm.Cond.soleField "RasterRulesModel" "pen") ∈ lw_all := lw_g (lw_at lw_m1 164 rfl) rfl
theorem q193 : (Jvm.Cond.superclass "RasterRulesModel" "java/lang/Object") ∈ lw_all := lw_g (lw_at lw_m1 165 rfl) rfl
theorem q196 : (Jvm.Cond.instanceMethod ({ cls := "RasterRulesModel", name := "pen", desc := "(I)Z" } : Jvm.MethodName)) ∈ lw_all := lw_g (lw_at lw_m1 168 rfl) rfl
theorem q197 : (Jvm.Cond.selects "RasterRulesModel" ({ cls := "RasterRulesModel", name := "pen", desc := "(I)Z" } : Jvm.MethodName) ({ cls := "RasterRulesModel", name := "pen", desc := "(I)Z" } : Jvm.MethodName)) ∈ lw_all := lw_g (lw_at lw_m1 169 rfl) rfl
theorem q198 : (Jvm.Cond.code ({ cls := "RasterRulesModel", name := "pen", desc := "(I)Z" } : Jvm.MethodName) prog_3_method_4_code (2 : Nat) (Option.some Jvm.ClassFile.FieldType.boolean)) ∈ lw_all := lw_g (lw_at lw_m1 170 rfl) rfl
theorem q200 : (Jvm.Cond.instanceMethod ({ cls := "RasterRulesModel", name := "line", desc := "(II)I" } : Jvm.MethodName)) ∈ lw_all := lw_g (lw_at lw_m1 172 rfl) rfl
theorem q201 : (Jvm.Cond.selects "RasterRulesModel" ({ cls := "RasterRulesModel", name := "line", desc := "(II)I" } : Jvm.MethodName) ({ cls := "RasterRulesModel", name := "line", desc := "(II)I" } : Jvm.MethodName)) ∈ lw_all := lw_g (lw_at lw_m1 173 rfl) rfl
theorem q202 : (Jvm.Cond.code ({ cls := "RasterRulesModel", name := "line", desc := "(II)I" } : Jvm.MethodName) prog_3_method_8_code (4 : Nat) (Option.some Jvm.ClassFile.FieldType.int)) ∈ lw_all := lw_g (lw_at lw_m1 174 rfl) rfl
theorem q203 : (Jvm.Cond.methodLink "RasterRulesModel" (28 : Nat) ({ cls := "RasterRulesModel", name := "isPixel", desc := "(I)Z" } : Jvm.MethodName)) ∈ lw_all := lw_g (lw_at lw_m1 175 rfl) rfl
theorem q204 : (Jvm.Cond.privateMethod ({ cls := "RasterRulesModel", name := "isPixel", desc := "(I)Z" } : Jvm.MethodName)) ∈ lw_tbl := lw_at lw_m1 176 rfl
theorem q205 : (Jvm.Cond.instanceMethod ({ cls := "RasterRulesModel", name := "isPixel", desc := "(I)Z" } : Jvm.MethodName)) ∈ lw_all := lw_g (lw_at lw_m1 177 rfl) rfl
theorem q206 : (Jvm.Cond.code ({ cls := "RasterRulesModel", name := "isPixel", desc := "(I)Z" } : Jvm.MethodName) prog_3_method_2_code (2 : Nat) (Option.some Jvm.ClassFile.FieldType.boolean)) ∈ lw_all := lw_g (lw_at lw_m1 178 rfl) rfl
theorem q207 : (Jvm.Cond.methodLink "RasterRulesModel" (32 : Nat) ({ cls := "RasterRulesModel", name := "onLine", desc := "(IIIIII)Z" } : Jvm.MethodName)) ∈ lw_all := lw_g (lw_at lw_m1 179 rfl) rfl
theorem q208 : (Jvm.Cond.privateMethod ({ cls := "RasterRulesModel", name := "onLine", desc := "(IIIIII)Z" } : Jvm.MethodName)) ∈ lw_tbl := lw_at lw_m1 180 rfl
theorem q209 : (Jvm.Cond.instanceMethod ({ cls := "RasterRulesModel", name := "onLine", desc := "(IIIIII)Z" } : Jvm.MethodName)) ∈ lw_all := lw_g (lw_at lw_m1 181 rfl) rfl
theorem q210 : (Jvm.Cond.code ({ cls := "RasterRulesModel", name := "onLine", desc := "(IIIIII)Z" } : Jvm.MethodName) prog_3_method_7_code (7 : Nat) (Option.some Jvm.ClassFile.FieldType.boolean)) ∈ lw_all := lw_g (lw_at lw_m1 182 rfl) rfl
theorem q211 : (Jvm.Cond.methodLink "RasterRulesModel" (20 : Nat) ({ cls := "RasterRulesModel", name := "size", desc := "(I)I" } : Jvm.MethodName)) ∈ lw_all := lw_g (lw_at lw_m1 183 rfl) rfl
theorem q212 : (Jvm.Cond.privateMethod ({ cls := "RasterRulesModel", name := "size", desc := "(I)I" } : Jvm.MethodName)) ∈ lw_tbl := lw_at lw_m1 184 rfl
theorem q213 : (Jvm.Cond.instanceMethod ({ cls := "RasterRulesModel", name := "size", desc := "(I)I" } : Jvm.MethodName)) ∈ lw_all := lw_g (lw_at lw_m1 185 rfl) rfl
theorem q214 : (Jvm.Cond.code ({ cls := "RasterRulesModel", name := "size", desc := "(I)I" } : Jvm.MethodName) prog_3_method_3_code (2 : Nat) (Option.some Jvm.ClassFile.FieldType.int)) ∈ lw_all := lw_g (lw_at lw_m1 186 rfl) rfl
theorem q215 : (Jvm.Cond.methodLink "RasterRulesModel" (24 : Nat) ({ cls := "RasterRulesModel", name := "nearest", desc := "(IIIIII)Z" } : Jvm.MethodName)) ∈ lw_all := lw_g (lw_at lw_m1 187 rfl) rfl
theorem q216 : (Jvm.Cond.privateMethod ({ cls := "RasterRulesModel", name := "nearest", desc := "(IIIIII)Z" } : Jvm.MethodName)) ∈ lw_tbl := lw_at lw_m1 188 rfl
theorem q217 : (Jvm.Cond.instanceMethod ({ cls := "RasterRulesModel", name := "nearest", desc := "(IIIIII)Z" } : Jvm.MethodName)) ∈ lw_all := lw_g (lw_at lw_m1 189 rfl) rfl
theorem q218 : (Jvm.Cond.code ({ cls := "RasterRulesModel", name := "nearest", desc := "(IIIIII)Z" } : Jvm.MethodName) prog_3_method_6_code (9 : Nat) (Option.some Jvm.ClassFile.FieldType.boolean)) ∈ lw_all := lw_g (lw_at lw_m1 190 rfl) rfl
theorem q219 : (Jvm.Cond.methodLink "RasterRulesModel" (35 : Nat) ({ cls := "RasterRulesModel", name := "ink", desc := "()I" } : Jvm.MethodName)) ∈ lw_all := lw_g (lw_at lw_m1 191 rfl) rfl
theorem q220 : (Jvm.Cond.privateMethod ({ cls := "RasterRulesModel", name := "ink", desc := "()I" } : Jvm.MethodName)) ∈ lw_tbl := lw_at lw_m1 192 rfl
theorem q221 : (Jvm.Cond.instanceMethod ({ cls := "RasterRulesModel", name := "ink", desc := "()I" } : Jvm.MethodName)) ∈ lw_all := lw_g (lw_at lw_m1 193 rfl) rfl
theorem q222 : (Jvm.Cond.code ({ cls := "RasterRulesModel", name := "ink", desc := "()I" } : Jvm.MethodName) prog_3_method_5_code (4 : Nat) (Option.some Jvm.ClassFile.FieldType.int)) ∈ lw_all := lw_g (lw_at lw_m1 194 rfl) rfl
theorem q224 : (Jvm.Cond.instanceMethod ({ cls := "RasterRulesModel", name := "disc", desc := "(II)I" } : Jvm.MethodName)) ∈ lw_all := lw_g (lw_at lw_m1 196 rfl) rfl
theorem q225 : (Jvm.Cond.selects "RasterRulesModel" ({ cls := "RasterRulesModel", name := "disc", desc := "(II)I" } : Jvm.MethodName) ({ cls := "RasterRulesModel", name := "disc", desc := "(II)I" } : Jvm.MethodName)) ∈ lw_all := lw_g (lw_at lw_m1 197 rfl) rfl
theorem q226 : (Jvm.Cond.code ({ cls := "RasterRulesModel", name := "disc", desc := "(II)I" } : Jvm.MethodName) prog_3_method_10_code (6 : Nat) (Option.some Jvm.ClassFile.FieldType.int)) ∈ lw_all := lw_g (lw_at lw_m1 198 rfl) rfl
theorem q227 : (Jvm.Cond.methodLink "RasterRulesModel" (39 : Nat) ({ cls := "RasterRulesModel", name := "isRound", desc := "(II)Z" } : Jvm.MethodName)) ∈ lw_all := lw_g (lw_at lw_m1 199 rfl) rfl
theorem q228 : (Jvm.Cond.privateMethod ({ cls := "RasterRulesModel", name := "isRound", desc := "(II)Z" } : Jvm.MethodName)) ∈ lw_tbl := lw_at lw_m1 200 rfl
theorem q229 : (Jvm.Cond.instanceMethod ({ cls := "RasterRulesModel", name := "isRound", desc := "(II)Z" } : Jvm.MethodName)) ∈ lw_all := lw_g (lw_at lw_m1 201 rfl) rfl
theorem q230 : (Jvm.Cond.code ({ cls := "RasterRulesModel", name := "isRound", desc := "(II)Z" } : Jvm.MethodName) prog_3_method_9_code (3 : Nat) (Option.some Jvm.ClassFile.FieldType.boolean)) ∈ lw_all := lw_g (lw_at lw_m1 202 rfl) rfl
theorem q232 : (Jvm.Cond.instanceMethod ({ cls := "RasterRulesModel", name := "ring", desc := "(II)I" } : Jvm.MethodName)) ∈ lw_all := lw_g (lw_at lw_m1 204 rfl) rfl
theorem q233 : (Jvm.Cond.selects "RasterRulesModel" ({ cls := "RasterRulesModel", name := "ring", desc := "(II)I" } : Jvm.MethodName) ({ cls := "RasterRulesModel", name := "ring", desc := "(II)I" } : Jvm.MethodName)) ∈ lw_all := lw_g (lw_at lw_m1 205 rfl) rfl
theorem q234 : (Jvm.Cond.code ({ cls := "RasterRulesModel", name := "ring", desc := "(II)I" } : Jvm.MethodName) prog_3_method_12_code (6 : Nat) (Option.some Jvm.ClassFile.FieldType.int)) ∈ lw_all := lw_g (lw_at lw_m1 206 rfl) rfl
theorem q235 : (Jvm.Cond.methodLink "RasterRulesModel" (43 : Nat) ({ cls := "RasterRulesModel", name := "onArc", desc := "(III)Z" } : Jvm.MethodName)) ∈ lw_all := lw_g (lw_at lw_m1 207 rfl) rfl
theorem q236 : (Jvm.Cond.privateMethod ({ cls := "RasterRulesModel", name := "onArc", desc := "(III)Z" } : Jvm.MethodName)) ∈ lw_tbl := lw_at lw_m1 208 rfl
theorem q237 : (Jvm.Cond.instanceMethod ({ cls := "RasterRulesModel", name := "onArc", desc := "(III)Z" } : Jvm.MethodName)) ∈ lw_all := lw_g (lw_at lw_m1 209 rfl) rfl
theorem q238 : (Jvm.Cond.code ({ cls := "RasterRulesModel", name := "onArc", desc := "(III)Z" } : Jvm.MethodName) prog_3_method_11_code (6 : Nat) (Option.some Jvm.ClassFile.FieldType.boolean)) ∈ lw_all := lw_g (lw_at lw_m1 210 rfl) rfl
theorem q240 : (Jvm.Cond.instanceMethod ({ cls := "RasterRulesModel", name := "blot", desc := "(III)I" } : Jvm.MethodName)) ∈ lw_all := lw_g (lw_at lw_m1 212 rfl) rfl
theorem q241 : (Jvm.Cond.selects "RasterRulesModel" ({ cls := "RasterRulesModel", name := "blot", desc := "(III)I" } : Jvm.MethodName) ({ cls := "RasterRulesModel", name := "blot", desc := "(III)I" } : Jvm.MethodName)) ∈ lw_all := lw_g (lw_at lw_m1 213 rfl) rfl
theorem q242 : (Jvm.Cond.code ({ cls := "RasterRulesModel", name := "blot", desc := "(III)I" } : Jvm.MethodName) prog_3_method_13_code (7 : Nat) (Option.some Jvm.ClassFile.FieldType.int)) ∈ lw_all := lw_g (lw_at lw_m1 214 rfl) rfl
theorem q244 : (Jvm.Cond.instanceMethod ({ cls := "RasterRulesModel", name := "triangle", desc := "(III)I" } : Jvm.MethodName)) ∈ lw_all := lw_g (lw_at lw_m1 216 rfl) rfl
theorem q245 : (Jvm.Cond.selects "RasterRulesModel" ({ cls := "RasterRulesModel", name := "triangle", desc := "(III)I" } : Jvm.MethodName) ({ cls := "RasterRulesModel", name := "triangle", desc := "(III)I" } : Jvm.MethodName)) ∈ lw_all := lw_g (lw_at lw_m1 217 rfl) rfl
theorem q246 : (Jvm.Cond.code ({ cls := "RasterRulesModel", name := "triangle", desc := "(III)I" } : Jvm.MethodName) prog_3_method_17_code (5 : Nat) (Option.some Jvm.ClassFile.FieldType.int)) ∈ lw_all := lw_g (lw_at lw_m1 218 rfl) rfl
theorem q247 : (Jvm.Cond.methodLink "RasterRulesModel" (55 : Nat) ({ cls := "RasterRulesModel", name := "inTriangle", desc := "(IIIII)Z" } : Jvm.MethodName)) ∈ lw_all := lw_g (lw_at lw_m1 219 rfl) rfl
theorem q248 : (Jvm.Cond.privateMethod ({ cls := "RasterRulesModel", name := "inTriangle", desc := "(IIIII)Z" } : Jvm.MethodName)) ∈ lw_tbl := lw_at lw_m1 220 rfl
theorem q249 : (Jvm.Cond.instanceMethod ({ cls := "RasterRulesModel", name := "inTriangle", desc := "(IIIII)Z" } : Jvm.MethodName)) ∈ lw_all := lw_g (lw_at lw_m1 221 rfl) rfl
theorem q250 : (Jvm.Cond.code ({ cls := "RasterRulesModel", name := "inTriangle", desc := "(IIIII)Z" } : Jvm.MethodName) prog_3_method_16_code (10 : Nat) (Option.some Jvm.ClassFile.FieldType.boolean)) ∈ lw_all := lw_g (lw_at lw_m1 222 rfl) rfl
theorem q251 : (Jvm.Cond.methodLink "RasterRulesModel" (47 : Nat) ({ cls := "RasterRulesModel", name := "side", desc := "(IIII)I" } : Jvm.MethodName)) ∈ lw_all := lw_g (lw_at lw_m1 223 rfl) rfl
theorem q252 : (Jvm.Cond.privateMethod ({ cls := "RasterRulesModel", name := "side", desc := "(IIII)I" } : Jvm.MethodName)) ∈ lw_tbl := lw_at lw_m1 224 rfl
theorem q253 : (Jvm.Cond.instanceMethod ({ cls := "RasterRulesModel", name := "side", desc := "(IIII)I" } : Jvm.MethodName)) ∈ lw_all := lw_g (lw_at lw_m1 225 rfl) rfl
theorem q254 : (Jvm.Cond.code ({ cls := "RasterRulesModel", name := "side", desc := "(IIII)I" } : Jvm.MethodName) prog_3_method_14_code (5 : Nat) (Option.some Jvm.ClassFile.FieldType.int)) ∈ lw_all := lw_g (lw_at lw_m1 226 rfl) rfl
theorem q255 : (Jvm.Cond.methodLink "RasterRulesModel" (51 : Nat) ({ cls := "RasterRulesModel", name := "between", desc := "(IIII)Z" } : Jvm.MethodName)) ∈ lw_all := lw_g (lw_at lw_m1 227 rfl) rfl
theorem q256 : (Jvm.Cond.privateMethod ({ cls := "RasterRulesModel", name := "between", desc := "(IIII)Z" } : Jvm.MethodName)) ∈ lw_tbl := lw_at lw_m1 228 rfl
theorem q257 : (Jvm.Cond.instanceMethod ({ cls := "RasterRulesModel", name := "between", desc := "(IIII)Z" } : Jvm.MethodName)) ∈ lw_all := lw_g (lw_at lw_m1 229 rfl) rfl
theorem q258 : (Jvm.Cond.code ({ cls := "RasterRulesModel", name := "between", desc := "(IIII)Z" } : Jvm.MethodName) prog_3_method_15_code (5 : Nat) (Option.some Jvm.ClassFile.FieldType.boolean)) ∈ lw_all := lw_g (lw_at lw_m1 230 rfl) rfl
theorem q260 : (Jvm.Cond.instanceMethod ({ cls := "RasterRulesModel", name := "flood", desc := "(I)I" } : Jvm.MethodName)) ∈ lw_all := lw_g (lw_at lw_m1 232 rfl) rfl
theorem q261 : (Jvm.Cond.selects "RasterRulesModel" ({ cls := "RasterRulesModel", name := "flood", desc := "(I)I" } : Jvm.MethodName) ({ cls := "RasterRulesModel", name := "flood", desc := "(I)I" } : Jvm.MethodName)) ∈ lw_all := lw_g (lw_at lw_m1 233 rfl) rfl
theorem q262 : (Jvm.Cond.code ({ cls := "RasterRulesModel", name := "flood", desc := "(I)I" } : Jvm.MethodName) prog_3_method_19_code (6 : Nat) (Option.some Jvm.ClassFile.FieldType.int)) ∈ lw_all := lw_g (lw_at lw_m1 234 rfl) rfl
theorem q263 : (Jvm.Cond.methodLink "RasterRulesModel" (59 : Nat) ({ cls := "RasterRulesModel", name := "besideFigure", desc := "(I)Z" } : Jvm.MethodName)) ∈ lw_all := lw_g (lw_at lw_m1 235 rfl) rfl
theorem q264 : (Jvm.Cond.privateMethod ({ cls := "RasterRulesModel", name := "besideFigure", desc := "(I)Z" } : Jvm.MethodName)) ∈ lw_tbl := lw_at lw_m1 236 rfl
theorem q265 : (Jvm.Cond.instanceMethod ({ cls := "RasterRulesModel", name := "besideFigure", desc := "(I)Z" } : Jvm.MethodName)) ∈ lw_all := lw_g (lw_at lw_m1 237 rfl) rfl
theorem q266 : (Jvm.Cond.code ({ cls := "RasterRulesModel", name := "besideFigure", desc := "(I)Z" } : Jvm.MethodName) prog_3_method_18_code (2 : Nat) (Option.some Jvm.ClassFile.FieldType.boolean)) ∈ lw_all := lw_g (lw_at lw_m1 238 rfl) rfl
theorem q268 : (Jvm.Cond.instanceMethod ({ cls := "RasterRulesModel", name := "get", desc := "(I)I" } : Jvm.MethodName)) ∈ lw_all := lw_g (lw_at lw_m2 0 rfl) rfl
theorem q269 : (Jvm.Cond.selects "RasterRulesModel" ({ cls := "RasterRulesModel", name := "get", desc := "(I)I" } : Jvm.MethodName) ({ cls := "RasterRulesModel", name := "get", desc := "(I)I" } : Jvm.MethodName)) ∈ lw_all := lw_g (lw_at lw_m2 1 rfl) rfl
theorem q270 : (Jvm.Cond.code ({ cls := "RasterRulesModel", name := "get", desc := "(I)I" } : Jvm.MethodName) prog_3_method_20_code (2 : Nat) (Option.some Jvm.ClassFile.FieldType.int)) ∈ lw_all := lw_g (lw_at lw_m2 2 rfl) rfl
theorem q272 : (Jvm.Cond.instanceMethod ({ cls := "RasterRulesModel", name := "count", desc := "()I" } : Jvm.MethodName)) ∈ lw_all := lw_g (lw_at lw_m2 4 rfl) rfl
theorem q273 : (Jvm.Cond.selects "RasterRulesModel" ({ cls := "RasterRulesModel", name := "count", desc := "()I" } : Jvm.MethodName) ({ cls := "RasterRulesModel", name := "count", desc := "()I" } : Jvm.MethodName)) ∈ lw_all := lw_g (lw_at lw_m2 5 rfl) rfl
theorem q274 : (Jvm.Cond.code ({ cls := "RasterRulesModel", name := "count", desc := "()I" } : Jvm.MethodName) prog_3_method_21_code (3 : Nat) (Option.some Jvm.ClassFile.FieldType.int)) ∈ lw_all := lw_g (lw_at lw_m2 6 rfl) rfl
theorem q276 : (Jvm.Cond.instanceMethod ({ cls := "RasterRulesModel", name := "row", desc := "(I)I" } : Jvm.MethodName)) ∈ lw_all := lw_g (lw_at lw_m2 8 rfl) rfl
theorem q277 : (Jvm.Cond.selects "RasterRulesModel" ({ cls := "RasterRulesModel", name := "row", desc := "(I)I" } : Jvm.MethodName) ({ cls := "RasterRulesModel", name := "row", desc := "(I)I" } : Jvm.MethodName)) ∈ lw_all := lw_g (lw_at lw_m2 9 rfl) rfl
theorem q278 : (Jvm.Cond.code ({ cls := "RasterRulesModel", name := "row", desc := "(I)I" } : Jvm.MethodName) prog_3_method_22_code (4 : Nat) (Option.some Jvm.ClassFile.FieldType.int)) ∈ lw_all := lw_g (lw_at lw_m2 10 rfl) rfl
theorem q280 : (Jvm.Cond.instanceMethod ({ cls := "RasterRulesModel", name := "move", desc := "(II)I" } : Jvm.MethodName)) ∈ lw_all := lw_g (lw_at lw_m2 12 rfl) rfl
theorem q281 : (Jvm.Cond.selects "RasterRulesModel" ({ cls := "RasterRulesModel", name := "move", desc := "(II)I" } : Jvm.MethodName) ({ cls := "RasterRulesModel", name := "move", desc := "(II)I" } : Jvm.MethodName)) ∈ lw_all := lw_g (lw_at lw_m2 13 rfl) rfl
theorem q282 : (Jvm.Cond.code ({ cls := "RasterRulesModel", name := "move", desc := "(II)I" } : Jvm.MethodName) prog_3_method_23_code (8 : Nat) (Option.some Jvm.ClassFile.FieldType.int)) ∈ lw_all := lw_g (lw_at lw_m2 14 rfl) rfl
theorem q283 : (Jvm.Cond.methodLink "RasterRulesModel" (62 : Nat) ({ cls := "RasterRulesModel", name := "count", desc := "()I" } : Jvm.MethodName)) ∈ lw_all := lw_g (lw_at lw_m2 15 rfl) rfl
theorem in_X1 : ∀ w ∈ wsX10, w ∈ lw_all := lw_in wsX10 [187, 189, 191] (by decide +kernel) (by decide +kernel)
theorem q37 : (Jvm.Cond.instanceMethod ({ cls := "java/lang/Object", name := "<init>", desc := "()V" } : Jvm.MethodName)) ∈ lw_all := lw_g (lw_at lw_m1 9 rfl) rfl
theorem q38 : (Jvm.Cond.code ({ cls := "java/lang/Object", name := "<init>", desc := "()V" } : Jvm.MethodName) object_method_1_code (1 : Nat) (Option.none : Option Jvm.ClassFile.FieldType)) ∈ lw_all := lw_g (lw_at lw_m1 10 rfl) rfl
theorem q61 : (Jvm.Cond.arrayClass Jvm.ClassFile.FieldType.int) ∈ lw_all := lw_g (lw_at lw_m1 33 rfl) rfl
theorem q62 : (Jvm.Cond.arrayClass Jvm.ClassFile.FieldType.byte) ∈ lw_all := lw_g (lw_at lw_m1 34 rfl) rfl
theorem q194 : (Jvm.Cond.arrayClass Jvm.ClassFile.FieldType.boolean) ∈ lw_all := lw_g (lw_at lw_m1 166 rfl) rfl
theorem q28 : (Jvm.Cond.initialized "RasterRulesLaw") ∈ lw_all := lw_g (lw_at lw_m1 0 rfl) rfl
theorem q31 : (Jvm.Cond.classLink "RasterRulesLaw" (7 : Nat) "RasterRules") ∈ lw_all := lw_g (lw_at lw_m1 3 rfl) rfl
theorem q33 : (Jvm.Cond.methodLink "RasterRulesLaw" (9 : Nat) ({ cls := "RasterRules", name := "<init>", desc := "()V" } : Jvm.MethodName)) ∈ lw_all := lw_g (lw_at lw_m1 5 rfl) rfl
theorem q63 : (Jvm.Cond.methodLink "RasterRulesLaw" (13 : Nat) ({ cls := "RasterRules", name := "pen", desc := "(I)Z" } : Jvm.MethodName)) ∈ lw_all := lw_g (lw_at lw_m1 35 rfl) rfl
theorem q67 : (Jvm.Cond.methodLink "RasterRulesLaw" (18 : Nat) ({ cls := "RasterRules", name := "line", desc := "(II)I" } : Jvm.MethodName)) ∈ lw_all := lw_g (lw_at lw_m1 39 rfl) rfl
theorem q99 : (Jvm.Cond.methodLink "RasterRulesLaw" (23 : Nat) ({ cls := "RasterRules", name := "disc", desc := "(II)I" } : Jvm.MethodName)) ∈ lw_all := lw_g (lw_at lw_m1 71 rfl) rfl
theorem q111 : (Jvm.Cond.methodLink "RasterRulesLaw" (27 : Nat) ({ cls := "RasterRules", name := "ring", desc := "(II)I" } : Jvm.MethodName)) ∈ lw_all := lw_g (lw_at lw_m1 83 rfl) rfl
theorem q123 : (Jvm.Cond.methodLink "RasterRulesLaw" (31 : Nat) ({ cls := "RasterRules", name := "blot", desc := "(III)I" } : Jvm.MethodName)) ∈ lw_all := lw_g (lw_at lw_m1 95 rfl) rfl
theorem q131 : (Jvm.Cond.methodLink "RasterRulesLaw" (36 : Nat) ({ cls := "RasterRules", name := "triangle", desc := "(III)I" } : Jvm.MethodName)) ∈ lw_all := lw_g (lw_at lw_m1 103 rfl) rfl
theorem q151 : (Jvm.Cond.methodLink "RasterRulesLaw" (40 : Nat) ({ cls := "RasterRules", name := "flood", desc := "(I)I" } : Jvm.MethodName)) ∈ lw_all := lw_g (lw_at lw_m1 123 rfl) rfl
theorem q163 : (Jvm.Cond.methodLink "RasterRulesLaw" (45 : Nat) ({ cls := "RasterRules", name := "get", desc := "(I)I" } : Jvm.MethodName)) ∈ lw_all := lw_g (lw_at lw_m1 135 rfl) rfl
theorem q164 : (Jvm.Cond.methodLink "RasterRulesLaw" (49 : Nat) ({ cls := "RasterRules", name := "count", desc := "()I" } : Jvm.MethodName)) ∈ lw_all := lw_g (lw_at lw_m1 136 rfl) rfl
theorem q168 : (Jvm.Cond.methodLink "RasterRulesLaw" (54 : Nat) ({ cls := "RasterRules", name := "row", desc := "(I)I" } : Jvm.MethodName)) ∈ lw_all := lw_g (lw_at lw_m1 140 rfl) rfl
theorem q172 : (Jvm.Cond.methodLink "RasterRulesLaw" (58 : Nat) ({ cls := "RasterRules", name := "move", desc := "(II)I" } : Jvm.MethodName)) ∈ lw_all := lw_g (lw_at lw_m1 144 rfl) rfl
theorem q178 : (Jvm.Cond.classLink "RasterRulesLaw" (10 : Nat) "RasterRulesModel") ∈ lw_all := lw_g (lw_at lw_m1 150 rfl) rfl
theorem q180 : (Jvm.Cond.methodLink "RasterRulesLaw" (12 : Nat) ({ cls := "RasterRulesModel", name := "<init>", desc := "()V" } : Jvm.MethodName)) ∈ lw_all := lw_g (lw_at lw_m1 152 rfl) rfl
theorem q195 : (Jvm.Cond.methodLink "RasterRulesLaw" (17 : Nat) ({ cls := "RasterRulesModel", name := "pen", desc := "(I)Z" } : Jvm.MethodName)) ∈ lw_all := lw_g (lw_at lw_m1 167 rfl) rfl
theorem q199 : (Jvm.Cond.methodLink "RasterRulesLaw" (22 : Nat) ({ cls := "RasterRulesModel", name := "line", desc := "(II)I" } : Jvm.MethodName)) ∈ lw_all := lw_g (lw_at lw_m1 171 rfl) rfl
theorem q223 : (Jvm.Cond.methodLink "RasterRulesLaw" (26 : Nat) ({ cls := "RasterRulesModel", name := "disc", desc := "(II)I" } : Jvm.MethodName)) ∈ lw_all := lw_g (lw_at lw_m1 195 rfl) rfl
theorem q231 : (Jvm.Cond.methodLink "RasterRulesLaw" (30 : Nat) ({ cls := "RasterRulesModel", name := "ring", desc := "(II)I" } : Jvm.MethodName)) ∈ lw_all := lw_g (lw_at lw_m1 203 rfl) rfl
theorem q239 : (Jvm.Cond.methodLink "RasterRulesLaw" (35 : Nat) ({ cls := "RasterRulesModel", name := "blot", desc := "(III)I" } : Jvm.MethodName)) ∈ lw_all := lw_g (lw_at lw_m1 211 rfl) rfl
theorem q243 : (Jvm.Cond.methodLink "RasterRulesLaw" (39 : Nat) ({ cls := "RasterRulesModel", name := "triangle", desc := "(III)I" } : Jvm.MethodName)) ∈ lw_all := lw_g (lw_at lw_m1 215 rfl) rfl
theorem q259 : (Jvm.Cond.methodLink "RasterRulesLaw" (44 : Nat) ({ cls := "RasterRulesModel", name := "flood", desc := "(I)I" } : Jvm.MethodName)) ∈ lw_all := lw_g (lw_at lw_m1 231 rfl) rfl
theorem q267 : (Jvm.Cond.methodLink "RasterRulesLaw" (48 : Nat) ({ cls := "RasterRulesModel", name := "get", desc := "(I)I" } : Jvm.MethodName)) ∈ lw_all := lw_g (lw_at lw_m1 239 rfl) rfl
theorem q271 : (Jvm.Cond.methodLink "RasterRulesLaw" (53 : Nat) ({ cls := "RasterRulesModel", name := "count", desc := "()I" } : Jvm.MethodName)) ∈ lw_all := lw_g (lw_at lw_m2 3 rfl) rfl
theorem q275 : (Jvm.Cond.methodLink "RasterRulesLaw" (57 : Nat) ({ cls := "RasterRulesModel", name := "row", desc := "(I)I" } : Jvm.MethodName)) ∈ lw_all := lw_g (lw_at lw_m2 7 rfl) rfl
theorem q279 : (Jvm.Cond.methodLink "RasterRulesLaw" (61 : Nat) ({ cls := "RasterRulesModel", name := "move", desc := "(II)I" } : Jvm.MethodName)) ∈ lw_all := lw_g (lw_at lw_m2 11 rfl) rfl
end
section
set_option maxRecDepth 100000
theorem eX0_init_0 : dk cX0_init 0 (.aload_n 0) 1 1 := ⟨by decide +kernel, rfl⟩
theorem eX0_init_1 : dk cX0_init 1 (.invokespecial 1) 3 4 := ⟨by decide +kernel, rfl⟩
theorem eX0_init_4 : dk cX0_init 4 (.aload_n 0) 1 5 := ⟨by decide +kernel, rfl⟩
theorem eX0_init_5 : dk cX0_init 5 (.bipush 24) 2 7 := ⟨by decide +kernel, rfl⟩
theorem eX0_init_7 : dk cX0_init 7 (.newarray .int) 2 9 := ⟨by decide +kernel, rfl⟩
theorem eX0_init_9 : dk cX0_init 9 (.putfield 7) 3 12 := ⟨by decide +kernel, rfl⟩
theorem eX0_init_12 : dk cX0_init 12 (.aload_n 0) 1 13 := ⟨by decide +kernel, rfl⟩
theorem eX0_init_13 : dk cX0_init 13 (.bipush 24) 2 15 := ⟨by decide +kernel, rfl⟩
theorem eX0_init_15 : dk cX0_init 15 (.newarray .int) 2 17 := ⟨by decide +kernel, rfl⟩
theorem eX0_init_17 : dk cX0_init 17 (.putfield 13) 3 20 := ⟨by decide +kernel, rfl⟩
theorem eX0_init_20 : dk cX0_init 20 (.aload_n 0) 1 21 := ⟨by decide +kernel, rfl⟩
theorem eX0_init_21 : dk cX0_init 21 (.sipush 288) 3 24 := ⟨by decide +kernel, rfl⟩
theorem eX0_init_24 : dk cX0_init 24 (.newarray .byte) 2 26 := ⟨by decide +kernel, rfl⟩
theorem eX0_init_26 : dk cX0_init 26 (.putfield 16) 3 29 := ⟨by decide +kernel, rfl⟩
theorem eX0_init_29 : dk cX0_init 29 (.aload_n 0) 1 30 := ⟨by decide +kernel, rfl⟩
theorem eX0_init_30 : dk cX0_init 30 (.sipush 288) 3 33 := ⟨by decide +kernel, rfl⟩
theorem eX0_init_33 : dk cX0_init 33 (.newarray .byte) 2 35 := ⟨by decide +kernel, rfl⟩
theorem eX0_init_35 : dk cX0_init 35 (.putfield 20) 3 38 := ⟨by decide +kernel, rfl⟩
theorem eX0_init_38 : dk cX0_init 38 (.aload_n 0) 1 39 := ⟨by decide +kernel, rfl⟩
theorem eX0_init_39 : dk cX0_init 39 (.sipush 288) 3 42 := ⟨by decide +kernel, rfl⟩
theorem eX0_init_42 : dk cX0_init 42 (.newarray .byte) 2 44 := ⟨by decide +kernel, rfl⟩
theorem eX0_init_44 : dk cX0_init 44 (.putfield 23) 3 47 := ⟨by decide +kernel, rfl⟩
theorem eX0_init_47 : dk cX0_init 47 (.return_) 1 48 := ⟨by decide +kernel, rfl⟩
theorem eX0_pen_0 : dk cX0_pen 0 (.iload_n 1) 1 1 := ⟨by decide +kernel, rfl⟩
theorem eX0_pen_1 : db cX0_pen 1 (.ifCond .lt) 4 9 := ⟨8, by decide +kernel, rfl, by decide⟩
theorem eX0_pen_4 : dk cX0_pen 4 (.iload_n 1) 1 5 := ⟨by decide +kernel, rfl⟩
theorem eX0_pen_5 : dk cX0_pen 5 (.iconst 2) 1 6 := ⟨by decide +kernel, rfl⟩
theorem eX0_pen_6 : db cX0_pen 6 (.if_icmp .le) 9 11 := ⟨5, by decide +kernel, rfl, by decide⟩
theorem eX0_pen_9 : dk cX0_pen 9 (.iconst 0) 1 10 := ⟨by decide +kernel, rfl⟩
theorem eX0_pen_10 : dk cX0_pen 10 (.ireturn) 1 11 := ⟨by decide +kernel, rfl⟩
theorem eX0_pen_11 : dk cX0_pen 11 (.aload_n 0) 1 12 := ⟨by decide +kernel, rfl⟩
theorem eX0_pen_12 : dk cX0_pen 12 (.iload_n 1) 1 13 := ⟨by decide +kernel, rfl⟩
theorem eX0_pen_13 : dk cX0_pen 13 (.putfield 26) 3 16 := ⟨by decide +kernel, rfl⟩
theorem eX0_pen_16 : dk cX0_pen 16 (.iconst 1) 1 17 := ⟨by decide +kernel, rfl⟩
theorem eX0_pen_17 : dk cX0_pen 17 (.ireturn) 1 18 := ⟨by decide +kernel, rfl⟩
theorem eX0_line_0 : dk cX0_line 0 (.aload_n 0) 1 1 := ⟨by decide +kernel, rfl⟩
theorem eX0_line_1 : dk cX0_line 1 (.iload_n 1) 1 2 := ⟨by decide +kernel, rfl⟩
theorem eX0_line_2 : dk cX0_line 2 (.invokevirtual 30) 3 5 := ⟨by decide +kernel, rfl⟩
theorem eX0_line_5 : db cX0_line 5 (.ifCond .eq) 8 16 := ⟨11, by decide +kernel, rfl, by decide⟩
theorem eX0_line_8 : dk cX0_line 8 (.aload_n 0) 1 9 := ⟨by decide +kernel, rfl⟩
theorem eX0_line_9 : dk cX0_line 9 (.iload_n 2) 1 10 := ⟨by decide +kernel, rfl⟩
theorem eX0_line_10 : dk cX0_line 10 (.invokevirtual 30) 3 13 := ⟨by decide +kernel, rfl⟩
theorem eX0_line_13 : db cX0_line 13 (.ifCond .ne) 16 18 := ⟨5, by decide +kernel, rfl, by decide⟩
theorem eX0_line_16 : dk cX0_line 16 (.iconst (-1)) 1 17 := ⟨by decide +kernel, rfl⟩
theorem eX0_line_17 : dk cX0_line 17 (.ireturn) 1 18 := ⟨by decide +kernel, rfl⟩
theorem eX0_line_18 : dk cX0_line 18 (.aload_n 0) 1 19 := ⟨by decide +kernel, rfl⟩
theorem eX0_line_19 : dk cX0_line 19 (.invokevirtual 34) 3 22 := ⟨by decide +kernel, rfl⟩
theorem eX0_line_22 : dk cX0_line 22 (.aload_n 0) 1 23 := ⟨by decide +kernel, rfl⟩
theorem eX0_line_23 : dk cX0_line 23 (.iload_n 1) 1 24 := ⟨by decide +kernel, rfl⟩
theorem eX0_line_24 : dk cX0_line 24 (.bipush 31) 2 26 := ⟨by decide +kernel, rfl⟩
theorem eX0_line_26 : dk cX0_line 26 (.iand) 1 27 := ⟨by decide +kernel, rfl⟩
theorem eX0_line_27 : dk cX0_line 27 (.iload_n 2) 1 28 := ⟨by decide +kernel, rfl⟩
theorem eX0_line_28 : dk cX0_line 28 (.bipush 31) 2 30 := ⟨by decide +kernel, rfl⟩
theorem eX0_line_30 : dk cX0_line 30 (.iand) 1 31 := ⟨by decide +kernel, rfl⟩
theorem eX0_line_31 : dk cX0_line 31 (.invokevirtual 37) 3 34 := ⟨by decide +kernel, rfl⟩
theorem eX0_line_34 : dk cX0_line 34 (.istore_n 3) 1 35 := ⟨by decide +kernel, rfl⟩
theorem eX0_line_35 : dk cX0_line 35 (.aload_n 0) 1 36 := ⟨by decide +kernel, rfl⟩
theorem eX0_line_36 : dk cX0_line 36 (.iload_n 1) 1 37 := ⟨by decide +kernel, rfl⟩
theorem eX0_line_37 : dk cX0_line 37 (.iconst 5) 1 38 := ⟨by decide +kernel, rfl⟩
theorem eX0_line_38 : dk cX0_line 38 (.ishr) 1 39 := ⟨by decide +kernel, rfl⟩
theorem eX0_line_39 : dk cX0_line 39 (.iload_n 2) 1 40 := ⟨by decide +kernel, rfl⟩
theorem eX0_line_40 : dk cX0_line 40 (.iconst 5) 1 41 := ⟨by decide +kernel, rfl⟩
theorem eX0_line_41 : dk cX0_line 41 (.ishr) 1 42 := ⟨by decide +kernel, rfl⟩
theorem eX0_line_42 : dk cX0_line 42 (.invokevirtual 37) 3 45 := ⟨by decide +kernel, rfl⟩
theorem eX0_line_45 : dk cX0_line 45 (.istore 4) 2 47 := ⟨by decide +kernel, rfl⟩
theorem eX0_line_47 : dk cX0_line 47 (.iload_n 3) 1 48 := ⟨by decide +kernel, rfl⟩
theorem eX0_line_48 : dk cX0_line 48 (.iload 4) 2 50 := ⟨by decide +kernel, rfl⟩
theorem eX0_line_50 : db cX0_line 50 (.if_icmp .lt) 53 75 := ⟨25, by decide +kernel, rfl, by decide⟩
theorem eX0_line_53 : dk cX0_line 53 (.aload_n 0) 1 54 := ⟨by decide +kernel, rfl⟩
theorem eX0_line_54 : dk cX0_line 54 (.iload_n 1) 1 55 := ⟨by decide +kernel, rfl⟩
theorem eX0_line_55 : dk cX0_line 55 (.bipush 31) 2 57 := ⟨by decide +kernel, rfl⟩
theorem eX0_line_57 : dk cX0_line 57 (.iand) 1 58 := ⟨by decide +kernel, rfl⟩
theorem eX0_line_58 : dk cX0_line 58 (.iload_n 1) 1 59 := ⟨by decide +kernel, rfl⟩
theorem eX0_line_59 : dk cX0_line 59 (.iconst 5) 1 60 := ⟨by decide +kernel, rfl⟩
theorem eX0_line_60 : dk cX0_line 60 (.ishr) 1 61 := ⟨by decide +kernel, rfl⟩
theorem eX0_line_61 : dk cX0_line 61 (.iload_n 2) 1 62 := ⟨by decide +kernel, rfl⟩
theorem eX0_line_62 : dk cX0_line 62 (.bipush 31) 2 64 := ⟨by decide +kernel, rfl⟩
theorem eX0_line_64 : dk cX0_line 64 (.iand) 1 65 := ⟨by decide +kernel, rfl⟩
theorem eX0_line_65 : dk cX0_line 65 (.iload_n 2) 1 66 := ⟨by decide +kernel, rfl⟩
theorem eX0_line_66 : dk cX0_line 66 (.iconst 5) 1 67 := ⟨by decide +kernel, rfl⟩
theorem eX0_line_67 : dk cX0_line 67 (.ishr) 1 68 := ⟨by decide +kernel, rfl⟩
theorem eX0_line_68 : dk cX0_line 68 (.iconst 0) 1 69 := ⟨by decide +kernel, rfl⟩
theorem eX0_line_69 : dk cX0_line 69 (.invokevirtual 41) 3 72 := ⟨by decide +kernel, rfl⟩
theorem eX0_line_72 : db cX0_line 72 (.goto) 75 94 := ⟨22, by decide +kernel, rfl, by decide⟩
theorem eX0_line_75 : dk cX0_line 75 (.aload_n 0) 1 76 := ⟨by decide +kernel, rfl⟩
theorem eX0_line_76 : dk cX0_line 76 (.iload_n 1) 1 77 := ⟨by decide +kernel, rfl⟩
theorem eX0_line_77 : dk cX0_line 77 (.iconst 5) 1 78 := ⟨by decide +kernel, rfl⟩
theorem eX0_line_78 : dk cX0_line 78 (.ishr) 1 79 := ⟨by decide +kernel, rfl⟩
theorem eX0_line_79 : dk cX0_line 79 (.iload_n 1) 1 80 := ⟨by decide +kernel, rfl⟩
theorem eX0_line_80 : dk cX0_line 80 (.bipush 31) 2 82 := ⟨by decide +kernel, rfl⟩
theorem eX0_line_82 : dk cX0_line 82 (.iand) 1 83 := ⟨by decide +kernel, rfl⟩
theorem eX0_line_83 : dk cX0_line 83 (.iload_n 2) 1 84 := ⟨by decide +kernel, rfl⟩
theorem eX0_line_84 : dk cX0_line 84 (.iconst 5) 1 85 := ⟨by decide +kernel, rfl⟩
theorem eX0_line_85 : dk cX0_line 85 (.ishr) 1 86 := ⟨by decide +kernel, rfl⟩
theorem eX0_line_86 : dk cX0_line 86 (.iload_n 2) 1 87 := ⟨by decide +kernel, rfl⟩
theorem eX0_line_87 : dk cX0_line 87 (.bipush 31) 2 89 := ⟨by decide +kernel, rfl⟩
theorem eX0_line_89 : dk cX0_line 89 (.iand) 1 90 := ⟨by decide +kernel, rfl⟩
theorem eX0_line_90 : dk cX0_line 90 (.iconst 1) 1 91 := ⟨by decide +kernel, rfl⟩
theorem eX0_line_91 : dk cX0_line 91 (.invokevirtual 41) 3 94 := ⟨by decide +kernel, rfl⟩
theorem eX0_line_94 : dk cX0_line 94 (.aload_n 0) 1 95 := ⟨by decide +kernel, rfl⟩
theorem eX0_line_95 : dk cX0_line 95 (.invokevirtual 45) 3 98 := ⟨by decide +kernel, rfl⟩
theorem eX0_line_98 : dk cX0_line 98 (.ireturn) 1 99 := ⟨by decide +kernel, rfl⟩
theorem eX0_isPixel_0 : dk cX0_isPixel 0 (.iload_n 1) 1 1 := ⟨by decide +kernel, rfl⟩
theorem eX0_isPixel_1 : db cX0_isPixel 1 (.ifCond .lt) 4 25 := ⟨24, by decide +kernel, rfl, by decide⟩
theorem eX0_isPixel_4 : dk cX0_isPixel 4 (.iload_n 1) 1 5 := ⟨by decide +kernel, rfl⟩
theorem eX0_isPixel_5 : dk cX0_isPixel 5 (.bipush 31) 2 7 := ⟨by decide +kernel, rfl⟩
theorem eX0_isPixel_7 : dk cX0_isPixel 7 (.iand) 1 8 := ⟨by decide +kernel, rfl⟩
theorem eX0_isPixel_8 : dk cX0_isPixel 8 (.bipush 24) 2 10 := ⟨by decide +kernel, rfl⟩
theorem eX0_isPixel_10 : db cX0_isPixel 10 (.if_icmp .ge) 13 25 := ⟨15, by decide +kernel, rfl, by decide⟩
theorem eX0_isPixel_13 : dk cX0_isPixel 13 (.iload_n 1) 1 14 := ⟨by decide +kernel, rfl⟩
theorem eX0_isPixel_14 : dk cX0_isPixel 14 (.iconst 5) 1 15 := ⟨by decide +kernel, rfl⟩
theorem eX0_isPixel_15 : dk cX0_isPixel 15 (.ishr) 1 16 := ⟨by decide +kernel, rfl⟩
theorem eX0_isPixel_16 : dk cX0_isPixel 16 (.bipush 24) 2 18 := ⟨by decide +kernel, rfl⟩
theorem eX0_isPixel_18 : db cX0_isPixel 18 (.if_icmp .ge) 21 25 := ⟨7, by decide +kernel, rfl, by decide⟩
theorem eX0_isPixel_21 : dk cX0_isPixel 21 (.iconst 1) 1 22 := ⟨by decide +kernel, rfl⟩
theorem eX0_isPixel_22 : db cX0_isPixel 22 (.goto) 25 26 := ⟨4, by decide +kernel, rfl, by decide⟩
theorem eX0_isPixel_25 : dk cX0_isPixel 25 (.iconst 0) 1 26 := ⟨by decide +kernel, rfl⟩
theorem eX0_isPixel_26 : dk cX0_isPixel 26 (.ireturn) 1 27 := ⟨by decide +kernel, rfl⟩
theorem eX0_clearFigure_0 : dk cX0_clearFigure 0 (.iconst 0) 1 1 := ⟨by decide +kernel, rfl⟩
theorem eX0_clearFigure_1 : dk cX0_clearFigure 1 (.istore_n 1) 1 2 := ⟨by decide +kernel, rfl⟩
theorem eX0_clearFigure_2 : dk cX0_clearFigure 2 (.iload_n 1) 1 3 := ⟨by decide +kernel, rfl⟩
theorem eX0_clearFigure_3 : dk cX0_clearFigure 3 (.bipush 24) 2 5 := ⟨by decide +kernel, rfl⟩
theorem eX0_clearFigure_5 : db cX0_clearFigure 5 (.if_icmp .ge) 8 21 := ⟨16, by decide +kernel, rfl, by decide⟩
theorem eX0_clearFigure_8 : dk cX0_clearFigure 8 (.aload_n 0) 1 9 := ⟨by decide +kernel, rfl⟩
theorem eX0_clearFigure_9 : dk cX0_clearFigure 9 (.getfield 13) 3 12 := ⟨by decide +kernel, rfl⟩
theorem eX0_clearFigure_12 : dk cX0_clearFigure 12 (.iload_n 1) 1 13 := ⟨by decide +kernel, rfl⟩
theorem eX0_clearFigure_13 : dk cX0_clearFigure 13 (.iconst 0) 1 14 := ⟨by decide +kernel, rfl⟩
theorem eX0_clearFigure_14 : dk cX0_clearFigure 14 (.iastore) 1 15 := ⟨by decide +kernel, rfl⟩
theorem eX0_clearFigure_15 : dk cX0_clearFigure 15 (.iinc 1 1) 3 18 := ⟨by decide +kernel, rfl⟩
theorem eX0_clearFigure_18 : db cX0_clearFigure 18 (.goto) 21 2 := ⟨(-16), by decide +kernel, rfl, by decide⟩
theorem eX0_clearFigure_21 : dk cX0_clearFigure 21 (.return_) 1 22 := ⟨by decide +kernel, rfl⟩
theorem eX0_distance_0 : dk cX0_distance 0 (.iload_n 1) 1 1 := ⟨by decide +kernel, rfl⟩
theorem eX0_distance_1 : dk cX0_distance 1 (.iload_n 2) 1 2 := ⟨by decide +kernel, rfl⟩
theorem eX0_distance_2 : db cX0_distance 2 (.if_icmp .ge) 5 11 := ⟨9, by decide +kernel, rfl, by decide⟩
theorem eX0_distance_5 : dk cX0_distance 5 (.iload_n 2) 1 6 := ⟨by decide +kernel, rfl⟩
theorem eX0_distance_6 : dk cX0_distance 6 (.iload_n 1) 1 7 := ⟨by decide +kernel, rfl⟩
theorem eX0_distance_7 : dk cX0_distance 7 (.isub) 1 8 := ⟨by decide +kernel, rfl⟩
theorem eX0_distance_8 : db cX0_distance 8 (.goto) 11 14 := ⟨6, by decide +kernel, rfl, by decide⟩
theorem eX0_distance_11 : dk cX0_distance 11 (.iload_n 1) 1 12 := ⟨by decide +kernel, rfl⟩
theorem eX0_distance_12 : dk cX0_distance 12 (.iload_n 2) 1 13 := ⟨by decide +kernel, rfl⟩
theorem eX0_distance_13 : dk cX0_distance 13 (.isub) 1 14 := ⟨by decide +kernel, rfl⟩
theorem eX0_distance_14 : dk cX0_distance 14 (.ireturn) 1 15 := ⟨by decide +kernel, rfl⟩
theorem eX0_walkLine_0 : dk cX0_walkLine 0 (.iload_n 1) 1 1 := ⟨by decide +kernel, rfl⟩
theorem eX0_walkLine_1 : dk cX0_walkLine 1 (.iload_n 3) 1 2 := ⟨by decide +kernel, rfl⟩
theorem eX0_walkLine_2 : db cX0_walkLine 2 (.if_icmp .gt) 5 9 := ⟨7, by decide +kernel, rfl, by decide⟩
theorem eX0_walkLine_5 : dk cX0_walkLine 5 (.iload_n 1) 1 6 := ⟨by decide +kernel, rfl⟩
theorem eX0_walkLine_6 : db cX0_walkLine 6 (.goto) 9 10 := ⟨4, by decide +kernel, rfl, by decide⟩
theorem eX0_walkLine_9 : dk cX0_walkLine 9 (.iload_n 3) 1 10 := ⟨by decide +kernel, rfl⟩
theorem eX0_walkLine_10 : dk cX0_walkLine 10 (.istore 6) 2 12 := ⟨by decide +kernel, rfl⟩
theorem eX0_walkLine_12 : dk cX0_walkLine 12 (.iload_n 1) 1 13 := ⟨by decide +kernel, rfl⟩
theorem eX0_walkLine_13 : dk cX0_walkLine 13 (.iload_n 3) 1 14 := ⟨by decide +kernel, rfl⟩
theorem eX0_walkLine_14 : db cX0_walkLine 14 (.if_icmp .gt) 17 21 := ⟨7, by decide +kernel, rfl, by decide⟩
theorem eX0_walkLine_17 : dk cX0_walkLine 17 (.iload_n 3) 1 18 := ⟨by decide +kernel, rfl⟩
theorem eX0_walkLine_18 : db cX0_walkLine 18 (.goto) 21 22 := ⟨4, by decide +kernel, rfl, by decide⟩
theorem eX0_walkLine_21 : dk cX0_walkLine 21 (.iload_n 1) 1 22 := ⟨by decide +kernel, rfl⟩
theorem eX0_walkLine_22 : dk cX0_walkLine 22 (.istore 7) 2 24 := ⟨by decide +kernel, rfl⟩
theorem eX0_walkLine_24 : dk cX0_walkLine 24 (.iload_n 1) 1 25 := ⟨by decide +kernel, rfl⟩
theorem eX0_walkLine_25 : dk cX0_walkLine 25 (.iload_n 3) 1 26 := ⟨by decide +kernel, rfl⟩
theorem eX0_walkLine_26 : db cX0_walkLine 26 (.if_icmp .gt) 29 33 := ⟨7, by decide +kernel, rfl, by decide⟩
theorem eX0_walkLine_29 : dk cX0_walkLine 29 (.iload_n 2) 1 30 := ⟨by decide +kernel, rfl⟩
theorem eX0_walkLine_30 : db cX0_walkLine 30 (.goto) 33 35 := ⟨5, by decide +kernel, rfl, by decide⟩
theorem eX0_walkLine_33 : dk cX0_walkLine 33 (.iload 4) 2 35 := ⟨by decide +kernel, rfl⟩
theorem eX0_walkLine_35 : dk cX0_walkLine 35 (.istore 8) 2 37 := ⟨by decide +kernel, rfl⟩
theorem eX0_walkLine_37 : dk cX0_walkLine 37 (.iload_n 1) 1 38 := ⟨by decide +kernel, rfl⟩
theorem eX0_walkLine_38 : dk cX0_walkLine 38 (.iload_n 3) 1 39 := ⟨by decide +kernel, rfl⟩
theorem eX0_walkLine_39 : db cX0_walkLine 39 (.if_icmp .gt) 42 49 := ⟨10, by decide +kernel, rfl, by decide⟩
theorem eX0_walkLine_42 : dk cX0_walkLine 42 (.iload 4) 2 44 := ⟨by decide +kernel, rfl⟩
theorem eX0_walkLine_44 : dk cX0_walkLine 44 (.iload_n 2) 1 45 := ⟨by decide +kernel, rfl⟩
theorem eX0_walkLine_45 : dk cX0_walkLine 45 (.isub) 1 46 := ⟨by decide +kernel, rfl⟩
theorem eX0_walkLine_46 : db cX0_walkLine 46 (.goto) 49 53 := ⟨7, by decide +kernel, rfl, by decide⟩
theorem eX0_walkLine_49 : dk cX0_walkLine 49 (.iload_n 2) 1 50 := ⟨by decide +kernel, rfl⟩
theorem eX0_walkLine_50 : dk cX0_walkLine 50 (.iload 4) 2 52 := ⟨by decide +kernel, rfl⟩
theorem eX0_walkLine_52 : dk cX0_walkLine 52 (.isub) 1 53 := ⟨by decide +kernel, rfl⟩
theorem eX0_walkLine_53 : dk cX0_walkLine 53 (.istore 9) 2 55 := ⟨by decide +kernel, rfl⟩
theorem eX0_walkLine_55 : dk cX0_walkLine 55 (.iload 7) 2 57 := ⟨by decide +kernel, rfl⟩
theorem eX0_walkLine_57 : dk cX0_walkLine 57 (.iload 6) 2 59 := ⟨by decide +kernel, rfl⟩
theorem eX0_walkLine_59 : dk cX0_walkLine 59 (.isub) 1 60 := ⟨by decide +kernel, rfl⟩
theorem eX0_walkLine_60 : dk cX0_walkLine 60 (.istore 10) 2 62 := ⟨by decide +kernel, rfl⟩
theorem eX0_walkLine_62 : dk cX0_walkLine 62 (.iconst 0) 1 63 := ⟨by decide +kernel, rfl⟩
theorem eX0_walkLine_63 : dk cX0_walkLine 63 (.istore 11) 2 65 := ⟨by decide +kernel, rfl⟩
theorem eX0_walkLine_65 : dk cX0_walkLine 65 (.iload 6) 2 67 := ⟨by decide +kernel, rfl⟩
theorem eX0_walkLine_67 : dk cX0_walkLine 67 (.istore 12) 2 69 := ⟨by decide +kernel, rfl⟩
theorem eX0_walkLine_69 : dk cX0_walkLine 69 (.iload 12) 2 71 := ⟨by decide +kernel, rfl⟩
theorem eX0_walkLine_71 : dk cX0_walkLine 71 (.iload 7) 2 73 := ⟨by decide +kernel, rfl⟩
theorem eX0_walkLine_73 : db cX0_walkLine 73 (.if_icmp .gt) 76 162 := ⟨89, by decide +kernel, rfl, by decide⟩
theorem eX0_walkLine_76 : dk cX0_walkLine 76 (.iload 5) 2 78 := ⟨by decide +kernel, rfl⟩
theorem eX0_walkLine_78 : db cX0_walkLine 78 (.ifCond .eq) 81 92 := ⟨14, by decide +kernel, rfl, by decide⟩
theorem eX0_walkLine_81 : dk cX0_walkLine 81 (.aload_n 0) 1 82 := ⟨by decide +kernel, rfl⟩
theorem eX0_walkLine_82 : dk cX0_walkLine 82 (.iload 8) 2 84 := ⟨by decide +kernel, rfl⟩
theorem eX0_walkLine_84 : dk cX0_walkLine 84 (.iload 12) 2 86 := ⟨by decide +kernel, rfl⟩
theorem eX0_walkLine_86 : dk cX0_walkLine 86 (.invokevirtual 79) 3 89 := ⟨by decide +kernel, rfl⟩
theorem eX0_walkLine_89 : db cX0_walkLine 89 (.goto) 92 100 := ⟨11, by decide +kernel, rfl, by decide⟩
theorem eX0_walkLine_92 : dk cX0_walkLine 92 (.aload_n 0) 1 93 := ⟨by decide +kernel, rfl⟩
theorem eX0_walkLine_93 : dk cX0_walkLine 93 (.iload 12) 2 95 := ⟨by decide +kernel, rfl⟩
theorem eX0_walkLine_95 : dk cX0_walkLine 95 (.iload 8) 2 97 := ⟨by decide +kernel, rfl⟩
theorem eX0_walkLine_97 : dk cX0_walkLine 97 (.invokevirtual 79) 3 100 := ⟨by decide +kernel, rfl⟩
theorem eX0_walkLine_100 : dk cX0_walkLine 100 (.iload 11) 2 102 := ⟨by decide +kernel, rfl⟩
theorem eX0_walkLine_102 : dk cX0_walkLine 102 (.iconst 2) 1 103 := ⟨by decide +kernel, rfl⟩
theorem eX0_walkLine_103 : dk cX0_walkLine 103 (.iload 9) 2 105 := ⟨by decide +kernel, rfl⟩
theorem eX0_walkLine_105 : dk cX0_walkLine 105 (.imul) 1 106 := ⟨by decide +kernel, rfl⟩
theorem eX0_walkLine_106 : dk cX0_walkLine 106 (.iadd) 1 107 := ⟨by decide +kernel, rfl⟩
theorem eX0_walkLine_107 : dk cX0_walkLine 107 (.istore 11) 2 109 := ⟨by decide +kernel, rfl⟩
theorem eX0_walkLine_109 : dk cX0_walkLine 109 (.iload 11) 2 111 := ⟨by decide +kernel, rfl⟩
theorem eX0_walkLine_111 : dk cX0_walkLine 111 (.iload 10) 2 113 := ⟨by decide +kernel, rfl⟩
theorem eX0_walkLine_113 : db cX0_walkLine 113 (.if_icmp .le) 116 131 := ⟨18, by decide +kernel, rfl, by decide⟩
theorem eX0_walkLine_116 : dk cX0_walkLine 116 (.iinc 8 1) 3 119 := ⟨by decide +kernel, rfl⟩
theorem eX0_walkLine_119 : dk cX0_walkLine 119 (.iload 11) 2 121 := ⟨by decide +kernel, rfl⟩
theorem eX0_walkLine_121 : dk cX0_walkLine 121 (.iconst 2) 1 122 := ⟨by decide +kernel, rfl⟩
theorem eX0_walkLine_122 : dk cX0_walkLine 122 (.iload 10) 2 124 := ⟨by decide +kernel, rfl⟩
theorem eX0_walkLine_124 : dk cX0_walkLine 124 (.imul) 1 125 := ⟨by decide +kernel, rfl⟩
theorem eX0_walkLine_125 : dk cX0_walkLine 125 (.isub) 1 126 := ⟨by decide +kernel, rfl⟩
theorem eX0_walkLine_126 : dk cX0_walkLine 126 (.istore 11) 2 128 := ⟨by decide +kernel, rfl⟩
theorem eX0_walkLine_128 : db cX0_walkLine 128 (.goto) 131 156 := ⟨28, by decide +kernel, rfl, by decide⟩
theorem eX0_walkLine_131 : dk cX0_walkLine 131 (.iload 11) 2 133 := ⟨by decide +kernel, rfl⟩
theorem eX0_walkLine_133 : dk cX0_walkLine 133 (.iload 10) 2 135 := ⟨by decide +kernel, rfl⟩
theorem eX0_walkLine_135 : dk cX0_walkLine 135 (.ineg) 1 136 := ⟨by decide +kernel, rfl⟩
theorem eX0_walkLine_136 : db cX0_walkLine 136 (.if_icmp .gt) 139 156 := ⟨20, by decide +kernel, rfl, by decide⟩
theorem eX0_walkLine_139 : dk cX0_walkLine 139 (.iload 10) 2 141 := ⟨by decide +kernel, rfl⟩
theorem eX0_walkLine_141 : db cX0_walkLine 141 (.ifCond .le) 144 156 := ⟨15, by decide +kernel, rfl, by decide⟩
theorem eX0_walkLine_144 : dk cX0_walkLine 144 (.iinc 8 (-1)) 3 147 := ⟨by decide +kernel, rfl⟩
theorem eX0_walkLine_147 : dk cX0_walkLine 147 (.iload 11) 2 149 := ⟨by decide +kernel, rfl⟩
theorem eX0_walkLine_149 : dk cX0_walkLine 149 (.iconst 2) 1 150 := ⟨by decide +kernel, rfl⟩
theorem eX0_walkLine_150 : dk cX0_walkLine 150 (.iload 10) 2 152 := ⟨by decide +kernel, rfl⟩
theorem eX0_walkLine_152 : dk cX0_walkLine 152 (.imul) 1 153 := ⟨by decide +kernel, rfl⟩
theorem eX0_walkLine_153 : dk cX0_walkLine 153 (.iadd) 1 154 := ⟨by decide +kernel, rfl⟩
theorem eX0_walkLine_154 : dk cX0_walkLine 154 (.istore 11) 2 156 := ⟨by decide +kernel, rfl⟩
theorem eX0_walkLine_156 : dk cX0_walkLine 156 (.iinc 12 1) 3 159 := ⟨by decide +kernel, rfl⟩
theorem eX0_walkLine_159 : db cX0_walkLine 159 (.goto) 162 69 := ⟨(-90), by decide +kernel, rfl, by decide⟩
theorem eX0_walkLine_162 : dk cX0_walkLine 162 (.return_) 1 163 := ⟨by decide +kernel, rfl⟩
theorem eX0_dot_0 : dk cX0_dot 0 (.iload_n 1) 1 1 := ⟨by decide +kernel, rfl⟩
theorem eX0_dot_1 : db cX0_dot 1 (.ifCond .lt) 4 32 := ⟨31, by decide +kernel, rfl, by decide⟩
theorem eX0_dot_4 : dk cX0_dot 4 (.iload_n 1) 1 5 := ⟨by decide +kernel, rfl⟩
theorem eX0_dot_5 : dk cX0_dot 5 (.bipush 24) 2 7 := ⟨by decide +kernel, rfl⟩
theorem eX0_dot_7 : db cX0_dot 7 (.if_icmp .ge) 10 32 := ⟨25, by decide +kernel, rfl, by decide⟩
theorem eX0_dot_10 : dk cX0_dot 10 (.iload_n 2) 1 11 := ⟨by decide +kernel, rfl⟩
theorem eX0_dot_11 : db cX0_dot 11 (.ifCond .lt) 14 32 := ⟨21, by decide +kernel, rfl, by decide⟩
theorem eX0_dot_14 : dk cX0_dot 14 (.iload_n 2) 1 15 := ⟨by decide +kernel, rfl⟩
theorem eX0_dot_15 : dk cX0_dot 15 (.bipush 24) 2 17 := ⟨by decide +kernel, rfl⟩
theorem eX0_dot_17 : db cX0_dot 17 (.if_icmp .ge) 20 32 := ⟨15, by decide +kernel, rfl, by decide⟩
theorem eX0_dot_20 : dk cX0_dot 20 (.aload_n 0) 1 21 := ⟨by decide +kernel, rfl⟩
theorem eX0_dot_21 : dk cX0_dot 21 (.getfield 13) 3 24 := ⟨by decide +kernel, rfl⟩
theorem eX0_dot_24 : dk cX0_dot 24 (.iload_n 2) 1 25 := ⟨by decide +kernel, rfl⟩
theorem eX0_dot_25 : dk cX0_dot 25 (.dup2) 1 26 := ⟨by decide +kernel, rfl⟩
theorem eX0_dot_26 : dk cX0_dot 26 (.iaload) 1 27 := ⟨by decide +kernel, rfl⟩
theorem eX0_dot_27 : dk cX0_dot 27 (.iconst 1) 1 28 := ⟨by decide +kernel, rfl⟩
theorem eX0_dot_28 : dk cX0_dot 28 (.iload_n 1) 1 29 := ⟨by decide +kernel, rfl⟩
theorem eX0_dot_29 : dk cX0_dot 29 (.ishl) 1 30 := ⟨by decide +kernel, rfl⟩
theorem eX0_dot_30 : dk cX0_dot 30 (.ior) 1 31 := ⟨by decide +kernel, rfl⟩
theorem eX0_dot_31 : dk cX0_dot 31 (.iastore) 1 32 := ⟨by decide +kernel, rfl⟩
theorem eX0_dot_32 : dk cX0_dot 32 (.return_) 1 33 := ⟨by decide +kernel, rfl⟩
theorem eX0_ink_0 : dk cX0_ink 0 (.iconst 0) 1 1 := ⟨by decide +kernel, rfl⟩
theorem eX0_ink_1 : dk cX0_ink 1 (.istore_n 1) 1 2 := ⟨by decide +kernel, rfl⟩
theorem eX0_ink_2 : dk cX0_ink 2 (.iconst 0) 1 3 := ⟨by decide +kernel, rfl⟩
theorem eX0_ink_3 : dk cX0_ink 3 (.istore_n 2) 1 4 := ⟨by decide +kernel, rfl⟩
theorem eX0_ink_4 : dk cX0_ink 4 (.iload_n 2) 1 5 := ⟨by decide +kernel, rfl⟩
theorem eX0_ink_5 : dk cX0_ink 5 (.bipush 24) 2 7 := ⟨by decide +kernel, rfl⟩
theorem eX0_ink_7 : db cX0_ink 7 (.if_icmp .ge) 10 101 := ⟨94, by decide +kernel, rfl, by decide⟩
theorem eX0_ink_10 : dk cX0_ink 10 (.aload_n 0) 1 11 := ⟨by decide +kernel, rfl⟩
theorem eX0_ink_11 : dk cX0_ink 11 (.getfield 26) 3 14 := ⟨by decide +kernel, rfl⟩
theorem eX0_ink_14 : db cX0_ink 14 (.ifCond .ne) 17 33 := ⟨19, by decide +kernel, rfl, by decide⟩
theorem eX0_ink_17 : dk cX0_ink 17 (.aload_n 0) 1 18 := ⟨by decide +kernel, rfl⟩
theorem eX0_ink_18 : dk cX0_ink 18 (.getfield 7) 3 21 := ⟨by decide +kernel, rfl⟩
theorem eX0_ink_21 : dk cX0_ink 21 (.iload_n 2) 1 22 := ⟨by decide +kernel, rfl⟩
theorem eX0_ink_22 : dk cX0_ink 22 (.iaload) 1 23 := ⟨by decide +kernel, rfl⟩
theorem eX0_ink_23 : dk cX0_ink 23 (.aload_n 0) 1 24 := ⟨by decide +kernel, rfl⟩
theorem eX0_ink_24 : dk cX0_ink 24 (.getfield 13) 3 27 := ⟨by decide +kernel, rfl⟩
theorem eX0_ink_27 : dk cX0_ink 27 (.iload_n 2) 1 28 := ⟨by decide +kernel, rfl⟩
theorem eX0_ink_28 : dk cX0_ink 28 (.iaload) 1 29 := ⟨by decide +kernel, rfl⟩
theorem eX0_ink_29 : dk cX0_ink 29 (.ior) 1 30 := ⟨by decide +kernel, rfl⟩
theorem eX0_ink_30 : db cX0_ink 30 (.goto) 33 72 := ⟨42, by decide +kernel, rfl, by decide⟩
theorem eX0_ink_33 : dk cX0_ink 33 (.aload_n 0) 1 34 := ⟨by decide +kernel, rfl⟩
theorem eX0_ink_34 : dk cX0_ink 34 (.getfield 26) 3 37 := ⟨by decide +kernel, rfl⟩
theorem eX0_ink_37 : dk cX0_ink 37 (.iconst 1) 1 38 := ⟨by decide +kernel, rfl⟩
theorem eX0_ink_38 : db cX0_ink 38 (.if_icmp .ne) 41 59 := ⟨21, by decide +kernel, rfl, by decide⟩
theorem eX0_ink_41 : dk cX0_ink 41 (.aload_n 0) 1 42 := ⟨by decide +kernel, rfl⟩
theorem eX0_ink_42 : dk cX0_ink 42 (.getfield 7) 3 45 := ⟨by decide +kernel, rfl⟩
theorem eX0_ink_45 : dk cX0_ink 45 (.iload_n 2) 1 46 := ⟨by decide +kernel, rfl⟩
theorem eX0_ink_46 : dk cX0_ink 46 (.iaload) 1 47 := ⟨by decide +kernel, rfl⟩
theorem eX0_ink_47 : dk cX0_ink 47 (.aload_n 0) 1 48 := ⟨by decide +kernel, rfl⟩
theorem eX0_ink_48 : dk cX0_ink 48 (.getfield 13) 3 51 := ⟨by decide +kernel, rfl⟩
theorem eX0_ink_51 : dk cX0_ink 51 (.iload_n 2) 1 52 := ⟨by decide +kernel, rfl⟩
theorem eX0_ink_52 : dk cX0_ink 52 (.iaload) 1 53 := ⟨by decide +kernel, rfl⟩
theorem eX0_ink_53 : dk cX0_ink 53 (.iconst (-1)) 1 54 := ⟨by decide +kernel, rfl⟩
theorem eX0_ink_54 : dk cX0_ink 54 (.ixor) 1 55 := ⟨by decide +kernel, rfl⟩
theorem eX0_ink_55 : dk cX0_ink 55 (.iand) 1 56 := ⟨by decide +kernel, rfl⟩
theorem eX0_ink_56 : db cX0_ink 56 (.goto) 59 72 := ⟨16, by decide +kernel, rfl, by decide⟩
theorem eX0_ink_59 : dk cX0_ink 59 (.aload_n 0) 1 60 := ⟨by decide +kernel, rfl⟩
theorem eX0_ink_60 : dk cX0_ink 60 (.getfield 7) 3 63 := ⟨by decide +kernel, rfl⟩
theorem eX0_ink_63 : dk cX0_ink 63 (.iload_n 2) 1 64 := ⟨by decide +kernel, rfl⟩
theorem eX0_ink_64 : dk cX0_ink 64 (.iaload) 1 65 := ⟨by decide +kernel, rfl⟩
theorem eX0_ink_65 : dk cX0_ink 65 (.aload_n 0) 1 66 := ⟨by decide +kernel, rfl⟩
theorem eX0_ink_66 : dk cX0_ink 66 (.getfield 13) 3 69 := ⟨by decide +kernel, rfl⟩
theorem eX0_ink_69 : dk cX0_ink 69 (.iload_n 2) 1 70 := ⟨by decide +kernel, rfl⟩
theorem eX0_ink_70 : dk cX0_ink 70 (.iaload) 1 71 := ⟨by decide +kernel, rfl⟩
theorem eX0_ink_71 : dk cX0_ink 71 (.ixor) 1 72 := ⟨by decide +kernel, rfl⟩
theorem eX0_ink_72 : dk cX0_ink 72 (.istore_n 3) 1 73 := ⟨by decide +kernel, rfl⟩
theorem eX0_ink_73 : dk cX0_ink 73 (.iload_n 1) 1 74 := ⟨by decide +kernel, rfl⟩
theorem eX0_ink_74 : dk cX0_ink 74 (.aload_n 0) 1 75 := ⟨by decide +kernel, rfl⟩
theorem eX0_ink_75 : dk cX0_ink 75 (.aload_n 0) 1 76 := ⟨by decide +kernel, rfl⟩
theorem eX0_ink_76 : dk cX0_ink 76 (.getfield 7) 3 79 := ⟨by decide +kernel, rfl⟩
theorem eX0_ink_79 : dk cX0_ink 79 (.iload_n 2) 1 80 := ⟨by decide +kernel, rfl⟩
theorem eX0_ink_80 : dk cX0_ink 80 (.iaload) 1 81 := ⟨by decide +kernel, rfl⟩
theorem eX0_ink_81 : dk cX0_ink 81 (.iload_n 3) 1 82 := ⟨by decide +kernel, rfl⟩
theorem eX0_ink_82 : dk cX0_ink 82 (.ixor) 1 83 := ⟨by decide +kernel, rfl⟩
theorem eX0_ink_83 : dk cX0_ink 83 (.invokevirtual 72) 3 86 := ⟨by decide +kernel, rfl⟩
theorem eX0_ink_86 : dk cX0_ink 86 (.iadd) 1 87 := ⟨by decide +kernel, rfl⟩
theorem eX0_ink_87 : dk cX0_ink 87 (.istore_n 1) 1 88 := ⟨by decide +kernel, rfl⟩
theorem eX0_ink_88 : dk cX0_ink 88 (.aload_n 0) 1 89 := ⟨by decide +kernel, rfl⟩
theorem eX0_ink_89 : dk cX0_ink 89 (.getfield 7) 3 92 := ⟨by decide +kernel, rfl⟩
theorem eX0_ink_92 : dk cX0_ink 92 (.iload_n 2) 1 93 := ⟨by decide +kernel, rfl⟩
theorem eX0_ink_93 : dk cX0_ink 93 (.iload_n 3) 1 94 := ⟨by decide +kernel, rfl⟩
theorem eX0_ink_94 : dk cX0_ink 94 (.iastore) 1 95 := ⟨by decide +kernel, rfl⟩
theorem eX0_ink_95 : dk cX0_ink 95 (.iinc 2 1) 3 98 := ⟨by decide +kernel, rfl⟩
theorem eX0_ink_98 : db cX0_ink 98 (.goto) 101 4 := ⟨(-94), by decide +kernel, rfl, by decide⟩
theorem eX0_ink_101 : dk cX0_ink 101 (.iload_n 1) 1 102 := ⟨by decide +kernel, rfl⟩
theorem eX0_ink_102 : dk cX0_ink 102 (.ireturn) 1 103 := ⟨by decide +kernel, rfl⟩
theorem eX0_bitsIn_0 : dk cX0_bitsIn 0 (.iconst 0) 1 1 := ⟨by decide +kernel, rfl⟩
theorem eX0_bitsIn_1 : dk cX0_bitsIn 1 (.istore_n 2) 1 2 := ⟨by decide +kernel, rfl⟩
theorem eX0_bitsIn_2 : dk cX0_bitsIn 2 (.iload_n 1) 1 3 := ⟨by decide +kernel, rfl⟩
theorem eX0_bitsIn_3 : dk cX0_bitsIn 3 (.istore_n 3) 1 4 := ⟨by decide +kernel, rfl⟩
theorem eX0_bitsIn_4 : dk cX0_bitsIn 4 (.iload_n 3) 1 5 := ⟨by decide +kernel, rfl⟩
theorem eX0_bitsIn_5 : db cX0_bitsIn 5 (.ifCond .eq) 8 20 := ⟨15, by decide +kernel, rfl, by decide⟩
theorem eX0_bitsIn_8 : dk cX0_bitsIn 8 (.iload_n 3) 1 9 := ⟨by decide +kernel, rfl⟩
theorem eX0_bitsIn_9 : dk cX0_bitsIn 9 (.iload_n 3) 1 10 := ⟨by decide +kernel, rfl⟩
theorem eX0_bitsIn_10 : dk cX0_bitsIn 10 (.iconst 1) 1 11 := ⟨by decide +kernel, rfl⟩
theorem eX0_bitsIn_11 : dk cX0_bitsIn 11 (.isub) 1 12 := ⟨by decide +kernel, rfl⟩
theorem eX0_bitsIn_12 : dk cX0_bitsIn 12 (.iand) 1 13 := ⟨by decide +kernel, rfl⟩
theorem eX0_bitsIn_13 : dk cX0_bitsIn 13 (.istore_n 3) 1 14 := ⟨by decide +kernel, rfl⟩
theorem eX0_bitsIn_14 : dk cX0_bitsIn 14 (.iinc 2 1) 3 17 := ⟨by decide +kernel, rfl⟩
theorem eX0_bitsIn_17 : db cX0_bitsIn 17 (.goto) 20 4 := ⟨(-13), by decide +kernel, rfl, by decide⟩
theorem eX0_bitsIn_20 : dk cX0_bitsIn 20 (.iload_n 2) 1 21 := ⟨by decide +kernel, rfl⟩
theorem eX0_bitsIn_21 : dk cX0_bitsIn 21 (.ireturn) 1 22 := ⟨by decide +kernel, rfl⟩
theorem eX0_disc_0 : dk cX0_disc 0 (.aload_n 0) 1 1 := ⟨by decide +kernel, rfl⟩
theorem eX0_disc_1 : dk cX0_disc 1 (.iload_n 1) 1 2 := ⟨by decide +kernel, rfl⟩
theorem eX0_disc_2 : dk cX0_disc 2 (.invokevirtual 30) 3 5 := ⟨by decide +kernel, rfl⟩
theorem eX0_disc_5 : db cX0_disc 5 (.ifCond .eq) 8 18 := ⟨13, by decide +kernel, rfl, by decide⟩
theorem eX0_disc_8 : dk cX0_disc 8 (.iload_n 2) 1 9 := ⟨by decide +kernel, rfl⟩
theorem eX0_disc_9 : db cX0_disc 9 (.ifCond .lt) 12 18 := ⟨9, by decide +kernel, rfl, by decide⟩
theorem eX0_disc_12 : dk cX0_disc 12 (.iload_n 2) 1 13 := ⟨by decide +kernel, rfl⟩
theorem eX0_disc_13 : dk cX0_disc 13 (.bipush 30) 2 15 := ⟨by decide +kernel, rfl⟩
theorem eX0_disc_15 : db cX0_disc 15 (.if_icmp .le) 18 20 := ⟨5, by decide +kernel, rfl, by decide⟩
theorem eX0_disc_18 : dk cX0_disc 18 (.iconst (-1)) 1 19 := ⟨by decide +kernel, rfl⟩
theorem eX0_disc_19 : dk cX0_disc 19 (.ireturn) 1 20 := ⟨by decide +kernel, rfl⟩
theorem eX0_disc_20 : dk cX0_disc 20 (.aload_n 0) 1 21 := ⟨by decide +kernel, rfl⟩
theorem eX0_disc_21 : dk cX0_disc 21 (.invokevirtual 34) 3 24 := ⟨by decide +kernel, rfl⟩
theorem eX0_disc_24 : dk cX0_disc 24 (.aload_n 0) 1 25 := ⟨by decide +kernel, rfl⟩
theorem eX0_disc_25 : dk cX0_disc 25 (.iload_n 1) 1 26 := ⟨by decide +kernel, rfl⟩
theorem eX0_disc_26 : dk cX0_disc 26 (.iload_n 2) 1 27 := ⟨by decide +kernel, rfl⟩
theorem eX0_disc_27 : dk cX0_disc 27 (.iload_n 2) 1 28 := ⟨by decide +kernel, rfl⟩
theorem eX0_disc_28 : dk cX0_disc 28 (.invokevirtual 49) 3 31 := ⟨by decide +kernel, rfl⟩
theorem eX0_disc_31 : dk cX0_disc 31 (.aload_n 0) 1 32 := ⟨by decide +kernel, rfl⟩
theorem eX0_disc_32 : dk cX0_disc 32 (.invokevirtual 45) 3 35 := ⟨by decide +kernel, rfl⟩
theorem eX0_disc_35 : dk cX0_disc 35 (.ireturn) 1 36 := ⟨by decide +kernel, rfl⟩
theorem eX0_drawBlot_0 : dk cX0_drawBlot 0 (.iload_n 1) 1 1 := ⟨by decide +kernel, rfl⟩
theorem eX0_drawBlot_1 : dk cX0_drawBlot 1 (.bipush 31) 2 3 := ⟨by decide +kernel, rfl⟩
theorem eX0_drawBlot_3 : dk cX0_drawBlot 3 (.iand) 1 4 := ⟨by decide +kernel, rfl⟩
theorem eX0_drawBlot_4 : dk cX0_drawBlot 4 (.istore 4) 2 6 := ⟨by decide +kernel, rfl⟩
theorem eX0_drawBlot_6 : dk cX0_drawBlot 6 (.iload_n 1) 1 7 := ⟨by decide +kernel, rfl⟩
theorem eX0_drawBlot_7 : dk cX0_drawBlot 7 (.iconst 5) 1 8 := ⟨by decide +kernel, rfl⟩
theorem eX0_drawBlot_8 : dk cX0_drawBlot 8 (.ishr) 1 9 := ⟨by decide +kernel, rfl⟩
theorem eX0_drawBlot_9 : dk cX0_drawBlot 9 (.istore 5) 2 11 := ⟨by decide +kernel, rfl⟩
theorem eX0_drawBlot_11 : dk cX0_drawBlot 11 (.iload_n 2) 1 12 := ⟨by decide +kernel, rfl⟩
theorem eX0_drawBlot_12 : dk cX0_drawBlot 12 (.istore 6) 2 14 := ⟨by decide +kernel, rfl⟩
theorem eX0_drawBlot_14 : dk cX0_drawBlot 14 (.iconst 0) 1 15 := ⟨by decide +kernel, rfl⟩
theorem eX0_drawBlot_15 : dk cX0_drawBlot 15 (.istore 7) 2 17 := ⟨by decide +kernel, rfl⟩
theorem eX0_drawBlot_17 : dk cX0_drawBlot 17 (.iload 7) 2 19 := ⟨by decide +kernel, rfl⟩
theorem eX0_drawBlot_19 : dk cX0_drawBlot 19 (.iload_n 3) 1 20 := ⟨by decide +kernel, rfl⟩
theorem eX0_drawBlot_20 : db cX0_drawBlot 20 (.if_icmp .gt) 23 113 := ⟨93, by decide +kernel, rfl, by decide⟩
theorem eX0_drawBlot_23 : dk cX0_drawBlot 23 (.iload 6) 2 25 := ⟨by decide +kernel, rfl⟩
theorem eX0_drawBlot_25 : db cX0_drawBlot 25 (.ifCond .lt) 28 63 := ⟨38, by decide +kernel, rfl, by decide⟩
theorem eX0_drawBlot_28 : dk cX0_drawBlot 28 (.iload_n 3) 1 29 := ⟨by decide +kernel, rfl⟩
theorem eX0_drawBlot_29 : dk cX0_drawBlot 29 (.iload_n 3) 1 30 := ⟨by decide +kernel, rfl⟩
theorem eX0_drawBlot_30 : dk cX0_drawBlot 30 (.imul) 1 31 := ⟨by decide +kernel, rfl⟩
theorem eX0_drawBlot_31 : dk cX0_drawBlot 31 (.iload 6) 2 33 := ⟨by decide +kernel, rfl⟩
theorem eX0_drawBlot_33 : dk cX0_drawBlot 33 (.imul) 1 34 := ⟨by decide +kernel, rfl⟩
theorem eX0_drawBlot_34 : dk cX0_drawBlot 34 (.iload 6) 2 36 := ⟨by decide +kernel, rfl⟩
theorem eX0_drawBlot_36 : dk cX0_drawBlot 36 (.imul) 1 37 := ⟨by decide +kernel, rfl⟩
theorem eX0_drawBlot_37 : dk cX0_drawBlot 37 (.iload_n 2) 1 38 := ⟨by decide +kernel, rfl⟩
theorem eX0_drawBlot_38 : dk cX0_drawBlot 38 (.iload_n 2) 1 39 := ⟨by decide +kernel, rfl⟩
theorem eX0_drawBlot_39 : dk cX0_drawBlot 39 (.imul) 1 40 := ⟨by decide +kernel, rfl⟩
theorem eX0_drawBlot_40 : dk cX0_drawBlot 40 (.iload 7) 2 42 := ⟨by decide +kernel, rfl⟩
theorem eX0_drawBlot_42 : dk cX0_drawBlot 42 (.imul) 1 43 := ⟨by decide +kernel, rfl⟩
theorem eX0_drawBlot_43 : dk cX0_drawBlot 43 (.iload 7) 2 45 := ⟨by decide +kernel, rfl⟩
theorem eX0_drawBlot_45 : dk cX0_drawBlot 45 (.imul) 1 46 := ⟨by decide +kernel, rfl⟩
theorem eX0_drawBlot_46 : dk cX0_drawBlot 46 (.iadd) 1 47 := ⟨by decide +kernel, rfl⟩
theorem eX0_drawBlot_47 : dk cX0_drawBlot 47 (.iload_n 2) 1 48 := ⟨by decide +kernel, rfl⟩
theorem eX0_drawBlot_48 : dk cX0_drawBlot 48 (.iload_n 2) 1 49 := ⟨by decide +kernel, rfl⟩
theorem eX0_drawBlot_49 : dk cX0_drawBlot 49 (.imul) 1 50 := ⟨by decide +kernel, rfl⟩
theorem eX0_drawBlot_50 : dk cX0_drawBlot 50 (.iload_n 3) 1 51 := ⟨by decide +kernel, rfl⟩
theorem eX0_drawBlot_51 : dk cX0_drawBlot 51 (.imul) 1 52 := ⟨by decide +kernel, rfl⟩
theorem eX0_drawBlot_52 : dk cX0_drawBlot 52 (.iload_n 3) 1 53 := ⟨by decide +kernel, rfl⟩
theorem eX0_drawBlot_53 : dk cX0_drawBlot 53 (.imul) 1 54 := ⟨by decide +kernel, rfl⟩
theorem eX0_drawBlot_54 : db cX0_drawBlot 54 (.if_icmp .le) 57 63 := ⟨9, by decide +kernel, rfl, by decide⟩
theorem eX0_drawBlot_57 : dk cX0_drawBlot 57 (.iinc 6 (-1)) 3 60 := ⟨by decide +kernel, rfl⟩
theorem eX0_drawBlot_60 : db cX0_drawBlot 60 (.goto) 63 23 := ⟨(-37), by decide +kernel, rfl, by decide⟩
theorem eX0_drawBlot_63 : dk cX0_drawBlot 63 (.iload 6) 2 65 := ⟨by decide +kernel, rfl⟩
theorem eX0_drawBlot_65 : db cX0_drawBlot 65 (.ifCond .ge) 68 69 := ⟨4, by decide +kernel, rfl, by decide⟩
theorem eX0_drawBlot_68 : dk cX0_drawBlot 68 (.return_) 1 69 := ⟨by decide +kernel, rfl⟩
theorem eX0_drawBlot_69 : dk cX0_drawBlot 69 (.aload_n 0) 1 70 := ⟨by decide +kernel, rfl⟩
theorem eX0_drawBlot_70 : dk cX0_drawBlot 70 (.iload 5) 2 72 := ⟨by decide +kernel, rfl⟩
theorem eX0_drawBlot_72 : dk cX0_drawBlot 72 (.iload 7) 2 74 := ⟨by decide +kernel, rfl⟩
theorem eX0_drawBlot_74 : dk cX0_drawBlot 74 (.iadd) 1 75 := ⟨by decide +kernel, rfl⟩
theorem eX0_drawBlot_75 : dk cX0_drawBlot 75 (.iload 4) 2 77 := ⟨by decide +kernel, rfl⟩
theorem eX0_drawBlot_77 : dk cX0_drawBlot 77 (.iload 6) 2 79 := ⟨by decide +kernel, rfl⟩
theorem eX0_drawBlot_79 : dk cX0_drawBlot 79 (.isub) 1 80 := ⟨by decide +kernel, rfl⟩
theorem eX0_drawBlot_80 : dk cX0_drawBlot 80 (.iload 4) 2 82 := ⟨by decide +kernel, rfl⟩
theorem eX0_drawBlot_82 : dk cX0_drawBlot 82 (.iload 6) 2 84 := ⟨by decide +kernel, rfl⟩
theorem eX0_drawBlot_84 : dk cX0_drawBlot 84 (.iadd) 1 85 := ⟨by decide +kernel, rfl⟩
theorem eX0_drawBlot_85 : dk cX0_drawBlot 85 (.invokevirtual 87) 3 88 := ⟨by decide +kernel, rfl⟩
theorem eX0_drawBlot_88 : dk cX0_drawBlot 88 (.aload_n 0) 1 89 := ⟨by decide +kernel, rfl⟩
theorem eX0_drawBlot_89 : dk cX0_drawBlot 89 (.iload 5) 2 91 := ⟨by decide +kernel, rfl⟩
theorem eX0_drawBlot_91 : dk cX0_drawBlot 91 (.iload 7) 2 93 := ⟨by decide +kernel, rfl⟩
theorem eX0_drawBlot_93 : dk cX0_drawBlot 93 (.isub) 1 94 := ⟨by decide +kernel, rfl⟩
theorem eX0_drawBlot_94 : dk cX0_drawBlot 94 (.iload 4) 2 96 := ⟨by decide +kernel, rfl⟩
theorem eX0_drawBlot_96 : dk cX0_drawBlot 96 (.iload 6) 2 98 := ⟨by decide +kernel, rfl⟩
theorem eX0_drawBlot_98 : dk cX0_drawBlot 98 (.isub) 1 99 := ⟨by decide +kernel, rfl⟩
theorem eX0_drawBlot_99 : dk cX0_drawBlot 99 (.iload 4) 2 101 := ⟨by decide +kernel, rfl⟩
theorem eX0_drawBlot_101 : dk cX0_drawBlot 101 (.iload 6) 2 103 := ⟨by decide +kernel, rfl⟩
theorem eX0_drawBlot_103 : dk cX0_drawBlot 103 (.iadd) 1 104 := ⟨by decide +kernel, rfl⟩
theorem eX0_drawBlot_104 : dk cX0_drawBlot 104 (.invokevirtual 87) 3 107 := ⟨by decide +kernel, rfl⟩
theorem eX0_drawBlot_107 : dk cX0_drawBlot 107 (.iinc 7 1) 3 110 := ⟨by decide +kernel, rfl⟩
theorem eX0_drawBlot_110 : db cX0_drawBlot 110 (.goto) 113 17 := ⟨(-93), by decide +kernel, rfl, by decide⟩
theorem eX0_drawBlot_113 : dk cX0_drawBlot 113 (.return_) 1 114 := ⟨by decide +kernel, rfl⟩
theorem eX0_run_0 : dk cX0_run 0 (.iload_n 2) 1 1 := ⟨by decide +kernel, rfl⟩
theorem eX0_run_1 : db cX0_run 1 (.ifCond .ge) 4 8 := ⟨7, by decide +kernel, rfl, by decide⟩
theorem eX0_run_4 : dk cX0_run 4 (.iconst 0) 1 5 := ⟨by decide +kernel, rfl⟩
theorem eX0_run_5 : db cX0_run 5 (.goto) 8 9 := ⟨4, by decide +kernel, rfl, by decide⟩
theorem eX0_run_8 : dk cX0_run 8 (.iload_n 2) 1 9 := ⟨by decide +kernel, rfl⟩
theorem eX0_run_9 : dk cX0_run 9 (.istore 4) 2 11 := ⟨by decide +kernel, rfl⟩
theorem eX0_run_11 : dk cX0_run 11 (.iload_n 3) 1 12 := ⟨by decide +kernel, rfl⟩
theorem eX0_run_12 : dk cX0_run 12 (.bipush 24) 2 14 := ⟨by decide +kernel, rfl⟩
theorem eX0_run_14 : db cX0_run 14 (.if_icmp .lt) 17 22 := ⟨8, by decide +kernel, rfl, by decide⟩
theorem eX0_run_17 : dk cX0_run 17 (.bipush 23) 2 19 := ⟨by decide +kernel, rfl⟩
theorem eX0_run_19 : db cX0_run 19 (.goto) 22 23 := ⟨4, by decide +kernel, rfl, by decide⟩
theorem eX0_run_22 : dk cX0_run 22 (.iload_n 3) 1 23 := ⟨by decide +kernel, rfl⟩
theorem eX0_run_23 : dk cX0_run 23 (.istore 5) 2 25 := ⟨by decide +kernel, rfl⟩
theorem eX0_run_25 : dk cX0_run 25 (.iload_n 1) 1 26 := ⟨by decide +kernel, rfl⟩
theorem eX0_run_26 : db cX0_run 26 (.ifCond .lt) 29 42 := ⟨16, by decide +kernel, rfl, by decide⟩
theorem eX0_run_29 : dk cX0_run 29 (.iload_n 1) 1 30 := ⟨by decide +kernel, rfl⟩
theorem eX0_run_30 : dk cX0_run 30 (.bipush 24) 2 32 := ⟨by decide +kernel, rfl⟩
theorem eX0_run_32 : db cX0_run 32 (.if_icmp .ge) 35 42 := ⟨10, by decide +kernel, rfl, by decide⟩
theorem eX0_run_35 : dk cX0_run 35 (.iload 4) 2 37 := ⟨by decide +kernel, rfl⟩
theorem eX0_run_37 : dk cX0_run 37 (.iload 5) 2 39 := ⟨by decide +kernel, rfl⟩
theorem eX0_run_39 : db cX0_run 39 (.if_icmp .le) 42 43 := ⟨4, by decide +kernel, rfl, by decide⟩
theorem eX0_run_42 : dk cX0_run 42 (.return_) 1 43 := ⟨by decide +kernel, rfl⟩
theorem eX0_run_43 : dk cX0_run 43 (.aload_n 0) 1 44 := ⟨by decide +kernel, rfl⟩
theorem eX0_run_44 : dk cX0_run 44 (.getfield 13) 3 47 := ⟨by decide +kernel, rfl⟩
theorem eX0_run_47 : dk cX0_run 47 (.iload_n 1) 1 48 := ⟨by decide +kernel, rfl⟩
theorem eX0_run_48 : dk cX0_run 48 (.dup2) 1 49 := ⟨by decide +kernel, rfl⟩
theorem eX0_run_49 : dk cX0_run 49 (.iaload) 1 50 := ⟨by decide +kernel, rfl⟩
theorem eX0_run_50 : dk cX0_run 50 (.iconst 1) 1 51 := ⟨by decide +kernel, rfl⟩
theorem eX0_run_51 : dk cX0_run 51 (.iload 5) 2 53 := ⟨by decide +kernel, rfl⟩
theorem eX0_run_53 : dk cX0_run 53 (.iconst 1) 1 54 := ⟨by decide +kernel, rfl⟩
theorem eX0_run_54 : dk cX0_run 54 (.iadd) 1 55 := ⟨by decide +kernel, rfl⟩
theorem eX0_run_55 : dk cX0_run 55 (.ishl) 1 56 := ⟨by decide +kernel, rfl⟩
theorem eX0_run_56 : dk cX0_run 56 (.iconst 1) 1 57 := ⟨by decide +kernel, rfl⟩
theorem eX0_run_57 : dk cX0_run 57 (.iload 4) 2 59 := ⟨by decide +kernel, rfl⟩
theorem eX0_run_59 : dk cX0_run 59 (.ishl) 1 60 := ⟨by decide +kernel, rfl⟩
theorem eX0_run_60 : dk cX0_run 60 (.isub) 1 61 := ⟨by decide +kernel, rfl⟩
theorem eX0_run_61 : dk cX0_run 61 (.ior) 1 62 := ⟨by decide +kernel, rfl⟩
theorem eX0_run_62 : dk cX0_run 62 (.iastore) 1 63 := ⟨by decide +kernel, rfl⟩
theorem eX0_run_63 : dk cX0_run 63 (.return_) 1 64 := ⟨by decide +kernel, rfl⟩
theorem eX0_ring_0 : dk cX0_ring 0 (.aload_n 0) 1 1 := ⟨by decide +kernel, rfl⟩
theorem eX0_ring_1 : dk cX0_ring 1 (.iload_n 1) 1 2 := ⟨by decide +kernel, rfl⟩
theorem eX0_ring_2 : dk cX0_ring 2 (.invokevirtual 30) 3 5 := ⟨by decide +kernel, rfl⟩
theorem eX0_ring_5 : db cX0_ring 5 (.ifCond .eq) 8 18 := ⟨13, by decide +kernel, rfl, by decide⟩
theorem eX0_ring_8 : dk cX0_ring 8 (.iload_n 2) 1 9 := ⟨by decide +kernel, rfl⟩
theorem eX0_ring_9 : db cX0_ring 9 (.ifCond .lt) 12 18 := ⟨9, by decide +kernel, rfl, by decide⟩
theorem eX0_ring_12 : dk cX0_ring 12 (.iload_n 2) 1 13 := ⟨by decide +kernel, rfl⟩
theorem eX0_ring_13 : dk cX0_ring 13 (.bipush 30) 2 15 := ⟨by decide +kernel, rfl⟩
theorem eX0_ring_15 : db cX0_ring 15 (.if_icmp .le) 18 20 := ⟨5, by decide +kernel, rfl, by decide⟩
theorem eX0_ring_18 : dk cX0_ring 18 (.iconst (-1)) 1 19 := ⟨by decide +kernel, rfl⟩
theorem eX0_ring_19 : dk cX0_ring 19 (.ireturn) 1 20 := ⟨by decide +kernel, rfl⟩
theorem eX0_ring_20 : dk cX0_ring 20 (.aload_n 0) 1 21 := ⟨by decide +kernel, rfl⟩
theorem eX0_ring_21 : dk cX0_ring 21 (.invokevirtual 34) 3 24 := ⟨by decide +kernel, rfl⟩
theorem eX0_ring_24 : dk cX0_ring 24 (.aload_n 0) 1 25 := ⟨by decide +kernel, rfl⟩
theorem eX0_ring_25 : dk cX0_ring 25 (.iload_n 1) 1 26 := ⟨by decide +kernel, rfl⟩
theorem eX0_ring_26 : dk cX0_ring 26 (.bipush 31) 2 28 := ⟨by decide +kernel, rfl⟩
theorem eX0_ring_28 : dk cX0_ring 28 (.iand) 1 29 := ⟨by decide +kernel, rfl⟩
theorem eX0_ring_29 : dk cX0_ring 29 (.iload_n 1) 1 30 := ⟨by decide +kernel, rfl⟩
theorem eX0_ring_30 : dk cX0_ring 30 (.iconst 5) 1 31 := ⟨by decide +kernel, rfl⟩
theorem eX0_ring_31 : dk cX0_ring 31 (.ishr) 1 32 := ⟨by decide +kernel, rfl⟩
theorem eX0_ring_32 : dk cX0_ring 32 (.iload_n 2) 1 33 := ⟨by decide +kernel, rfl⟩
theorem eX0_ring_33 : dk cX0_ring 33 (.invokevirtual 53) 3 36 := ⟨by decide +kernel, rfl⟩
theorem eX0_ring_36 : dk cX0_ring 36 (.aload_n 0) 1 37 := ⟨by decide +kernel, rfl⟩
theorem eX0_ring_37 : dk cX0_ring 37 (.invokevirtual 45) 3 40 := ⟨by decide +kernel, rfl⟩
theorem eX0_ring_40 : dk cX0_ring 40 (.ireturn) 1 41 := ⟨by decide +kernel, rfl⟩
theorem eX0_drawRing_0 : dk cX0_drawRing 0 (.iload_n 3) 1 1 := ⟨by decide +kernel, rfl⟩
theorem eX0_drawRing_1 : dk cX0_drawRing 1 (.istore 4) 2 3 := ⟨by decide +kernel, rfl⟩
theorem eX0_drawRing_3 : dk cX0_drawRing 3 (.iconst 0) 1 4 := ⟨by decide +kernel, rfl⟩
theorem eX0_drawRing_4 : dk cX0_drawRing 4 (.istore 5) 2 6 := ⟨by decide +kernel, rfl⟩
theorem eX0_drawRing_6 : dk cX0_drawRing 6 (.iload 5) 2 8 := ⟨by decide +kernel, rfl⟩
theorem eX0_drawRing_8 : dk cX0_drawRing 8 (.iload 4) 2 10 := ⟨by decide +kernel, rfl⟩
theorem eX0_drawRing_10 : db cX0_drawRing 10 (.if_icmp .gt) 13 68 := ⟨58, by decide +kernel, rfl, by decide⟩
theorem eX0_drawRing_13 : dk cX0_drawRing 13 (.iload 4) 2 15 := ⟨by decide +kernel, rfl⟩
theorem eX0_drawRing_15 : db cX0_drawRing 15 (.ifCond .le) 18 44 := ⟨29, by decide +kernel, rfl, by decide⟩
theorem eX0_drawRing_18 : dk cX0_drawRing 18 (.iload 4) 2 20 := ⟨by decide +kernel, rfl⟩
theorem eX0_drawRing_20 : dk cX0_drawRing 20 (.iload 4) 2 22 := ⟨by decide +kernel, rfl⟩
theorem eX0_drawRing_22 : dk cX0_drawRing 22 (.imul) 1 23 := ⟨by decide +kernel, rfl⟩
theorem eX0_drawRing_23 : dk cX0_drawRing 23 (.iload 4) 2 25 := ⟨by decide +kernel, rfl⟩
theorem eX0_drawRing_25 : dk cX0_drawRing 25 (.isub) 1 26 := ⟨by decide +kernel, rfl⟩
theorem eX0_drawRing_26 : dk cX0_drawRing 26 (.iload 5) 2 28 := ⟨by decide +kernel, rfl⟩
theorem eX0_drawRing_28 : dk cX0_drawRing 28 (.iload 5) 2 30 := ⟨by decide +kernel, rfl⟩
theorem eX0_drawRing_30 : dk cX0_drawRing 30 (.imul) 1 31 := ⟨by decide +kernel, rfl⟩
theorem eX0_drawRing_31 : dk cX0_drawRing 31 (.iadd) 1 32 := ⟨by decide +kernel, rfl⟩
theorem eX0_drawRing_32 : dk cX0_drawRing 32 (.iload_n 3) 1 33 := ⟨by decide +kernel, rfl⟩
theorem eX0_drawRing_33 : dk cX0_drawRing 33 (.iload_n 3) 1 34 := ⟨by decide +kernel, rfl⟩
theorem eX0_drawRing_34 : dk cX0_drawRing 34 (.imul) 1 35 := ⟨by decide +kernel, rfl⟩
theorem eX0_drawRing_35 : db cX0_drawRing 35 (.if_icmp .lt) 38 44 := ⟨9, by decide +kernel, rfl, by decide⟩
theorem eX0_drawRing_38 : dk cX0_drawRing 38 (.iinc 4 (-1)) 3 41 := ⟨by decide +kernel, rfl⟩
theorem eX0_drawRing_41 : db cX0_drawRing 41 (.goto) 44 13 := ⟨(-28), by decide +kernel, rfl, by decide⟩
theorem eX0_drawRing_44 : dk cX0_drawRing 44 (.iload 5) 2 46 := ⟨by decide +kernel, rfl⟩
theorem eX0_drawRing_46 : dk cX0_drawRing 46 (.iload 4) 2 48 := ⟨by decide +kernel, rfl⟩
theorem eX0_drawRing_48 : db cX0_drawRing 48 (.if_icmp .le) 51 52 := ⟨4, by decide +kernel, rfl, by decide⟩
theorem eX0_drawRing_51 : dk cX0_drawRing 51 (.return_) 1 52 := ⟨by decide +kernel, rfl⟩
theorem eX0_drawRing_52 : dk cX0_drawRing 52 (.aload_n 0) 1 53 := ⟨by decide +kernel, rfl⟩
theorem eX0_drawRing_53 : dk cX0_drawRing 53 (.iload_n 1) 1 54 := ⟨by decide +kernel, rfl⟩
theorem eX0_drawRing_54 : dk cX0_drawRing 54 (.iload_n 2) 1 55 := ⟨by decide +kernel, rfl⟩
theorem eX0_drawRing_55 : dk cX0_drawRing 55 (.iload 5) 2 57 := ⟨by decide +kernel, rfl⟩
theorem eX0_drawRing_57 : dk cX0_drawRing 57 (.iload 4) 2 59 := ⟨by decide +kernel, rfl⟩
theorem eX0_drawRing_59 : dk cX0_drawRing 59 (.invokevirtual 83) 3 62 := ⟨by decide +kernel, rfl⟩
theorem eX0_drawRing_62 : dk cX0_drawRing 62 (.iinc 5 1) 3 65 := ⟨by decide +kernel, rfl⟩
theorem eX0_drawRing_65 : db cX0_drawRing 65 (.goto) 68 6 := ⟨(-59), by decide +kernel, rfl, by decide⟩
theorem eX0_drawRing_68 : dk cX0_drawRing 68 (.return_) 1 69 := ⟨by decide +kernel, rfl⟩
theorem eX0_eightDots_0 : dk cX0_eightDots 0 (.iconst (-1)) 1 1 := ⟨by decide +kernel, rfl⟩
theorem eX0_eightDots_1 : dk cX0_eightDots 1 (.istore 5) 2 3 := ⟨by decide +kernel, rfl⟩
theorem eX0_eightDots_3 : dk cX0_eightDots 3 (.iload 5) 2 5 := ⟨by decide +kernel, rfl⟩
theorem eX0_eightDots_5 : dk cX0_eightDots 5 (.iconst 1) 1 6 := ⟨by decide +kernel, rfl⟩
theorem eX0_eightDots_6 : db cX0_eightDots 6 (.if_icmp .gt) 9 71 := ⟨65, by decide +kernel, rfl, by decide⟩
theorem eX0_eightDots_9 : dk cX0_eightDots 9 (.aload_n 0) 1 10 := ⟨by decide +kernel, rfl⟩
theorem eX0_eightDots_10 : dk cX0_eightDots 10 (.iload_n 1) 1 11 := ⟨by decide +kernel, rfl⟩
theorem eX0_eightDots_11 : dk cX0_eightDots 11 (.iload_n 3) 1 12 := ⟨by decide +kernel, rfl⟩
theorem eX0_eightDots_12 : dk cX0_eightDots 12 (.iadd) 1 13 := ⟨by decide +kernel, rfl⟩
theorem eX0_eightDots_13 : dk cX0_eightDots 13 (.iload_n 2) 1 14 := ⟨by decide +kernel, rfl⟩
theorem eX0_eightDots_14 : dk cX0_eightDots 14 (.iload 5) 2 16 := ⟨by decide +kernel, rfl⟩
theorem eX0_eightDots_16 : dk cX0_eightDots 16 (.iload 4) 2 18 := ⟨by decide +kernel, rfl⟩
theorem eX0_eightDots_18 : dk cX0_eightDots 18 (.imul) 1 19 := ⟨by decide +kernel, rfl⟩
theorem eX0_eightDots_19 : dk cX0_eightDots 19 (.iadd) 1 20 := ⟨by decide +kernel, rfl⟩
theorem eX0_eightDots_20 : dk cX0_eightDots 20 (.invokevirtual 79) 3 23 := ⟨by decide +kernel, rfl⟩
theorem eX0_eightDots_23 : dk cX0_eightDots 23 (.aload_n 0) 1 24 := ⟨by decide +kernel, rfl⟩
theorem eX0_eightDots_24 : dk cX0_eightDots 24 (.iload_n 1) 1 25 := ⟨by decide +kernel, rfl⟩
theorem eX0_eightDots_25 : dk cX0_eightDots 25 (.iload_n 3) 1 26 := ⟨by decide +kernel, rfl⟩
theorem eX0_eightDots_26 : dk cX0_eightDots 26 (.isub) 1 27 := ⟨by decide +kernel, rfl⟩
theorem eX0_eightDots_27 : dk cX0_eightDots 27 (.iload_n 2) 1 28 := ⟨by decide +kernel, rfl⟩
theorem eX0_eightDots_28 : dk cX0_eightDots 28 (.iload 5) 2 30 := ⟨by decide +kernel, rfl⟩
theorem eX0_eightDots_30 : dk cX0_eightDots 30 (.iload 4) 2 32 := ⟨by decide +kernel, rfl⟩
theorem eX0_eightDots_32 : dk cX0_eightDots 32 (.imul) 1 33 := ⟨by decide +kernel, rfl⟩
theorem eX0_eightDots_33 : dk cX0_eightDots 33 (.iadd) 1 34 := ⟨by decide +kernel, rfl⟩
theorem eX0_eightDots_34 : dk cX0_eightDots 34 (.invokevirtual 79) 3 37 := ⟨by decide +kernel, rfl⟩
theorem eX0_eightDots_37 : dk cX0_eightDots 37 (.aload_n 0) 1 38 := ⟨by decide +kernel, rfl⟩
theorem eX0_eightDots_38 : dk cX0_eightDots 38 (.iload_n 1) 1 39 := ⟨by decide +kernel, rfl⟩
theorem eX0_eightDots_39 : dk cX0_eightDots 39 (.iload 5) 2 41 := ⟨by decide +kernel, rfl⟩
theorem eX0_eightDots_41 : dk cX0_eightDots 41 (.iload 4) 2 43 := ⟨by decide +kernel, rfl⟩
theorem eX0_eightDots_43 : dk cX0_eightDots 43 (.imul) 1 44 := ⟨by decide +kernel, rfl⟩
theorem eX0_eightDots_44 : dk cX0_eightDots 44 (.iadd) 1 45 := ⟨by decide +kernel, rfl⟩
theorem eX0_eightDots_45 : dk cX0_eightDots 45 (.iload_n 2) 1 46 := ⟨by decide +kernel, rfl⟩
theorem eX0_eightDots_46 : dk cX0_eightDots 46 (.iload_n 3) 1 47 := ⟨by decide +kernel, rfl⟩
theorem eX0_eightDots_47 : dk cX0_eightDots 47 (.iadd) 1 48 := ⟨by decide +kernel, rfl⟩
theorem eX0_eightDots_48 : dk cX0_eightDots 48 (.invokevirtual 79) 3 51 := ⟨by decide +kernel, rfl⟩
theorem eX0_eightDots_51 : dk cX0_eightDots 51 (.aload_n 0) 1 52 := ⟨by decide +kernel, rfl⟩
theorem eX0_eightDots_52 : dk cX0_eightDots 52 (.iload_n 1) 1 53 := ⟨by decide +kernel, rfl⟩
theorem eX0_eightDots_53 : dk cX0_eightDots 53 (.iload 5) 2 55 := ⟨by decide +kernel, rfl⟩
theorem eX0_eightDots_55 : dk cX0_eightDots 55 (.iload 4) 2 57 := ⟨by decide +kernel, rfl⟩
theorem eX0_eightDots_57 : dk cX0_eightDots 57 (.imul) 1 58 := ⟨by decide +kernel, rfl⟩
theorem eX0_eightDots_58 : dk cX0_eightDots 58 (.iadd) 1 59 := ⟨by decide +kernel, rfl⟩
theorem eX0_eightDots_59 : dk cX0_eightDots 59 (.iload_n 2) 1 60 := ⟨by decide +kernel, rfl⟩
theorem eX0_eightDots_60 : dk cX0_eightDots 60 (.iload_n 3) 1 61 := ⟨by decide +kernel, rfl⟩
theorem eX0_eightDots_61 : dk cX0_eightDots 61 (.isub) 1 62 := ⟨by decide +kernel, rfl⟩
theorem eX0_eightDots_62 : dk cX0_eightDots 62 (.invokevirtual 79) 3 65 := ⟨by decide +kernel, rfl⟩
theorem eX0_eightDots_65 : dk cX0_eightDots 65 (.iinc 5 2) 3 68 := ⟨by decide +kernel, rfl⟩
theorem eX0_eightDots_68 : db cX0_eightDots 68 (.goto) 71 3 := ⟨(-65), by decide +kernel, rfl, by decide⟩
theorem eX0_eightDots_71 : dk cX0_eightDots 71 (.return_) 1 72 := ⟨by decide +kernel, rfl⟩
theorem eX0_blot_0 : dk cX0_blot 0 (.aload_n 0) 1 1 := ⟨by decide +kernel, rfl⟩
theorem eX0_blot_1 : dk cX0_blot 1 (.iload_n 1) 1 2 := ⟨by decide +kernel, rfl⟩
theorem eX0_blot_2 : dk cX0_blot 2 (.invokevirtual 30) 3 5 := ⟨by decide +kernel, rfl⟩
theorem eX0_blot_5 : db cX0_blot 5 (.ifCond .eq) 8 28 := ⟨23, by decide +kernel, rfl, by decide⟩
theorem eX0_blot_8 : dk cX0_blot 8 (.iload_n 2) 1 9 := ⟨by decide +kernel, rfl⟩
theorem eX0_blot_9 : db cX0_blot 9 (.ifCond .lt) 12 28 := ⟨19, by decide +kernel, rfl, by decide⟩
theorem eX0_blot_12 : dk cX0_blot 12 (.iload_n 2) 1 13 := ⟨by decide +kernel, rfl⟩
theorem eX0_blot_13 : dk cX0_blot 13 (.bipush 30) 2 15 := ⟨by decide +kernel, rfl⟩
theorem eX0_blot_15 : db cX0_blot 15 (.if_icmp .gt) 18 28 := ⟨13, by decide +kernel, rfl, by decide⟩
theorem eX0_blot_18 : dk cX0_blot 18 (.iload_n 3) 1 19 := ⟨by decide +kernel, rfl⟩
theorem eX0_blot_19 : db cX0_blot 19 (.ifCond .lt) 22 28 := ⟨9, by decide +kernel, rfl, by decide⟩
theorem eX0_blot_22 : dk cX0_blot 22 (.iload_n 3) 1 23 := ⟨by decide +kernel, rfl⟩
theorem eX0_blot_23 : dk cX0_blot 23 (.bipush 30) 2 25 := ⟨by decide +kernel, rfl⟩
theorem eX0_blot_25 : db cX0_blot 25 (.if_icmp .le) 28 30 := ⟨5, by decide +kernel, rfl, by decide⟩
theorem eX0_blot_28 : dk cX0_blot 28 (.iconst (-1)) 1 29 := ⟨by decide +kernel, rfl⟩
theorem eX0_blot_29 : dk cX0_blot 29 (.ireturn) 1 30 := ⟨by decide +kernel, rfl⟩
theorem eX0_blot_30 : dk cX0_blot 30 (.aload_n 0) 1 31 := ⟨by decide +kernel, rfl⟩
theorem eX0_blot_31 : dk cX0_blot 31 (.invokevirtual 34) 3 34 := ⟨by decide +kernel, rfl⟩
theorem eX0_blot_34 : dk cX0_blot 34 (.iload_n 2) 1 35 := ⟨by decide +kernel, rfl⟩
theorem eX0_blot_35 : db cX0_blot 35 (.ifCond .eq) 38 42 := ⟨7, by decide +kernel, rfl, by decide⟩
theorem eX0_blot_38 : dk cX0_blot 38 (.iload_n 3) 1 39 := ⟨by decide +kernel, rfl⟩
theorem eX0_blot_39 : db cX0_blot 39 (.ifCond .ne) 42 52 := ⟨13, by decide +kernel, rfl, by decide⟩
theorem eX0_blot_42 : dk cX0_blot 42 (.aload_n 0) 1 43 := ⟨by decide +kernel, rfl⟩
theorem eX0_blot_43 : dk cX0_blot 43 (.iload_n 1) 1 44 := ⟨by decide +kernel, rfl⟩
theorem eX0_blot_44 : dk cX0_blot 44 (.iload_n 2) 1 45 := ⟨by decide +kernel, rfl⟩
theorem eX0_blot_45 : dk cX0_blot 45 (.iload_n 3) 1 46 := ⟨by decide +kernel, rfl⟩
theorem eX0_blot_46 : dk cX0_blot 46 (.invokevirtual 56) 3 49 := ⟨by decide +kernel, rfl⟩
theorem eX0_blot_49 : db cX0_blot 49 (.goto) 52 59 := ⟨10, by decide +kernel, rfl, by decide⟩
theorem eX0_blot_52 : dk cX0_blot 52 (.aload_n 0) 1 53 := ⟨by decide +kernel, rfl⟩
theorem eX0_blot_53 : dk cX0_blot 53 (.iload_n 1) 1 54 := ⟨by decide +kernel, rfl⟩
theorem eX0_blot_54 : dk cX0_blot 54 (.iload_n 2) 1 55 := ⟨by decide +kernel, rfl⟩
theorem eX0_blot_55 : dk cX0_blot 55 (.iload_n 3) 1 56 := ⟨by decide +kernel, rfl⟩
theorem eX0_blot_56 : dk cX0_blot 56 (.invokevirtual 49) 3 59 := ⟨by decide +kernel, rfl⟩
theorem eX0_blot_59 : dk cX0_blot 59 (.aload_n 0) 1 60 := ⟨by decide +kernel, rfl⟩
theorem eX0_blot_60 : dk cX0_blot 60 (.invokevirtual 45) 3 63 := ⟨by decide +kernel, rfl⟩
theorem eX0_blot_63 : dk cX0_blot 63 (.ireturn) 1 64 := ⟨by decide +kernel, rfl⟩
theorem eX0_drawCross_0 : dk cX0_drawCross 0 (.iload_n 1) 1 1 := ⟨by decide +kernel, rfl⟩
theorem eX0_drawCross_1 : dk cX0_drawCross 1 (.bipush 31) 2 3 := ⟨by decide +kernel, rfl⟩
theorem eX0_drawCross_3 : dk cX0_drawCross 3 (.iand) 1 4 := ⟨by decide +kernel, rfl⟩
theorem eX0_drawCross_4 : dk cX0_drawCross 4 (.istore 4) 2 6 := ⟨by decide +kernel, rfl⟩
theorem eX0_drawCross_6 : dk cX0_drawCross 6 (.iload_n 1) 1 7 := ⟨by decide +kernel, rfl⟩
theorem eX0_drawCross_7 : dk cX0_drawCross 7 (.iconst 5) 1 8 := ⟨by decide +kernel, rfl⟩
theorem eX0_drawCross_8 : dk cX0_drawCross 8 (.ishr) 1 9 := ⟨by decide +kernel, rfl⟩
theorem eX0_drawCross_9 : dk cX0_drawCross 9 (.istore 5) 2 11 := ⟨by decide +kernel, rfl⟩
theorem eX0_drawCross_11 : dk cX0_drawCross 11 (.iconst 0) 1 12 := ⟨by decide +kernel, rfl⟩
theorem eX0_drawCross_12 : dk cX0_drawCross 12 (.istore 6) 2 14 := ⟨by decide +kernel, rfl⟩
theorem eX0_drawCross_14 : dk cX0_drawCross 14 (.iload 6) 2 16 := ⟨by decide +kernel, rfl⟩
theorem eX0_drawCross_16 : dk cX0_drawCross 16 (.bipush 24) 2 18 := ⟨by decide +kernel, rfl⟩
end
section
set_option maxRecDepth 100000
theorem eX0_drawCross_18 : db cX0_drawCross 18 (.if_icmp .ge) 21 78 := ⟨60, by decide +kernel, rfl, by decide⟩
theorem eX0_drawCross_21 : dk cX0_drawCross 21 (.iload_n 2) 1 22 := ⟨by decide +kernel, rfl⟩
theorem eX0_drawCross_22 : db cX0_drawCross 22 (.ifCond .ne) 25 41 := ⟨19, by decide +kernel, rfl, by decide⟩
theorem eX0_drawCross_25 : dk cX0_drawCross 25 (.iload_n 3) 1 26 := ⟨by decide +kernel, rfl⟩
theorem eX0_drawCross_26 : db cX0_drawCross 26 (.ifCond .ne) 29 41 := ⟨15, by decide +kernel, rfl, by decide⟩
theorem eX0_drawCross_29 : dk cX0_drawCross 29 (.aload_n 0) 1 30 := ⟨by decide +kernel, rfl⟩
theorem eX0_drawCross_30 : dk cX0_drawCross 30 (.iload 6) 2 32 := ⟨by decide +kernel, rfl⟩
theorem eX0_drawCross_32 : dk cX0_drawCross 32 (.iconst 0) 1 33 := ⟨by decide +kernel, rfl⟩
theorem eX0_drawCross_33 : dk cX0_drawCross 33 (.bipush 23) 2 35 := ⟨by decide +kernel, rfl⟩
theorem eX0_drawCross_35 : dk cX0_drawCross 35 (.invokevirtual 87) 3 38 := ⟨by decide +kernel, rfl⟩
theorem eX0_drawCross_38 : db cX0_drawCross 38 (.goto) 41 72 := ⟨34, by decide +kernel, rfl, by decide⟩
theorem eX0_drawCross_41 : dk cX0_drawCross 41 (.iload_n 2) 1 42 := ⟨by decide +kernel, rfl⟩
theorem eX0_drawCross_42 : db cX0_drawCross 42 (.ifCond .ne) 45 56 := ⟨14, by decide +kernel, rfl, by decide⟩
theorem eX0_drawCross_45 : dk cX0_drawCross 45 (.aload_n 0) 1 46 := ⟨by decide +kernel, rfl⟩
theorem eX0_drawCross_46 : dk cX0_drawCross 46 (.iload 4) 2 48 := ⟨by decide +kernel, rfl⟩
theorem eX0_drawCross_48 : dk cX0_drawCross 48 (.iload 6) 2 50 := ⟨by decide +kernel, rfl⟩
theorem eX0_drawCross_50 : dk cX0_drawCross 50 (.invokevirtual 79) 3 53 := ⟨by decide +kernel, rfl⟩
theorem eX0_drawCross_53 : db cX0_drawCross 53 (.goto) 56 72 := ⟨19, by decide +kernel, rfl, by decide⟩
theorem eX0_drawCross_56 : dk cX0_drawCross 56 (.iload 6) 2 58 := ⟨by decide +kernel, rfl⟩
theorem eX0_drawCross_58 : dk cX0_drawCross 58 (.iload 5) 2 60 := ⟨by decide +kernel, rfl⟩
theorem eX0_drawCross_60 : db cX0_drawCross 60 (.if_icmp .ne) 63 72 := ⟨12, by decide +kernel, rfl, by decide⟩
theorem eX0_drawCross_63 : dk cX0_drawCross 63 (.aload_n 0) 1 64 := ⟨by decide +kernel, rfl⟩
theorem eX0_drawCross_64 : dk cX0_drawCross 64 (.iload 6) 2 66 := ⟨by decide +kernel, rfl⟩
theorem eX0_drawCross_66 : dk cX0_drawCross 66 (.iconst 0) 1 67 := ⟨by decide +kernel, rfl⟩
theorem eX0_drawCross_67 : dk cX0_drawCross 67 (.bipush 23) 2 69 := ⟨by decide +kernel, rfl⟩
theorem eX0_drawCross_69 : dk cX0_drawCross 69 (.invokevirtual 87) 3 72 := ⟨by decide +kernel, rfl⟩
theorem eX0_drawCross_72 : dk cX0_drawCross 72 (.iinc 6 1) 3 75 := ⟨by decide +kernel, rfl⟩
theorem eX0_drawCross_75 : db cX0_drawCross 75 (.goto) 78 14 := ⟨(-61), by decide +kernel, rfl, by decide⟩
theorem eX0_drawCross_78 : dk cX0_drawCross 78 (.return_) 1 79 := ⟨by decide +kernel, rfl⟩
theorem eX0_triangle_0 : dk cX0_triangle 0 (.aload_n 0) 1 1 := ⟨by decide +kernel, rfl⟩
theorem eX0_triangle_1 : dk cX0_triangle 1 (.iload_n 1) 1 2 := ⟨by decide +kernel, rfl⟩
theorem eX0_triangle_2 : dk cX0_triangle 2 (.invokevirtual 30) 3 5 := ⟨by decide +kernel, rfl⟩
theorem eX0_triangle_5 : db cX0_triangle 5 (.ifCond .eq) 8 24 := ⟨19, by decide +kernel, rfl, by decide⟩
theorem eX0_triangle_8 : dk cX0_triangle 8 (.aload_n 0) 1 9 := ⟨by decide +kernel, rfl⟩
theorem eX0_triangle_9 : dk cX0_triangle 9 (.iload_n 2) 1 10 := ⟨by decide +kernel, rfl⟩
theorem eX0_triangle_10 : dk cX0_triangle 10 (.invokevirtual 30) 3 13 := ⟨by decide +kernel, rfl⟩
theorem eX0_triangle_13 : db cX0_triangle 13 (.ifCond .eq) 16 24 := ⟨11, by decide +kernel, rfl, by decide⟩
theorem eX0_triangle_16 : dk cX0_triangle 16 (.aload_n 0) 1 17 := ⟨by decide +kernel, rfl⟩
theorem eX0_triangle_17 : dk cX0_triangle 17 (.iload_n 3) 1 18 := ⟨by decide +kernel, rfl⟩
theorem eX0_triangle_18 : dk cX0_triangle 18 (.invokevirtual 30) 3 21 := ⟨by decide +kernel, rfl⟩
theorem eX0_triangle_21 : db cX0_triangle 21 (.ifCond .ne) 24 26 := ⟨5, by decide +kernel, rfl, by decide⟩
theorem eX0_triangle_24 : dk cX0_triangle 24 (.iconst (-1)) 1 25 := ⟨by decide +kernel, rfl⟩
theorem eX0_triangle_25 : dk cX0_triangle 25 (.ireturn) 1 26 := ⟨by decide +kernel, rfl⟩
theorem eX0_triangle_26 : dk cX0_triangle 26 (.aload_n 0) 1 27 := ⟨by decide +kernel, rfl⟩
theorem eX0_triangle_27 : dk cX0_triangle 27 (.invokevirtual 34) 3 30 := ⟨by decide +kernel, rfl⟩
theorem eX0_triangle_30 : dk cX0_triangle 30 (.aload_n 0) 1 31 := ⟨by decide +kernel, rfl⟩
theorem eX0_triangle_31 : dk cX0_triangle 31 (.iload_n 1) 1 32 := ⟨by decide +kernel, rfl⟩
theorem eX0_triangle_32 : dk cX0_triangle 32 (.iload_n 2) 1 33 := ⟨by decide +kernel, rfl⟩
theorem eX0_triangle_33 : dk cX0_triangle 33 (.iload_n 3) 1 34 := ⟨by decide +kernel, rfl⟩
theorem eX0_triangle_34 : dk cX0_triangle 34 (.invokevirtual 59) 3 37 := ⟨by decide +kernel, rfl⟩
theorem eX0_triangle_37 : dk cX0_triangle 37 (.aload_n 0) 1 38 := ⟨by decide +kernel, rfl⟩
theorem eX0_triangle_38 : dk cX0_triangle 38 (.invokevirtual 45) 3 41 := ⟨by decide +kernel, rfl⟩
theorem eX0_triangle_41 : dk cX0_triangle 41 (.ireturn) 1 42 := ⟨by decide +kernel, rfl⟩
theorem eX0_drawTriangle_0 : dk cX0_drawTriangle 0 (.aload_n 0) 1 1 := ⟨by decide +kernel, rfl⟩
theorem eX0_drawTriangle_1 : dk cX0_drawTriangle 1 (.iload_n 1) 1 2 := ⟨by decide +kernel, rfl⟩
theorem eX0_drawTriangle_2 : dk cX0_drawTriangle 2 (.bipush 31) 2 4 := ⟨by decide +kernel, rfl⟩
theorem eX0_drawTriangle_4 : dk cX0_drawTriangle 4 (.iand) 1 5 := ⟨by decide +kernel, rfl⟩
theorem eX0_drawTriangle_5 : dk cX0_drawTriangle 5 (.iload_n 2) 1 6 := ⟨by decide +kernel, rfl⟩
theorem eX0_drawTriangle_6 : dk cX0_drawTriangle 6 (.bipush 31) 2 8 := ⟨by decide +kernel, rfl⟩
theorem eX0_drawTriangle_8 : dk cX0_drawTriangle 8 (.iand) 1 9 := ⟨by decide +kernel, rfl⟩
theorem eX0_drawTriangle_9 : dk cX0_drawTriangle 9 (.iload_n 3) 1 10 := ⟨by decide +kernel, rfl⟩
theorem eX0_drawTriangle_10 : dk cX0_drawTriangle 10 (.bipush 31) 2 12 := ⟨by decide +kernel, rfl⟩
theorem eX0_drawTriangle_12 : dk cX0_drawTriangle 12 (.iand) 1 13 := ⟨by decide +kernel, rfl⟩
theorem eX0_drawTriangle_13 : dk cX0_drawTriangle 13 (.invokevirtual 90) 3 16 := ⟨by decide +kernel, rfl⟩
theorem eX0_drawTriangle_16 : dk cX0_drawTriangle 16 (.istore 4) 2 18 := ⟨by decide +kernel, rfl⟩
theorem eX0_drawTriangle_18 : dk cX0_drawTriangle 18 (.aload_n 0) 1 19 := ⟨by decide +kernel, rfl⟩
theorem eX0_drawTriangle_19 : dk cX0_drawTriangle 19 (.iload_n 1) 1 20 := ⟨by decide +kernel, rfl⟩
theorem eX0_drawTriangle_20 : dk cX0_drawTriangle 20 (.bipush 31) 2 22 := ⟨by decide +kernel, rfl⟩
theorem eX0_drawTriangle_22 : dk cX0_drawTriangle 22 (.iand) 1 23 := ⟨by decide +kernel, rfl⟩
theorem eX0_drawTriangle_23 : dk cX0_drawTriangle 23 (.iload_n 2) 1 24 := ⟨by decide +kernel, rfl⟩
theorem eX0_drawTriangle_24 : dk cX0_drawTriangle 24 (.bipush 31) 2 26 := ⟨by decide +kernel, rfl⟩
theorem eX0_drawTriangle_26 : dk cX0_drawTriangle 26 (.iand) 1 27 := ⟨by decide +kernel, rfl⟩
theorem eX0_drawTriangle_27 : dk cX0_drawTriangle 27 (.iload_n 3) 1 28 := ⟨by decide +kernel, rfl⟩
theorem eX0_drawTriangle_28 : dk cX0_drawTriangle 28 (.bipush 31) 2 30 := ⟨by decide +kernel, rfl⟩
theorem eX0_drawTriangle_30 : dk cX0_drawTriangle 30 (.iand) 1 31 := ⟨by decide +kernel, rfl⟩
theorem eX0_drawTriangle_31 : dk cX0_drawTriangle 31 (.invokevirtual 94) 3 34 := ⟨by decide +kernel, rfl⟩
theorem eX0_drawTriangle_34 : dk cX0_drawTriangle 34 (.istore 5) 2 36 := ⟨by decide +kernel, rfl⟩
theorem eX0_drawTriangle_36 : dk cX0_drawTriangle 36 (.aload_n 0) 1 37 := ⟨by decide +kernel, rfl⟩
theorem eX0_drawTriangle_37 : dk cX0_drawTriangle 37 (.iload_n 1) 1 38 := ⟨by decide +kernel, rfl⟩
theorem eX0_drawTriangle_38 : dk cX0_drawTriangle 38 (.iconst 5) 1 39 := ⟨by decide +kernel, rfl⟩
theorem eX0_drawTriangle_39 : dk cX0_drawTriangle 39 (.ishr) 1 40 := ⟨by decide +kernel, rfl⟩
theorem eX0_drawTriangle_40 : dk cX0_drawTriangle 40 (.iload_n 2) 1 41 := ⟨by decide +kernel, rfl⟩
theorem eX0_drawTriangle_41 : dk cX0_drawTriangle 41 (.iconst 5) 1 42 := ⟨by decide +kernel, rfl⟩
theorem eX0_drawTriangle_42 : dk cX0_drawTriangle 42 (.ishr) 1 43 := ⟨by decide +kernel, rfl⟩
theorem eX0_drawTriangle_43 : dk cX0_drawTriangle 43 (.iload_n 3) 1 44 := ⟨by decide +kernel, rfl⟩
theorem eX0_drawTriangle_44 : dk cX0_drawTriangle 44 (.iconst 5) 1 45 := ⟨by decide +kernel, rfl⟩
theorem eX0_drawTriangle_45 : dk cX0_drawTriangle 45 (.ishr) 1 46 := ⟨by decide +kernel, rfl⟩
theorem eX0_drawTriangle_46 : dk cX0_drawTriangle 46 (.invokevirtual 90) 3 49 := ⟨by decide +kernel, rfl⟩
theorem eX0_drawTriangle_49 : dk cX0_drawTriangle 49 (.istore 6) 2 51 := ⟨by decide +kernel, rfl⟩
theorem eX0_drawTriangle_51 : dk cX0_drawTriangle 51 (.aload_n 0) 1 52 := ⟨by decide +kernel, rfl⟩
theorem eX0_drawTriangle_52 : dk cX0_drawTriangle 52 (.iload_n 1) 1 53 := ⟨by decide +kernel, rfl⟩
theorem eX0_drawTriangle_53 : dk cX0_drawTriangle 53 (.iconst 5) 1 54 := ⟨by decide +kernel, rfl⟩
theorem eX0_drawTriangle_54 : dk cX0_drawTriangle 54 (.ishr) 1 55 := ⟨by decide +kernel, rfl⟩
theorem eX0_drawTriangle_55 : dk cX0_drawTriangle 55 (.iload_n 2) 1 56 := ⟨by decide +kernel, rfl⟩
theorem eX0_drawTriangle_56 : dk cX0_drawTriangle 56 (.iconst 5) 1 57 := ⟨by decide +kernel, rfl⟩
theorem eX0_drawTriangle_57 : dk cX0_drawTriangle 57 (.ishr) 1 58 := ⟨by decide +kernel, rfl⟩
theorem eX0_drawTriangle_58 : dk cX0_drawTriangle 58 (.iload_n 3) 1 59 := ⟨by decide +kernel, rfl⟩
theorem eX0_drawTriangle_59 : dk cX0_drawTriangle 59 (.iconst 5) 1 60 := ⟨by decide +kernel, rfl⟩
theorem eX0_drawTriangle_60 : dk cX0_drawTriangle 60 (.ishr) 1 61 := ⟨by decide +kernel, rfl⟩
theorem eX0_drawTriangle_61 : dk cX0_drawTriangle 61 (.invokevirtual 94) 3 64 := ⟨by decide +kernel, rfl⟩
theorem eX0_drawTriangle_64 : dk cX0_drawTriangle 64 (.istore 7) 2 66 := ⟨by decide +kernel, rfl⟩
theorem eX0_drawTriangle_66 : dk cX0_drawTriangle 66 (.iload 6) 2 68 := ⟨by decide +kernel, rfl⟩
theorem eX0_drawTriangle_68 : dk cX0_drawTriangle 68 (.istore 8) 2 70 := ⟨by decide +kernel, rfl⟩
theorem eX0_drawTriangle_70 : dk cX0_drawTriangle 70 (.iload 8) 2 72 := ⟨by decide +kernel, rfl⟩
theorem eX0_drawTriangle_72 : dk cX0_drawTriangle 72 (.iload 7) 2 74 := ⟨by decide +kernel, rfl⟩
theorem eX0_drawTriangle_74 : db cX0_drawTriangle 74 (.if_icmp .gt) 77 234 := ⟨160, by decide +kernel, rfl, by decide⟩
theorem eX0_drawTriangle_77 : dk cX0_drawTriangle 77 (.aload_n 0) 1 78 := ⟨by decide +kernel, rfl⟩
theorem eX0_drawTriangle_78 : dk cX0_drawTriangle 78 (.iload_n 1) 1 79 := ⟨by decide +kernel, rfl⟩
theorem eX0_drawTriangle_79 : dk cX0_drawTriangle 79 (.iload_n 2) 1 80 := ⟨by decide +kernel, rfl⟩
theorem eX0_drawTriangle_80 : dk cX0_drawTriangle 80 (.iload 4) 2 82 := ⟨by decide +kernel, rfl⟩
theorem eX0_drawTriangle_82 : dk cX0_drawTriangle 82 (.iload 8) 2 84 := ⟨by decide +kernel, rfl⟩
theorem eX0_drawTriangle_84 : dk cX0_drawTriangle 84 (.invokevirtual 97) 3 87 := ⟨by decide +kernel, rfl⟩
theorem eX0_drawTriangle_87 : dk cX0_drawTriangle 87 (.istore 9) 2 89 := ⟨by decide +kernel, rfl⟩
theorem eX0_drawTriangle_89 : dk cX0_drawTriangle 89 (.aload_n 0) 1 90 := ⟨by decide +kernel, rfl⟩
theorem eX0_drawTriangle_90 : dk cX0_drawTriangle 90 (.iload_n 2) 1 91 := ⟨by decide +kernel, rfl⟩
theorem eX0_drawTriangle_91 : dk cX0_drawTriangle 91 (.iload_n 3) 1 92 := ⟨by decide +kernel, rfl⟩
theorem eX0_drawTriangle_92 : dk cX0_drawTriangle 92 (.iload 4) 2 94 := ⟨by decide +kernel, rfl⟩
theorem eX0_drawTriangle_94 : dk cX0_drawTriangle 94 (.iload 8) 2 96 := ⟨by decide +kernel, rfl⟩
theorem eX0_drawTriangle_96 : dk cX0_drawTriangle 96 (.invokevirtual 97) 3 99 := ⟨by decide +kernel, rfl⟩
theorem eX0_drawTriangle_99 : dk cX0_drawTriangle 99 (.istore 10) 2 101 := ⟨by decide +kernel, rfl⟩
theorem eX0_drawTriangle_101 : dk cX0_drawTriangle 101 (.aload_n 0) 1 102 := ⟨by decide +kernel, rfl⟩
theorem eX0_drawTriangle_102 : dk cX0_drawTriangle 102 (.iload_n 3) 1 103 := ⟨by decide +kernel, rfl⟩
theorem eX0_drawTriangle_103 : dk cX0_drawTriangle 103 (.iload_n 1) 1 104 := ⟨by decide +kernel, rfl⟩
theorem eX0_drawTriangle_104 : dk cX0_drawTriangle 104 (.iload 4) 2 106 := ⟨by decide +kernel, rfl⟩
theorem eX0_drawTriangle_106 : dk cX0_drawTriangle 106 (.iload 8) 2 108 := ⟨by decide +kernel, rfl⟩
theorem eX0_drawTriangle_108 : dk cX0_drawTriangle 108 (.invokevirtual 97) 3 111 := ⟨by decide +kernel, rfl⟩
theorem eX0_drawTriangle_111 : dk cX0_drawTriangle 111 (.istore 11) 2 113 := ⟨by decide +kernel, rfl⟩
theorem eX0_drawTriangle_113 : dk cX0_drawTriangle 113 (.iload 4) 2 115 := ⟨by decide +kernel, rfl⟩
theorem eX0_drawTriangle_115 : dk cX0_drawTriangle 115 (.istore 12) 2 117 := ⟨by decide +kernel, rfl⟩
theorem eX0_drawTriangle_117 : dk cX0_drawTriangle 117 (.iload 12) 2 119 := ⟨by decide +kernel, rfl⟩
theorem eX0_drawTriangle_119 : dk cX0_drawTriangle 119 (.iload 5) 2 121 := ⟨by decide +kernel, rfl⟩
theorem eX0_drawTriangle_121 : db cX0_drawTriangle 121 (.if_icmp .gt) 124 228 := ⟨107, by decide +kernel, rfl, by decide⟩
theorem eX0_drawTriangle_124 : dk cX0_drawTriangle 124 (.iload 9) 2 126 := ⟨by decide +kernel, rfl⟩
theorem eX0_drawTriangle_126 : db cX0_drawTriangle 126 (.ifCond .lt) 129 143 := ⟨17, by decide +kernel, rfl, by decide⟩
theorem eX0_drawTriangle_129 : dk cX0_drawTriangle 129 (.iload 10) 2 131 := ⟨by decide +kernel, rfl⟩
theorem eX0_drawTriangle_131 : db cX0_drawTriangle 131 (.ifCond .lt) 134 143 := ⟨12, by decide +kernel, rfl, by decide⟩
theorem eX0_drawTriangle_134 : dk cX0_drawTriangle 134 (.iload 11) 2 136 := ⟨by decide +kernel, rfl⟩
theorem eX0_drawTriangle_136 : db cX0_drawTriangle 136 (.ifCond .lt) 139 143 := ⟨7, by decide +kernel, rfl, by decide⟩
theorem eX0_drawTriangle_139 : dk cX0_drawTriangle 139 (.iconst 1) 1 140 := ⟨by decide +kernel, rfl⟩
theorem eX0_drawTriangle_140 : db cX0_drawTriangle 140 (.goto) 143 144 := ⟨4, by decide +kernel, rfl, by decide⟩
theorem eX0_drawTriangle_143 : dk cX0_drawTriangle 143 (.iconst 0) 1 144 := ⟨by decide +kernel, rfl⟩
theorem eX0_drawTriangle_144 : dk cX0_drawTriangle 144 (.istore 13) 2 146 := ⟨by decide +kernel, rfl⟩
theorem eX0_drawTriangle_146 : dk cX0_drawTriangle 146 (.iload 9) 2 148 := ⟨by decide +kernel, rfl⟩
theorem eX0_drawTriangle_148 : db cX0_drawTriangle 148 (.ifCond .gt) 151 165 := ⟨17, by decide +kernel, rfl, by decide⟩
theorem eX0_drawTriangle_151 : dk cX0_drawTriangle 151 (.iload 10) 2 153 := ⟨by decide +kernel, rfl⟩
theorem eX0_drawTriangle_153 : db cX0_drawTriangle 153 (.ifCond .gt) 156 165 := ⟨12, by decide +kernel, rfl, by decide⟩
theorem eX0_drawTriangle_156 : dk cX0_drawTriangle 156 (.iload 11) 2 158 := ⟨by decide +kernel, rfl⟩
theorem eX0_drawTriangle_158 : db cX0_drawTriangle 158 (.ifCond .gt) 161 165 := ⟨7, by decide +kernel, rfl, by decide⟩
theorem eX0_drawTriangle_161 : dk cX0_drawTriangle 161 (.iconst 1) 1 162 := ⟨by decide +kernel, rfl⟩
theorem eX0_drawTriangle_162 : db cX0_drawTriangle 162 (.goto) 165 166 := ⟨4, by decide +kernel, rfl, by decide⟩
theorem eX0_drawTriangle_165 : dk cX0_drawTriangle 165 (.iconst 0) 1 166 := ⟨by decide +kernel, rfl⟩
theorem eX0_drawTriangle_166 : dk cX0_drawTriangle 166 (.istore 14) 2 168 := ⟨by decide +kernel, rfl⟩
theorem eX0_drawTriangle_168 : dk cX0_drawTriangle 168 (.iload 13) 2 170 := ⟨by decide +kernel, rfl⟩
theorem eX0_drawTriangle_170 : db cX0_drawTriangle 170 (.ifCond .ne) 173 178 := ⟨8, by decide +kernel, rfl, by decide⟩
theorem eX0_drawTriangle_173 : dk cX0_drawTriangle 173 (.iload 14) 2 175 := ⟨by decide +kernel, rfl⟩
theorem eX0_drawTriangle_175 : db cX0_drawTriangle 175 (.ifCond .eq) 178 186 := ⟨11, by decide +kernel, rfl, by decide⟩
theorem eX0_drawTriangle_178 : dk cX0_drawTriangle 178 (.aload_n 0) 1 179 := ⟨by decide +kernel, rfl⟩
theorem eX0_drawTriangle_179 : dk cX0_drawTriangle 179 (.iload 12) 2 181 := ⟨by decide +kernel, rfl⟩
theorem eX0_drawTriangle_181 : dk cX0_drawTriangle 181 (.iload 8) 2 183 := ⟨by decide +kernel, rfl⟩
theorem eX0_drawTriangle_183 : dk cX0_drawTriangle 183 (.invokevirtual 79) 3 186 := ⟨by decide +kernel, rfl⟩
theorem eX0_drawTriangle_186 : dk cX0_drawTriangle 186 (.iload 9) 2 188 := ⟨by decide +kernel, rfl⟩
theorem eX0_drawTriangle_188 : dk cX0_drawTriangle 188 (.iload_n 2) 1 189 := ⟨by decide +kernel, rfl⟩
theorem eX0_drawTriangle_189 : dk cX0_drawTriangle 189 (.iconst 5) 1 190 := ⟨by decide +kernel, rfl⟩
theorem eX0_drawTriangle_190 : dk cX0_drawTriangle 190 (.ishr) 1 191 := ⟨by decide +kernel, rfl⟩
theorem eX0_drawTriangle_191 : dk cX0_drawTriangle 191 (.iload_n 1) 1 192 := ⟨by decide +kernel, rfl⟩
theorem eX0_drawTriangle_192 : dk cX0_drawTriangle 192 (.iconst 5) 1 193 := ⟨by decide +kernel, rfl⟩
theorem eX0_drawTriangle_193 : dk cX0_drawTriangle 193 (.ishr) 1 194 := ⟨by decide +kernel, rfl⟩
theorem eX0_drawTriangle_194 : dk cX0_drawTriangle 194 (.isub) 1 195 := ⟨by decide +kernel, rfl⟩
theorem eX0_drawTriangle_195 : dk cX0_drawTriangle 195 (.isub) 1 196 := ⟨by decide +kernel, rfl⟩
theorem eX0_drawTriangle_196 : dk cX0_drawTriangle 196 (.istore 9) 2 198 := ⟨by decide +kernel, rfl⟩
theorem eX0_drawTriangle_198 : dk cX0_drawTriangle 198 (.iload 10) 2 200 := ⟨by decide +kernel, rfl⟩
theorem eX0_drawTriangle_200 : dk cX0_drawTriangle 200 (.iload_n 3) 1 201 := ⟨by decide +kernel, rfl⟩
theorem eX0_drawTriangle_201 : dk cX0_drawTriangle 201 (.iconst 5) 1 202 := ⟨by decide +kernel, rfl⟩
theorem eX0_drawTriangle_202 : dk cX0_drawTriangle 202 (.ishr) 1 203 := ⟨by decide +kernel, rfl⟩
theorem eX0_drawTriangle_203 : dk cX0_drawTriangle 203 (.iload_n 2) 1 204 := ⟨by decide +kernel, rfl⟩
theorem eX0_drawTriangle_204 : dk cX0_drawTriangle 204 (.iconst 5) 1 205 := ⟨by decide +kernel, rfl⟩
theorem eX0_drawTriangle_205 : dk cX0_drawTriangle 205 (.ishr) 1 206 := ⟨by decide +kernel, rfl⟩
theorem eX0_drawTriangle_206 : dk cX0_drawTriangle 206 (.isub) 1 207 := ⟨by decide +kernel, rfl⟩
theorem eX0_drawTriangle_207 : dk cX0_drawTriangle 207 (.isub) 1 208 := ⟨by decide +kernel, rfl⟩
theorem eX0_drawTriangle_208 : dk cX0_drawTriangle 208 (.istore 10) 2 210 := ⟨by decide +kernel, rfl⟩
theorem eX0_drawTriangle_210 : dk cX0_drawTriangle 210 (.iload 11) 2 212 := ⟨by decide +kernel, rfl⟩
theorem eX0_drawTriangle_212 : dk cX0_drawTriangle 212 (.iload_n 1) 1 213 := ⟨by decide +kernel, rfl⟩
theorem eX0_drawTriangle_213 : dk cX0_drawTriangle 213 (.iconst 5) 1 214 := ⟨by decide +kernel, rfl⟩
theorem eX0_drawTriangle_214 : dk cX0_drawTriangle 214 (.ishr) 1 215 := ⟨by decide +kernel, rfl⟩
theorem eX0_drawTriangle_215 : dk cX0_drawTriangle 215 (.iload_n 3) 1 216 := ⟨by decide +kernel, rfl⟩
theorem eX0_drawTriangle_216 : dk cX0_drawTriangle 216 (.iconst 5) 1 217 := ⟨by decide +kernel, rfl⟩
theorem eX0_drawTriangle_217 : dk cX0_drawTriangle 217 (.ishr) 1 218 := ⟨by decide +kernel, rfl⟩
theorem eX0_drawTriangle_218 : dk cX0_drawTriangle 218 (.isub) 1 219 := ⟨by decide +kernel, rfl⟩
theorem eX0_drawTriangle_219 : dk cX0_drawTriangle 219 (.isub) 1 220 := ⟨by decide +kernel, rfl⟩
theorem eX0_drawTriangle_220 : dk cX0_drawTriangle 220 (.istore 11) 2 222 := ⟨by decide +kernel, rfl⟩
theorem eX0_drawTriangle_222 : dk cX0_drawTriangle 222 (.iinc 12 1) 3 225 := ⟨by decide +kernel, rfl⟩
theorem eX0_drawTriangle_225 : db cX0_drawTriangle 225 (.goto) 228 117 := ⟨(-108), by decide +kernel, rfl, by decide⟩
theorem eX0_drawTriangle_228 : dk cX0_drawTriangle 228 (.iinc 8 1) 3 231 := ⟨by decide +kernel, rfl⟩
theorem eX0_drawTriangle_231 : db cX0_drawTriangle 231 (.goto) 234 70 := ⟨(-161), by decide +kernel, rfl, by decide⟩
theorem eX0_drawTriangle_234 : dk cX0_drawTriangle 234 (.return_) 1 235 := ⟨by decide +kernel, rfl⟩
theorem eX0_smallest_0 : dk cX0_smallest 0 (.iload_n 1) 1 1 := ⟨by decide +kernel, rfl⟩
theorem eX0_smallest_1 : dk cX0_smallest 1 (.iload_n 2) 1 2 := ⟨by decide +kernel, rfl⟩
theorem eX0_smallest_2 : db cX0_smallest 2 (.if_icmp .ge) 5 9 := ⟨7, by decide +kernel, rfl, by decide⟩
theorem eX0_smallest_5 : dk cX0_smallest 5 (.iload_n 1) 1 6 := ⟨by decide +kernel, rfl⟩
theorem eX0_smallest_6 : db cX0_smallest 6 (.goto) 9 10 := ⟨4, by decide +kernel, rfl, by decide⟩
theorem eX0_smallest_9 : dk cX0_smallest 9 (.iload_n 2) 1 10 := ⟨by decide +kernel, rfl⟩
theorem eX0_smallest_10 : dk cX0_smallest 10 (.istore 4) 2 12 := ⟨by decide +kernel, rfl⟩
theorem eX0_smallest_12 : dk cX0_smallest 12 (.iload_n 3) 1 13 := ⟨by decide +kernel, rfl⟩
theorem eX0_smallest_13 : dk cX0_smallest 13 (.iload 4) 2 15 := ⟨by decide +kernel, rfl⟩
theorem eX0_smallest_15 : db cX0_smallest 15 (.if_icmp .ge) 18 22 := ⟨7, by decide +kernel, rfl, by decide⟩
theorem eX0_smallest_18 : dk cX0_smallest 18 (.iload_n 3) 1 19 := ⟨by decide +kernel, rfl⟩
theorem eX0_smallest_19 : db cX0_smallest 19 (.goto) 22 24 := ⟨5, by decide +kernel, rfl, by decide⟩
theorem eX0_smallest_22 : dk cX0_smallest 22 (.iload 4) 2 24 := ⟨by decide +kernel, rfl⟩
theorem eX0_smallest_24 : dk cX0_smallest 24 (.ireturn) 1 25 := ⟨by decide +kernel, rfl⟩
theorem eX0_greatest_0 : dk cX0_greatest 0 (.iload_n 1) 1 1 := ⟨by decide +kernel, rfl⟩
theorem eX0_greatest_1 : dk cX0_greatest 1 (.iload_n 2) 1 2 := ⟨by decide +kernel, rfl⟩
theorem eX0_greatest_2 : db cX0_greatest 2 (.if_icmp .le) 5 9 := ⟨7, by decide +kernel, rfl, by decide⟩
theorem eX0_greatest_5 : dk cX0_greatest 5 (.iload_n 1) 1 6 := ⟨by decide +kernel, rfl⟩
theorem eX0_greatest_6 : db cX0_greatest 6 (.goto) 9 10 := ⟨4, by decide +kernel, rfl, by decide⟩
theorem eX0_greatest_9 : dk cX0_greatest 9 (.iload_n 2) 1 10 := ⟨by decide +kernel, rfl⟩
theorem eX0_greatest_10 : dk cX0_greatest 10 (.istore 4) 2 12 := ⟨by decide +kernel, rfl⟩
theorem eX0_greatest_12 : dk cX0_greatest 12 (.iload_n 3) 1 13 := ⟨by decide +kernel, rfl⟩
theorem eX0_greatest_13 : dk cX0_greatest 13 (.iload 4) 2 15 := ⟨by decide +kernel, rfl⟩
theorem eX0_greatest_15 : db cX0_greatest 15 (.if_icmp .le) 18 22 := ⟨7, by decide +kernel, rfl, by decide⟩
theorem eX0_greatest_18 : dk cX0_greatest 18 (.iload_n 3) 1 19 := ⟨by decide +kernel, rfl⟩
theorem eX0_greatest_19 : db cX0_greatest 19 (.goto) 22 24 := ⟨5, by decide +kernel, rfl, by decide⟩
theorem eX0_greatest_22 : dk cX0_greatest 22 (.iload 4) 2 24 := ⟨by decide +kernel, rfl⟩
theorem eX0_greatest_24 : dk cX0_greatest 24 (.ireturn) 1 25 := ⟨by decide +kernel, rfl⟩
theorem eX0_side_0 : dk cX0_side 0 (.iload_n 2) 1 1 := ⟨by decide +kernel, rfl⟩
theorem eX0_side_1 : dk cX0_side 1 (.bipush 31) 2 3 := ⟨by decide +kernel, rfl⟩
theorem eX0_side_3 : dk cX0_side 3 (.iand) 1 4 := ⟨by decide +kernel, rfl⟩
theorem eX0_side_4 : dk cX0_side 4 (.iload_n 1) 1 5 := ⟨by decide +kernel, rfl⟩
theorem eX0_side_5 : dk cX0_side 5 (.bipush 31) 2 7 := ⟨by decide +kernel, rfl⟩
theorem eX0_side_7 : dk cX0_side 7 (.iand) 1 8 := ⟨by decide +kernel, rfl⟩
theorem eX0_side_8 : dk cX0_side 8 (.isub) 1 9 := ⟨by decide +kernel, rfl⟩
theorem eX0_side_9 : dk cX0_side 9 (.istore 5) 2 11 := ⟨by decide +kernel, rfl⟩
theorem eX0_side_11 : dk cX0_side 11 (.iload_n 2) 1 12 := ⟨by decide +kernel, rfl⟩
theorem eX0_side_12 : dk cX0_side 12 (.iconst 5) 1 13 := ⟨by decide +kernel, rfl⟩
theorem eX0_side_13 : dk cX0_side 13 (.ishr) 1 14 := ⟨by decide +kernel, rfl⟩
theorem eX0_side_14 : dk cX0_side 14 (.iload_n 1) 1 15 := ⟨by decide +kernel, rfl⟩
theorem eX0_side_15 : dk cX0_side 15 (.iconst 5) 1 16 := ⟨by decide +kernel, rfl⟩
theorem eX0_side_16 : dk cX0_side 16 (.ishr) 1 17 := ⟨by decide +kernel, rfl⟩
theorem eX0_side_17 : dk cX0_side 17 (.isub) 1 18 := ⟨by decide +kernel, rfl⟩
theorem eX0_side_18 : dk cX0_side 18 (.istore 6) 2 20 := ⟨by decide +kernel, rfl⟩
theorem eX0_side_20 : dk cX0_side 20 (.iload 5) 2 22 := ⟨by decide +kernel, rfl⟩
theorem eX0_side_22 : dk cX0_side 22 (.iload 4) 2 24 := ⟨by decide +kernel, rfl⟩
theorem eX0_side_24 : dk cX0_side 24 (.iload_n 1) 1 25 := ⟨by decide +kernel, rfl⟩
theorem eX0_side_25 : dk cX0_side 25 (.iconst 5) 1 26 := ⟨by decide +kernel, rfl⟩
theorem eX0_side_26 : dk cX0_side 26 (.ishr) 1 27 := ⟨by decide +kernel, rfl⟩
theorem eX0_side_27 : dk cX0_side 27 (.isub) 1 28 := ⟨by decide +kernel, rfl⟩
theorem eX0_side_28 : dk cX0_side 28 (.imul) 1 29 := ⟨by decide +kernel, rfl⟩
theorem eX0_side_29 : dk cX0_side 29 (.iload 6) 2 31 := ⟨by decide +kernel, rfl⟩
theorem eX0_side_31 : dk cX0_side 31 (.iload_n 3) 1 32 := ⟨by decide +kernel, rfl⟩
theorem eX0_side_32 : dk cX0_side 32 (.iload_n 1) 1 33 := ⟨by decide +kernel, rfl⟩
theorem eX0_side_33 : dk cX0_side 33 (.bipush 31) 2 35 := ⟨by decide +kernel, rfl⟩
theorem eX0_side_35 : dk cX0_side 35 (.iand) 1 36 := ⟨by decide +kernel, rfl⟩
theorem eX0_side_36 : dk cX0_side 36 (.isub) 1 37 := ⟨by decide +kernel, rfl⟩
theorem eX0_side_37 : dk cX0_side 37 (.imul) 1 38 := ⟨by decide +kernel, rfl⟩
theorem eX0_side_38 : dk cX0_side 38 (.isub) 1 39 := ⟨by decide +kernel, rfl⟩
theorem eX0_side_39 : dk cX0_side 39 (.ireturn) 1 40 := ⟨by decide +kernel, rfl⟩
theorem eX0_flood_0 : dk cX0_flood 0 (.aload_n 0) 1 1 := ⟨by decide +kernel, rfl⟩
theorem eX0_flood_1 : dk cX0_flood 1 (.iload_n 1) 1 2 := ⟨by decide +kernel, rfl⟩
theorem eX0_flood_2 : dk cX0_flood 2 (.invokevirtual 30) 3 5 := ⟨by decide +kernel, rfl⟩
theorem eX0_flood_5 : db cX0_flood 5 (.ifCond .ne) 8 10 := ⟨5, by decide +kernel, rfl, by decide⟩
theorem eX0_flood_8 : dk cX0_flood 8 (.iconst (-1)) 1 9 := ⟨by decide +kernel, rfl⟩
theorem eX0_flood_9 : dk cX0_flood 9 (.ireturn) 1 10 := ⟨by decide +kernel, rfl⟩
theorem eX0_flood_10 : dk cX0_flood 10 (.aload_n 0) 1 11 := ⟨by decide +kernel, rfl⟩
theorem eX0_flood_11 : dk cX0_flood 11 (.iload_n 1) 1 12 := ⟨by decide +kernel, rfl⟩
theorem eX0_flood_12 : dk cX0_flood 12 (.invokevirtual 62) 3 15 := ⟨by decide +kernel, rfl⟩
theorem eX0_flood_15 : dk cX0_flood 15 (.istore_n 2) 1 16 := ⟨by decide +kernel, rfl⟩
theorem eX0_flood_16 : dk cX0_flood 16 (.iconst 0) 1 17 := ⟨by decide +kernel, rfl⟩
theorem eX0_flood_17 : dk cX0_flood 17 (.istore_n 3) 1 18 := ⟨by decide +kernel, rfl⟩
theorem eX0_flood_18 : dk cX0_flood 18 (.aload_n 0) 1 19 := ⟨by decide +kernel, rfl⟩
theorem eX0_flood_19 : dk cX0_flood 19 (.iconst 0) 1 20 := ⟨by decide +kernel, rfl⟩
theorem eX0_flood_20 : dk cX0_flood 20 (.putfield 66) 3 23 := ⟨by decide +kernel, rfl⟩
theorem eX0_flood_23 : dk cX0_flood 23 (.aload_n 0) 1 24 := ⟨by decide +kernel, rfl⟩
theorem eX0_flood_24 : dk cX0_flood 24 (.invokevirtual 34) 3 27 := ⟨by decide +kernel, rfl⟩
theorem eX0_flood_27 : dk cX0_flood 27 (.aload_n 0) 1 28 := ⟨by decide +kernel, rfl⟩
theorem eX0_flood_28 : dk cX0_flood 28 (.iload_n 1) 1 29 := ⟨by decide +kernel, rfl⟩
theorem eX0_flood_29 : dk cX0_flood 29 (.iconst 5) 1 30 := ⟨by decide +kernel, rfl⟩
theorem eX0_flood_30 : dk cX0_flood 30 (.ishr) 1 31 := ⟨by decide +kernel, rfl⟩
theorem eX0_flood_31 : dk cX0_flood 31 (.iload_n 1) 1 32 := ⟨by decide +kernel, rfl⟩
theorem eX0_flood_32 : dk cX0_flood 32 (.bipush 31) 2 34 := ⟨by decide +kernel, rfl⟩
theorem eX0_flood_34 : dk cX0_flood 34 (.iand) 1 35 := ⟨by decide +kernel, rfl⟩
theorem eX0_flood_35 : dk cX0_flood 35 (.iload_n 2) 1 36 := ⟨by decide +kernel, rfl⟩
theorem eX0_flood_36 : dk cX0_flood 36 (.invokevirtual 69) 3 39 := ⟨by decide +kernel, rfl⟩
theorem eX0_flood_39 : dk cX0_flood 39 (.aload_n 0) 1 40 := ⟨by decide +kernel, rfl⟩
theorem eX0_flood_40 : dk cX0_flood 40 (.getfield 66) 3 43 := ⟨by decide +kernel, rfl⟩
theorem eX0_flood_43 : db cX0_flood 43 (.ifCond .le) 46 141 := ⟨98, by decide +kernel, rfl, by decide⟩
theorem eX0_flood_46 : dk cX0_flood 46 (.aload_n 0) 1 47 := ⟨by decide +kernel, rfl⟩
theorem eX0_flood_47 : dk cX0_flood 47 (.dup) 1 48 := ⟨by decide +kernel, rfl⟩
theorem eX0_flood_48 : dk cX0_flood 48 (.getfield 66) 3 51 := ⟨by decide +kernel, rfl⟩
theorem eX0_flood_51 : dk cX0_flood 51 (.iconst 1) 1 52 := ⟨by decide +kernel, rfl⟩
theorem eX0_flood_52 : dk cX0_flood 52 (.isub) 1 53 := ⟨by decide +kernel, rfl⟩
theorem eX0_flood_53 : dk cX0_flood 53 (.putfield 66) 3 56 := ⟨by decide +kernel, rfl⟩
theorem eX0_flood_56 : dk cX0_flood 56 (.aload_n 0) 1 57 := ⟨by decide +kernel, rfl⟩
theorem eX0_flood_57 : dk cX0_flood 57 (.getfield 16) 3 60 := ⟨by decide +kernel, rfl⟩
theorem eX0_flood_60 : dk cX0_flood 60 (.aload_n 0) 1 61 := ⟨by decide +kernel, rfl⟩
theorem eX0_flood_61 : dk cX0_flood 61 (.getfield 66) 3 64 := ⟨by decide +kernel, rfl⟩
theorem eX0_flood_64 : dk cX0_flood 64 (.baload) 1 65 := ⟨by decide +kernel, rfl⟩
theorem eX0_flood_65 : dk cX0_flood 65 (.istore 4) 2 67 := ⟨by decide +kernel, rfl⟩
theorem eX0_flood_67 : dk cX0_flood 67 (.aload_n 0) 1 68 := ⟨by decide +kernel, rfl⟩
theorem eX0_flood_68 : dk cX0_flood 68 (.getfield 20) 3 71 := ⟨by decide +kernel, rfl⟩
theorem eX0_flood_71 : dk cX0_flood 71 (.aload_n 0) 1 72 := ⟨by decide +kernel, rfl⟩
theorem eX0_flood_72 : dk cX0_flood 72 (.getfield 66) 3 75 := ⟨by decide +kernel, rfl⟩
theorem eX0_flood_75 : dk cX0_flood 75 (.baload) 1 76 := ⟨by decide +kernel, rfl⟩
theorem eX0_flood_76 : dk cX0_flood 76 (.istore 5) 2 78 := ⟨by decide +kernel, rfl⟩
theorem eX0_flood_78 : dk cX0_flood 78 (.aload_n 0) 1 79 := ⟨by decide +kernel, rfl⟩
theorem eX0_flood_79 : dk cX0_flood 79 (.getfield 23) 3 82 := ⟨by decide +kernel, rfl⟩
theorem eX0_flood_82 : dk cX0_flood 82 (.aload_n 0) 1 83 := ⟨by decide +kernel, rfl⟩
theorem eX0_flood_83 : dk cX0_flood 83 (.getfield 66) 3 86 := ⟨by decide +kernel, rfl⟩
theorem eX0_flood_86 : dk cX0_flood 86 (.baload) 1 87 := ⟨by decide +kernel, rfl⟩
theorem eX0_flood_87 : dk cX0_flood 87 (.istore 6) 2 89 := ⟨by decide +kernel, rfl⟩
theorem eX0_flood_89 : dk cX0_flood 89 (.iload_n 3) 1 90 := ⟨by decide +kernel, rfl⟩
theorem eX0_flood_90 : dk cX0_flood 90 (.iload 6) 2 92 := ⟨by decide +kernel, rfl⟩
theorem eX0_flood_92 : dk cX0_flood 92 (.iload 5) 2 94 := ⟨by decide +kernel, rfl⟩
theorem eX0_flood_94 : dk cX0_flood 94 (.isub) 1 95 := ⟨by decide +kernel, rfl⟩
theorem eX0_flood_95 : dk cX0_flood 95 (.iconst 1) 1 96 := ⟨by decide +kernel, rfl⟩
theorem eX0_flood_96 : dk cX0_flood 96 (.iadd) 1 97 := ⟨by decide +kernel, rfl⟩
theorem eX0_flood_97 : dk cX0_flood 97 (.iadd) 1 98 := ⟨by decide +kernel, rfl⟩
theorem eX0_flood_98 : dk cX0_flood 98 (.istore_n 3) 1 99 := ⟨by decide +kernel, rfl⟩
theorem eX0_flood_99 : dk cX0_flood 99 (.iload 5) 2 101 := ⟨by decide +kernel, rfl⟩
theorem eX0_flood_101 : dk cX0_flood 101 (.istore 7) 2 103 := ⟨by decide +kernel, rfl⟩
theorem eX0_flood_103 : dk cX0_flood 103 (.iload 7) 2 105 := ⟨by decide +kernel, rfl⟩
theorem eX0_flood_105 : dk cX0_flood 105 (.iload 6) 2 107 := ⟨by decide +kernel, rfl⟩
theorem eX0_flood_107 : db cX0_flood 107 (.if_icmp .gt) 110 138 := ⟨31, by decide +kernel, rfl, by decide⟩
theorem eX0_flood_110 : dk cX0_flood 110 (.aload_n 0) 1 111 := ⟨by decide +kernel, rfl⟩
theorem eX0_flood_111 : dk cX0_flood 111 (.iload 4) 2 113 := ⟨by decide +kernel, rfl⟩
theorem eX0_flood_113 : dk cX0_flood 113 (.iconst 1) 1 114 := ⟨by decide +kernel, rfl⟩
theorem eX0_flood_114 : dk cX0_flood 114 (.isub) 1 115 := ⟨by decide +kernel, rfl⟩
theorem eX0_flood_115 : dk cX0_flood 115 (.iload 7) 2 117 := ⟨by decide +kernel, rfl⟩
theorem eX0_flood_117 : dk cX0_flood 117 (.iload_n 2) 1 118 := ⟨by decide +kernel, rfl⟩
theorem eX0_flood_118 : dk cX0_flood 118 (.invokevirtual 69) 3 121 := ⟨by decide +kernel, rfl⟩
theorem eX0_flood_121 : dk cX0_flood 121 (.aload_n 0) 1 122 := ⟨by decide +kernel, rfl⟩
theorem eX0_flood_122 : dk cX0_flood 122 (.iload 4) 2 124 := ⟨by decide +kernel, rfl⟩
theorem eX0_flood_124 : dk cX0_flood 124 (.iconst 1) 1 125 := ⟨by decide +kernel, rfl⟩
theorem eX0_flood_125 : dk cX0_flood 125 (.iadd) 1 126 := ⟨by decide +kernel, rfl⟩
theorem eX0_flood_126 : dk cX0_flood 126 (.iload 7) 2 128 := ⟨by decide +kernel, rfl⟩
theorem eX0_flood_128 : dk cX0_flood 128 (.iload_n 2) 1 129 := ⟨by decide +kernel, rfl⟩
theorem eX0_flood_129 : dk cX0_flood 129 (.invokevirtual 69) 3 132 := ⟨by decide +kernel, rfl⟩
theorem eX0_flood_132 : dk cX0_flood 132 (.iinc 7 1) 3 135 := ⟨by decide +kernel, rfl⟩
theorem eX0_flood_135 : db cX0_flood 135 (.goto) 138 103 := ⟨(-32), by decide +kernel, rfl, by decide⟩
theorem eX0_flood_138 : db cX0_flood 138 (.goto) 141 39 := ⟨(-99), by decide +kernel, rfl, by decide⟩
theorem eX0_flood_141 : dk cX0_flood 141 (.iconst 0) 1 142 := ⟨by decide +kernel, rfl⟩
theorem eX0_flood_142 : dk cX0_flood 142 (.istore 4) 2 144 := ⟨by decide +kernel, rfl⟩
theorem eX0_flood_144 : dk cX0_flood 144 (.iload 4) 2 146 := ⟨by decide +kernel, rfl⟩
theorem eX0_flood_146 : dk cX0_flood 146 (.bipush 24) 2 148 := ⟨by decide +kernel, rfl⟩
theorem eX0_flood_148 : db cX0_flood 148 (.if_icmp .ge) 151 174 := ⟨26, by decide +kernel, rfl, by decide⟩
theorem eX0_flood_151 : dk cX0_flood 151 (.aload_n 0) 1 152 := ⟨by decide +kernel, rfl⟩
theorem eX0_flood_152 : dk cX0_flood 152 (.getfield 7) 3 155 := ⟨by decide +kernel, rfl⟩
theorem eX0_flood_155 : dk cX0_flood 155 (.iload 4) 2 157 := ⟨by decide +kernel, rfl⟩
theorem eX0_flood_157 : dk cX0_flood 157 (.dup2) 1 158 := ⟨by decide +kernel, rfl⟩
theorem eX0_flood_158 : dk cX0_flood 158 (.iaload) 1 159 := ⟨by decide +kernel, rfl⟩
theorem eX0_flood_159 : dk cX0_flood 159 (.aload_n 0) 1 160 := ⟨by decide +kernel, rfl⟩
theorem eX0_flood_160 : dk cX0_flood 160 (.getfield 13) 3 163 := ⟨by decide +kernel, rfl⟩
theorem eX0_flood_163 : dk cX0_flood 163 (.iload 4) 2 165 := ⟨by decide +kernel, rfl⟩
theorem eX0_flood_165 : dk cX0_flood 165 (.iaload) 1 166 := ⟨by decide +kernel, rfl⟩
theorem eX0_flood_166 : dk cX0_flood 166 (.ixor) 1 167 := ⟨by decide +kernel, rfl⟩
theorem eX0_flood_167 : dk cX0_flood 167 (.iastore) 1 168 := ⟨by decide +kernel, rfl⟩
theorem eX0_flood_168 : dk cX0_flood 168 (.iinc 4 1) 3 171 := ⟨by decide +kernel, rfl⟩
theorem eX0_flood_171 : db cX0_flood 171 (.goto) 174 144 := ⟨(-27), by decide +kernel, rfl, by decide⟩
theorem eX0_flood_174 : dk cX0_flood 174 (.iload_n 3) 1 175 := ⟨by decide +kernel, rfl⟩
theorem eX0_flood_175 : dk cX0_flood 175 (.ireturn) 1 176 := ⟨by decide +kernel, rfl⟩
theorem eX0_get_0 : dk cX0_get 0 (.aload_n 0) 1 1 := ⟨by decide +kernel, rfl⟩
theorem eX0_get_1 : dk cX0_get 1 (.iload_n 1) 1 2 := ⟨by decide +kernel, rfl⟩
theorem eX0_get_2 : dk cX0_get 2 (.invokevirtual 30) 3 5 := ⟨by decide +kernel, rfl⟩
theorem eX0_get_5 : db cX0_get 5 (.ifCond .eq) 8 26 := ⟨21, by decide +kernel, rfl, by decide⟩
theorem eX0_get_8 : dk cX0_get 8 (.aload_n 0) 1 9 := ⟨by decide +kernel, rfl⟩
theorem eX0_get_9 : dk cX0_get 9 (.getfield 7) 3 12 := ⟨by decide +kernel, rfl⟩
theorem eX0_get_12 : dk cX0_get 12 (.iload_n 1) 1 13 := ⟨by decide +kernel, rfl⟩
theorem eX0_get_13 : dk cX0_get 13 (.iconst 5) 1 14 := ⟨by decide +kernel, rfl⟩
theorem eX0_get_14 : dk cX0_get 14 (.ishr) 1 15 := ⟨by decide +kernel, rfl⟩
theorem eX0_get_15 : dk cX0_get 15 (.iaload) 1 16 := ⟨by decide +kernel, rfl⟩
theorem eX0_get_16 : dk cX0_get 16 (.iload_n 1) 1 17 := ⟨by decide +kernel, rfl⟩
theorem eX0_get_17 : dk cX0_get 17 (.bipush 31) 2 19 := ⟨by decide +kernel, rfl⟩
theorem eX0_get_19 : dk cX0_get 19 (.iand) 1 20 := ⟨by decide +kernel, rfl⟩
theorem eX0_get_20 : dk cX0_get 20 (.ishr) 1 21 := ⟨by decide +kernel, rfl⟩
theorem eX0_get_21 : dk cX0_get 21 (.iconst 1) 1 22 := ⟨by decide +kernel, rfl⟩
theorem eX0_get_22 : dk cX0_get 22 (.iand) 1 23 := ⟨by decide +kernel, rfl⟩
theorem eX0_get_23 : db cX0_get 23 (.goto) 26 27 := ⟨4, by decide +kernel, rfl, by decide⟩
theorem eX0_get_26 : dk cX0_get 26 (.iconst (-1)) 1 27 := ⟨by decide +kernel, rfl⟩
theorem eX0_get_27 : dk cX0_get 27 (.ireturn) 1 28 := ⟨by decide +kernel, rfl⟩
theorem eX0_addRun_0 : dk cX0_addRun 0 (.iload_n 1) 1 1 := ⟨by decide +kernel, rfl⟩
theorem eX0_addRun_1 : db cX0_addRun 1 (.ifCond .lt) 4 37 := ⟨36, by decide +kernel, rfl, by decide⟩
theorem eX0_addRun_4 : dk cX0_addRun 4 (.iload_n 1) 1 5 := ⟨by decide +kernel, rfl⟩
theorem eX0_addRun_5 : dk cX0_addRun 5 (.bipush 24) 2 7 := ⟨by decide +kernel, rfl⟩
theorem eX0_addRun_7 : db cX0_addRun 7 (.if_icmp .ge) 10 37 := ⟨30, by decide +kernel, rfl, by decide⟩
theorem eX0_addRun_10 : dk cX0_addRun 10 (.aload_n 0) 1 11 := ⟨by decide +kernel, rfl⟩
theorem eX0_addRun_11 : dk cX0_addRun 11 (.getfield 13) 3 14 := ⟨by decide +kernel, rfl⟩
theorem eX0_addRun_14 : dk cX0_addRun 14 (.iload_n 1) 1 15 := ⟨by decide +kernel, rfl⟩
theorem eX0_addRun_15 : dk cX0_addRun 15 (.iaload) 1 16 := ⟨by decide +kernel, rfl⟩
theorem eX0_addRun_16 : dk cX0_addRun 16 (.iload_n 2) 1 17 := ⟨by decide +kernel, rfl⟩
theorem eX0_addRun_17 : dk cX0_addRun 17 (.ishr) 1 18 := ⟨by decide +kernel, rfl⟩
theorem eX0_addRun_18 : dk cX0_addRun 18 (.iconst 1) 1 19 := ⟨by decide +kernel, rfl⟩
theorem eX0_addRun_19 : dk cX0_addRun 19 (.iand) 1 20 := ⟨by decide +kernel, rfl⟩
theorem eX0_addRun_20 : db cX0_addRun 20 (.ifCond .ne) 23 37 := ⟨17, by decide +kernel, rfl, by decide⟩
theorem eX0_addRun_23 : dk cX0_addRun 23 (.aload_n 0) 1 24 := ⟨by decide +kernel, rfl⟩
theorem eX0_addRun_24 : dk cX0_addRun 24 (.getfield 7) 3 27 := ⟨by decide +kernel, rfl⟩
theorem eX0_addRun_27 : dk cX0_addRun 27 (.iload_n 1) 1 28 := ⟨by decide +kernel, rfl⟩
theorem eX0_addRun_28 : dk cX0_addRun 28 (.iaload) 1 29 := ⟨by decide +kernel, rfl⟩
theorem eX0_addRun_29 : dk cX0_addRun 29 (.iload_n 2) 1 30 := ⟨by decide +kernel, rfl⟩
theorem eX0_addRun_30 : dk cX0_addRun 30 (.ishr) 1 31 := ⟨by decide +kernel, rfl⟩
theorem eX0_addRun_31 : dk cX0_addRun 31 (.iconst 1) 1 32 := ⟨by decide +kernel, rfl⟩
theorem eX0_addRun_32 : dk cX0_addRun 32 (.iand) 1 33 := ⟨by decide +kernel, rfl⟩
theorem eX0_addRun_33 : dk cX0_addRun 33 (.iload_n 3) 1 34 := ⟨by decide +kernel, rfl⟩
theorem eX0_addRun_34 : db cX0_addRun 34 (.if_icmp .eq) 37 38 := ⟨4, by decide +kernel, rfl, by decide⟩
theorem eX0_addRun_37 : dk cX0_addRun 37 (.return_) 1 38 := ⟨by decide +kernel, rfl⟩
theorem eX0_addRun_38 : dk cX0_addRun 38 (.iload_n 2) 1 39 := ⟨by decide +kernel, rfl⟩
theorem eX0_addRun_39 : dk cX0_addRun 39 (.istore 4) 2 41 := ⟨by decide +kernel, rfl⟩
theorem eX0_addRun_41 : dk cX0_addRun 41 (.iload_n 2) 1 42 := ⟨by decide +kernel, rfl⟩
theorem eX0_addRun_42 : dk cX0_addRun 42 (.istore 5) 2 44 := ⟨by decide +kernel, rfl⟩
theorem eX0_addRun_44 : dk cX0_addRun 44 (.iload 4) 2 46 := ⟨by decide +kernel, rfl⟩
theorem eX0_addRun_46 : db cX0_addRun 46 (.ifCond .le) 49 72 := ⟨26, by decide +kernel, rfl, by decide⟩
theorem eX0_addRun_49 : dk cX0_addRun 49 (.aload_n 0) 1 50 := ⟨by decide +kernel, rfl⟩
theorem eX0_addRun_50 : dk cX0_addRun 50 (.getfield 7) 3 53 := ⟨by decide +kernel, rfl⟩
theorem eX0_addRun_53 : dk cX0_addRun 53 (.iload_n 1) 1 54 := ⟨by decide +kernel, rfl⟩
theorem eX0_addRun_54 : dk cX0_addRun 54 (.iaload) 1 55 := ⟨by decide +kernel, rfl⟩
theorem eX0_addRun_55 : dk cX0_addRun 55 (.iload 4) 2 57 := ⟨by decide +kernel, rfl⟩
theorem eX0_addRun_57 : dk cX0_addRun 57 (.iconst 1) 1 58 := ⟨by decide +kernel, rfl⟩
theorem eX0_addRun_58 : dk cX0_addRun 58 (.isub) 1 59 := ⟨by decide +kernel, rfl⟩
theorem eX0_addRun_59 : dk cX0_addRun 59 (.ishr) 1 60 := ⟨by decide +kernel, rfl⟩
theorem eX0_addRun_60 : dk cX0_addRun 60 (.iconst 1) 1 61 := ⟨by decide +kernel, rfl⟩
theorem eX0_addRun_61 : dk cX0_addRun 61 (.iand) 1 62 := ⟨by decide +kernel, rfl⟩
theorem eX0_addRun_62 : dk cX0_addRun 62 (.iload_n 3) 1 63 := ⟨by decide +kernel, rfl⟩
theorem eX0_addRun_63 : db cX0_addRun 63 (.if_icmp .ne) 66 72 := ⟨9, by decide +kernel, rfl, by decide⟩
theorem eX0_addRun_66 : dk cX0_addRun 66 (.iinc 4 (-1)) 3 69 := ⟨by decide +kernel, rfl⟩
theorem eX0_addRun_69 : db cX0_addRun 69 (.goto) 72 44 := ⟨(-25), by decide +kernel, rfl, by decide⟩
theorem eX0_addRun_72 : dk cX0_addRun 72 (.iload 5) 2 74 := ⟨by decide +kernel, rfl⟩
theorem eX0_addRun_74 : dk cX0_addRun 74 (.bipush 23) 2 76 := ⟨by decide +kernel, rfl⟩
theorem eX0_addRun_76 : db cX0_addRun 76 (.if_icmp .ge) 79 102 := ⟨26, by decide +kernel, rfl, by decide⟩
theorem eX0_addRun_79 : dk cX0_addRun 79 (.aload_n 0) 1 80 := ⟨by decide +kernel, rfl⟩
theorem eX0_addRun_80 : dk cX0_addRun 80 (.getfield 7) 3 83 := ⟨by decide +kernel, rfl⟩
theorem eX0_addRun_83 : dk cX0_addRun 83 (.iload_n 1) 1 84 := ⟨by decide +kernel, rfl⟩
theorem eX0_addRun_84 : dk cX0_addRun 84 (.iaload) 1 85 := ⟨by decide +kernel, rfl⟩
theorem eX0_addRun_85 : dk cX0_addRun 85 (.iload 5) 2 87 := ⟨by decide +kernel, rfl⟩
theorem eX0_addRun_87 : dk cX0_addRun 87 (.iconst 1) 1 88 := ⟨by decide +kernel, rfl⟩
theorem eX0_addRun_88 : dk cX0_addRun 88 (.iadd) 1 89 := ⟨by decide +kernel, rfl⟩
theorem eX0_addRun_89 : dk cX0_addRun 89 (.ishr) 1 90 := ⟨by decide +kernel, rfl⟩
theorem eX0_addRun_90 : dk cX0_addRun 90 (.iconst 1) 1 91 := ⟨by decide +kernel, rfl⟩
theorem eX0_addRun_91 : dk cX0_addRun 91 (.iand) 1 92 := ⟨by decide +kernel, rfl⟩
theorem eX0_addRun_92 : dk cX0_addRun 92 (.iload_n 3) 1 93 := ⟨by decide +kernel, rfl⟩
theorem eX0_addRun_93 : db cX0_addRun 93 (.if_icmp .ne) 96 102 := ⟨9, by decide +kernel, rfl, by decide⟩
theorem eX0_addRun_96 : dk cX0_addRun 96 (.iinc 5 1) 3 99 := ⟨by decide +kernel, rfl⟩
theorem eX0_addRun_99 : db cX0_addRun 99 (.goto) 102 72 := ⟨(-27), by decide +kernel, rfl, by decide⟩
theorem eX0_addRun_102 : dk cX0_addRun 102 (.aload_n 0) 1 103 := ⟨by decide +kernel, rfl⟩
theorem eX0_addRun_103 : dk cX0_addRun 103 (.getfield 13) 3 106 := ⟨by decide +kernel, rfl⟩
theorem eX0_addRun_106 : dk cX0_addRun 106 (.iload_n 1) 1 107 := ⟨by decide +kernel, rfl⟩
theorem eX0_addRun_107 : dk cX0_addRun 107 (.dup2) 1 108 := ⟨by decide +kernel, rfl⟩
theorem eX0_addRun_108 : dk cX0_addRun 108 (.iaload) 1 109 := ⟨by decide +kernel, rfl⟩
theorem eX0_addRun_109 : dk cX0_addRun 109 (.iconst 1) 1 110 := ⟨by decide +kernel, rfl⟩
theorem eX0_addRun_110 : dk cX0_addRun 110 (.iload 5) 2 112 := ⟨by decide +kernel, rfl⟩
theorem eX0_addRun_112 : dk cX0_addRun 112 (.iconst 1) 1 113 := ⟨by decide +kernel, rfl⟩
theorem eX0_addRun_113 : dk cX0_addRun 113 (.iadd) 1 114 := ⟨by decide +kernel, rfl⟩
theorem eX0_addRun_114 : dk cX0_addRun 114 (.ishl) 1 115 := ⟨by decide +kernel, rfl⟩
theorem eX0_addRun_115 : dk cX0_addRun 115 (.iconst 1) 1 116 := ⟨by decide +kernel, rfl⟩
theorem eX0_addRun_116 : dk cX0_addRun 116 (.iload 4) 2 118 := ⟨by decide +kernel, rfl⟩
theorem eX0_addRun_118 : dk cX0_addRun 118 (.ishl) 1 119 := ⟨by decide +kernel, rfl⟩
theorem eX0_addRun_119 : dk cX0_addRun 119 (.isub) 1 120 := ⟨by decide +kernel, rfl⟩
theorem eX0_addRun_120 : dk cX0_addRun 120 (.ior) 1 121 := ⟨by decide +kernel, rfl⟩
theorem eX0_addRun_121 : dk cX0_addRun 121 (.iastore) 1 122 := ⟨by decide +kernel, rfl⟩
theorem eX0_addRun_122 : dk cX0_addRun 122 (.aload_n 0) 1 123 := ⟨by decide +kernel, rfl⟩
theorem eX0_addRun_123 : dk cX0_addRun 123 (.getfield 16) 3 126 := ⟨by decide +kernel, rfl⟩
theorem eX0_addRun_126 : dk cX0_addRun 126 (.aload_n 0) 1 127 := ⟨by decide +kernel, rfl⟩
theorem eX0_addRun_127 : dk cX0_addRun 127 (.getfield 66) 3 130 := ⟨by decide +kernel, rfl⟩
theorem eX0_addRun_130 : dk cX0_addRun 130 (.iload_n 1) 1 131 := ⟨by decide +kernel, rfl⟩
theorem eX0_addRun_131 : dk cX0_addRun 131 (.i2b) 1 132 := ⟨by decide +kernel, rfl⟩
theorem eX0_addRun_132 : dk cX0_addRun 132 (.bastore) 1 133 := ⟨by decide +kernel, rfl⟩
theorem eX0_addRun_133 : dk cX0_addRun 133 (.aload_n 0) 1 134 := ⟨by decide +kernel, rfl⟩
theorem eX0_addRun_134 : dk cX0_addRun 134 (.getfield 20) 3 137 := ⟨by decide +kernel, rfl⟩
theorem eX0_addRun_137 : dk cX0_addRun 137 (.aload_n 0) 1 138 := ⟨by decide +kernel, rfl⟩
theorem eX0_addRun_138 : dk cX0_addRun 138 (.getfield 66) 3 141 := ⟨by decide +kernel, rfl⟩
theorem eX0_addRun_141 : dk cX0_addRun 141 (.iload 4) 2 143 := ⟨by decide +kernel, rfl⟩
theorem eX0_addRun_143 : dk cX0_addRun 143 (.i2b) 1 144 := ⟨by decide +kernel, rfl⟩
theorem eX0_addRun_144 : dk cX0_addRun 144 (.bastore) 1 145 := ⟨by decide +kernel, rfl⟩
theorem eX0_addRun_145 : dk cX0_addRun 145 (.aload_n 0) 1 146 := ⟨by decide +kernel, rfl⟩
theorem eX0_addRun_146 : dk cX0_addRun 146 (.getfield 23) 3 149 := ⟨by decide +kernel, rfl⟩
theorem eX0_addRun_149 : dk cX0_addRun 149 (.aload_n 0) 1 150 := ⟨by decide +kernel, rfl⟩
theorem eX0_addRun_150 : dk cX0_addRun 150 (.getfield 66) 3 153 := ⟨by decide +kernel, rfl⟩
theorem eX0_addRun_153 : dk cX0_addRun 153 (.iload 5) 2 155 := ⟨by decide +kernel, rfl⟩
theorem eX0_addRun_155 : dk cX0_addRun 155 (.i2b) 1 156 := ⟨by decide +kernel, rfl⟩
theorem eX0_addRun_156 : dk cX0_addRun 156 (.bastore) 1 157 := ⟨by decide +kernel, rfl⟩
theorem eX0_addRun_157 : dk cX0_addRun 157 (.aload_n 0) 1 158 := ⟨by decide +kernel, rfl⟩
theorem eX0_addRun_158 : dk cX0_addRun 158 (.dup) 1 159 := ⟨by decide +kernel, rfl⟩
theorem eX0_addRun_159 : dk cX0_addRun 159 (.getfield 66) 3 162 := ⟨by decide +kernel, rfl⟩
theorem eX0_addRun_162 : dk cX0_addRun 162 (.iconst 1) 1 163 := ⟨by decide +kernel, rfl⟩
theorem eX0_addRun_163 : dk cX0_addRun 163 (.iadd) 1 164 := ⟨by decide +kernel, rfl⟩
theorem eX0_addRun_164 : dk cX0_addRun 164 (.putfield 66) 3 167 := ⟨by decide +kernel, rfl⟩
theorem eX0_addRun_167 : dk cX0_addRun 167 (.return_) 1 168 := ⟨by decide +kernel, rfl⟩
theorem eX0_count_0 : dk cX0_count 0 (.iconst 0) 1 1 := ⟨by decide +kernel, rfl⟩
theorem eX0_count_1 : dk cX0_count 1 (.istore_n 1) 1 2 := ⟨by decide +kernel, rfl⟩
theorem eX0_count_2 : dk cX0_count 2 (.iconst 0) 1 3 := ⟨by decide +kernel, rfl⟩
theorem eX0_count_3 : dk cX0_count 3 (.istore_n 2) 1 4 := ⟨by decide +kernel, rfl⟩
theorem eX0_count_4 : dk cX0_count 4 (.iload_n 2) 1 5 := ⟨by decide +kernel, rfl⟩
theorem eX0_count_5 : dk cX0_count 5 (.bipush 24) 2 7 := ⟨by decide +kernel, rfl⟩
theorem eX0_count_7 : db cX0_count 7 (.if_icmp .ge) 10 29 := ⟨22, by decide +kernel, rfl, by decide⟩
theorem eX0_count_10 : dk cX0_count 10 (.iload_n 1) 1 11 := ⟨by decide +kernel, rfl⟩
theorem eX0_count_11 : dk cX0_count 11 (.aload_n 0) 1 12 := ⟨by decide +kernel, rfl⟩
theorem eX0_count_12 : dk cX0_count 12 (.aload_n 0) 1 13 := ⟨by decide +kernel, rfl⟩
theorem eX0_count_13 : dk cX0_count 13 (.getfield 7) 3 16 := ⟨by decide +kernel, rfl⟩
theorem eX0_count_16 : dk cX0_count 16 (.iload_n 2) 1 17 := ⟨by decide +kernel, rfl⟩
theorem eX0_count_17 : dk cX0_count 17 (.iaload) 1 18 := ⟨by decide +kernel, rfl⟩
theorem eX0_count_18 : dk cX0_count 18 (.invokevirtual 72) 3 21 := ⟨by decide +kernel, rfl⟩
theorem eX0_count_21 : dk cX0_count 21 (.iadd) 1 22 := ⟨by decide +kernel, rfl⟩
theorem eX0_count_22 : dk cX0_count 22 (.istore_n 1) 1 23 := ⟨by decide +kernel, rfl⟩
theorem eX0_count_23 : dk cX0_count 23 (.iinc 2 1) 3 26 := ⟨by decide +kernel, rfl⟩
theorem eX0_count_26 : db cX0_count 26 (.goto) 29 4 := ⟨(-22), by decide +kernel, rfl, by decide⟩
theorem eX0_count_29 : dk cX0_count 29 (.iload_n 1) 1 30 := ⟨by decide +kernel, rfl⟩
theorem eX0_count_30 : dk cX0_count 30 (.ireturn) 1 31 := ⟨by decide +kernel, rfl⟩
theorem eX0_row_0 : dk cX0_row 0 (.iload_n 1) 1 1 := ⟨by decide +kernel, rfl⟩
theorem eX0_row_1 : db cX0_row 1 (.ifCond .lt) 4 10 := ⟨9, by decide +kernel, rfl, by decide⟩
theorem eX0_row_4 : dk cX0_row 4 (.iload_n 1) 1 5 := ⟨by decide +kernel, rfl⟩
theorem eX0_row_5 : dk cX0_row 5 (.bipush 24) 2 7 := ⟨by decide +kernel, rfl⟩
theorem eX0_row_7 : db cX0_row 7 (.if_icmp .lt) 10 14 := ⟨7, by decide +kernel, rfl, by decide⟩
theorem eX0_row_10 : dk cX0_row 10 (.iconst (-1)) 1 11 := ⟨by decide +kernel, rfl⟩
theorem eX0_row_11 : db cX0_row 11 (.goto) 14 20 := ⟨9, by decide +kernel, rfl, by decide⟩
theorem eX0_row_14 : dk cX0_row 14 (.aload_n 0) 1 15 := ⟨by decide +kernel, rfl⟩
theorem eX0_row_15 : dk cX0_row 15 (.getfield 7) 3 18 := ⟨by decide +kernel, rfl⟩
theorem eX0_row_18 : dk cX0_row 18 (.iload_n 1) 1 19 := ⟨by decide +kernel, rfl⟩
theorem eX0_row_19 : dk cX0_row 19 (.iaload) 1 20 := ⟨by decide +kernel, rfl⟩
theorem eX0_row_20 : dk cX0_row 20 (.ireturn) 1 21 := ⟨by decide +kernel, rfl⟩
theorem eX0_move_0 : dk cX0_move 0 (.iload_n 1) 1 1 := ⟨by decide +kernel, rfl⟩
theorem eX0_move_1 : dk cX0_move 1 (.bipush (-24)) 2 3 := ⟨by decide +kernel, rfl⟩
theorem eX0_move_3 : db cX0_move 3 (.if_icmp .lt) 6 24 := ⟨21, by decide +kernel, rfl, by decide⟩
theorem eX0_move_6 : dk cX0_move 6 (.iload_n 1) 1 7 := ⟨by decide +kernel, rfl⟩
theorem eX0_move_7 : dk cX0_move 7 (.bipush 24) 2 9 := ⟨by decide +kernel, rfl⟩
theorem eX0_move_9 : db cX0_move 9 (.if_icmp .gt) 12 24 := ⟨15, by decide +kernel, rfl, by decide⟩
theorem eX0_move_12 : dk cX0_move 12 (.iload_n 2) 1 13 := ⟨by decide +kernel, rfl⟩
theorem eX0_move_13 : dk cX0_move 13 (.bipush (-24)) 2 15 := ⟨by decide +kernel, rfl⟩
theorem eX0_move_15 : db cX0_move 15 (.if_icmp .lt) 18 24 := ⟨9, by decide +kernel, rfl, by decide⟩
theorem eX0_move_18 : dk cX0_move 18 (.iload_n 2) 1 19 := ⟨by decide +kernel, rfl⟩
theorem eX0_move_19 : dk cX0_move 19 (.bipush 24) 2 21 := ⟨by decide +kernel, rfl⟩
theorem eX0_move_21 : db cX0_move 21 (.if_icmp .le) 24 26 := ⟨5, by decide +kernel, rfl, by decide⟩
theorem eX0_move_24 : dk cX0_move 24 (.iconst (-1)) 1 25 := ⟨by decide +kernel, rfl⟩
theorem eX0_move_25 : dk cX0_move 25 (.ireturn) 1 26 := ⟨by decide +kernel, rfl⟩
theorem eX0_move_26 : dk cX0_move 26 (.aload_n 0) 1 27 := ⟨by decide +kernel, rfl⟩
theorem eX0_move_27 : dk cX0_move 27 (.invokevirtual 75) 3 30 := ⟨by decide +kernel, rfl⟩
theorem eX0_move_30 : dk cX0_move 30 (.istore_n 3) 1 31 := ⟨by decide +kernel, rfl⟩
theorem eX0_move_31 : dk cX0_move 31 (.iconst 0) 1 32 := ⟨by decide +kernel, rfl⟩
theorem eX0_move_32 : dk cX0_move 32 (.istore 4) 2 34 := ⟨by decide +kernel, rfl⟩
theorem eX0_move_34 : dk cX0_move 34 (.iload 4) 2 36 := ⟨by decide +kernel, rfl⟩
theorem eX0_move_36 : dk cX0_move 36 (.bipush 24) 2 38 := ⟨by decide +kernel, rfl⟩
theorem eX0_move_38 : db cX0_move 38 (.if_icmp .ge) 41 83 := ⟨45, by decide +kernel, rfl, by decide⟩
theorem eX0_move_41 : dk cX0_move 41 (.aload_n 0) 1 42 := ⟨by decide +kernel, rfl⟩
theorem eX0_move_42 : dk cX0_move 42 (.getfield 13) 3 45 := ⟨by decide +kernel, rfl⟩
theorem eX0_move_45 : dk cX0_move 45 (.iload 4) 2 47 := ⟨by decide +kernel, rfl⟩
theorem eX0_move_47 : dk cX0_move 47 (.iload 4) 2 49 := ⟨by decide +kernel, rfl⟩
theorem eX0_move_49 : dk cX0_move 49 (.iload_n 2) 1 50 := ⟨by decide +kernel, rfl⟩
theorem eX0_move_50 : dk cX0_move 50 (.isub) 1 51 := ⟨by decide +kernel, rfl⟩
theorem eX0_move_51 : db cX0_move 51 (.ifCond .lt) 54 75 := ⟨24, by decide +kernel, rfl, by decide⟩
theorem eX0_move_54 : dk cX0_move 54 (.iload 4) 2 56 := ⟨by decide +kernel, rfl⟩
theorem eX0_move_56 : dk cX0_move 56 (.iload_n 2) 1 57 := ⟨by decide +kernel, rfl⟩
theorem eX0_move_57 : dk cX0_move 57 (.isub) 1 58 := ⟨by decide +kernel, rfl⟩
theorem eX0_move_58 : dk cX0_move 58 (.bipush 24) 2 60 := ⟨by decide +kernel, rfl⟩
theorem eX0_move_60 : db cX0_move 60 (.if_icmp .ge) 63 75 := ⟨15, by decide +kernel, rfl, by decide⟩
theorem eX0_move_63 : dk cX0_move 63 (.aload_n 0) 1 64 := ⟨by decide +kernel, rfl⟩
theorem eX0_move_64 : dk cX0_move 64 (.getfield 7) 3 67 := ⟨by decide +kernel, rfl⟩
theorem eX0_move_67 : dk cX0_move 67 (.iload 4) 2 69 := ⟨by decide +kernel, rfl⟩
theorem eX0_move_69 : dk cX0_move 69 (.iload_n 2) 1 70 := ⟨by decide +kernel, rfl⟩
theorem eX0_move_70 : dk cX0_move 70 (.isub) 1 71 := ⟨by decide +kernel, rfl⟩
theorem eX0_move_71 : dk cX0_move 71 (.iaload) 1 72 := ⟨by decide +kernel, rfl⟩
theorem eX0_move_72 : db cX0_move 72 (.goto) 75 76 := ⟨4, by decide +kernel, rfl, by decide⟩
theorem eX0_move_75 : dk cX0_move 75 (.iconst 0) 1 76 := ⟨by decide +kernel, rfl⟩
theorem eX0_move_76 : dk cX0_move 76 (.iastore) 1 77 := ⟨by decide +kernel, rfl⟩
theorem eX0_move_77 : dk cX0_move 77 (.iinc 4 1) 3 80 := ⟨by decide +kernel, rfl⟩
theorem eX0_move_80 : db cX0_move 80 (.goto) 83 34 := ⟨(-46), by decide +kernel, rfl, by decide⟩
theorem eX0_move_83 : dk cX0_move 83 (.iconst 0) 1 84 := ⟨by decide +kernel, rfl⟩
theorem eX0_move_84 : dk cX0_move 84 (.istore 4) 2 86 := ⟨by decide +kernel, rfl⟩
theorem eX0_move_86 : dk cX0_move 86 (.iload 4) 2 88 := ⟨by decide +kernel, rfl⟩
theorem eX0_move_88 : dk cX0_move 88 (.bipush 24) 2 90 := ⟨by decide +kernel, rfl⟩
theorem eX0_move_90 : db cX0_move 90 (.if_icmp .ge) 93 135 := ⟨45, by decide +kernel, rfl, by decide⟩
theorem eX0_move_93 : dk cX0_move 93 (.aload_n 0) 1 94 := ⟨by decide +kernel, rfl⟩
theorem eX0_move_94 : dk cX0_move 94 (.getfield 7) 3 97 := ⟨by decide +kernel, rfl⟩
theorem eX0_move_97 : dk cX0_move 97 (.iload 4) 2 99 := ⟨by decide +kernel, rfl⟩
theorem eX0_move_99 : dk cX0_move 99 (.iload_n 1) 1 100 := ⟨by decide +kernel, rfl⟩
theorem eX0_move_100 : db cX0_move 100 (.ifCond .lt) 103 115 := ⟨15, by decide +kernel, rfl, by decide⟩
theorem eX0_move_103 : dk cX0_move 103 (.aload_n 0) 1 104 := ⟨by decide +kernel, rfl⟩
theorem eX0_move_104 : dk cX0_move 104 (.getfield 13) 3 107 := ⟨by decide +kernel, rfl⟩
theorem eX0_move_107 : dk cX0_move 107 (.iload 4) 2 109 := ⟨by decide +kernel, rfl⟩
theorem eX0_move_109 : dk cX0_move 109 (.iaload) 1 110 := ⟨by decide +kernel, rfl⟩
theorem eX0_move_110 : dk cX0_move 110 (.iload_n 1) 1 111 := ⟨by decide +kernel, rfl⟩
theorem eX0_move_111 : dk cX0_move 111 (.ishl) 1 112 := ⟨by decide +kernel, rfl⟩
theorem eX0_move_112 : db cX0_move 112 (.goto) 115 125 := ⟨13, by decide +kernel, rfl, by decide⟩
theorem eX0_move_115 : dk cX0_move 115 (.aload_n 0) 1 116 := ⟨by decide +kernel, rfl⟩
theorem eX0_move_116 : dk cX0_move 116 (.getfield 13) 3 119 := ⟨by decide +kernel, rfl⟩
theorem eX0_move_119 : dk cX0_move 119 (.iload 4) 2 121 := ⟨by decide +kernel, rfl⟩
theorem eX0_move_121 : dk cX0_move 121 (.iaload) 1 122 := ⟨by decide +kernel, rfl⟩
theorem eX0_move_122 : dk cX0_move 122 (.iload_n 1) 1 123 := ⟨by decide +kernel, rfl⟩
theorem eX0_move_123 : dk cX0_move 123 (.ineg) 1 124 := ⟨by decide +kernel, rfl⟩
theorem eX0_move_124 : dk cX0_move 124 (.ishr) 1 125 := ⟨by decide +kernel, rfl⟩
theorem eX0_move_125 : dk cX0_move 125 (.ldc 78) 2 127 := ⟨by decide +kernel, rfl⟩
theorem eX0_move_127 : dk cX0_move 127 (.iand) 1 128 := ⟨by decide +kernel, rfl⟩
theorem eX0_move_128 : dk cX0_move 128 (.iastore) 1 129 := ⟨by decide +kernel, rfl⟩
theorem eX0_move_129 : dk cX0_move 129 (.iinc 4 1) 3 132 := ⟨by decide +kernel, rfl⟩
theorem eX0_move_132 : db cX0_move 132 (.goto) 135 86 := ⟨(-46), by decide +kernel, rfl, by decide⟩
theorem eX0_move_135 : dk cX0_move 135 (.iload_n 3) 1 136 := ⟨by decide +kernel, rfl⟩
theorem eX0_move_136 : dk cX0_move 136 (.aload_n 0) 1 137 := ⟨by decide +kernel, rfl⟩
theorem eX0_move_137 : dk cX0_move 137 (.invokevirtual 75) 3 140 := ⟨by decide +kernel, rfl⟩
theorem eX0_move_140 : dk cX0_move 140 (.isub) 1 141 := ⟨by decide +kernel, rfl⟩
theorem eX0_move_141 : dk cX0_move 141 (.ireturn) 1 142 := ⟨by decide +kernel, rfl⟩
end
section
set_option maxRecDepth 100000
theorem eX1_init_0 : dk cX1_init 0 (.aload_n 0) 1 1 := ⟨by decide +kernel, rfl⟩
theorem eX1_init_1 : dk cX1_init 1 (.invokespecial 1) 3 4 := ⟨by decide +kernel, rfl⟩
theorem eX1_init_4 : dk cX1_init 4 (.aload_n 0) 1 5 := ⟨by decide +kernel, rfl⟩
theorem eX1_init_5 : dk cX1_init 5 (.sipush 576) 3 8 := ⟨by decide +kernel, rfl⟩
theorem eX1_init_8 : dk cX1_init 8 (.newarray .boolean) 2 10 := ⟨by decide +kernel, rfl⟩
theorem eX1_init_10 : dk cX1_init 10 (.putfield 7) 3 13 := ⟨by decide +kernel, rfl⟩
theorem eX1_init_13 : dk cX1_init 13 (.aload_n 0) 1 14 := ⟨by decide +kernel, rfl⟩
theorem eX1_init_14 : dk cX1_init 14 (.sipush 576) 3 17 := ⟨by decide +kernel, rfl⟩
theorem eX1_init_17 : dk cX1_init 17 (.newarray .boolean) 2 19 := ⟨by decide +kernel, rfl⟩
theorem eX1_init_19 : dk cX1_init 19 (.putfield 13) 3 22 := ⟨by decide +kernel, rfl⟩
theorem eX1_init_22 : dk cX1_init 22 (.aload_n 0) 1 23 := ⟨by decide +kernel, rfl⟩
theorem eX1_init_23 : dk cX1_init 23 (.iconst 0) 1 24 := ⟨by decide +kernel, rfl⟩
theorem eX1_init_24 : dk cX1_init 24 (.putfield 16) 3 27 := ⟨by decide +kernel, rfl⟩
theorem eX1_init_27 : dk cX1_init 27 (.return_) 1 28 := ⟨by decide +kernel, rfl⟩
theorem eX1_pen_0 : dk cX1_pen 0 (.iload_n 1) 1 1 := ⟨by decide +kernel, rfl⟩
theorem eX1_pen_1 : db cX1_pen 1 (.ifCond .lt) 4 9 := ⟨8, by decide +kernel, rfl, by decide⟩
theorem eX1_pen_4 : dk cX1_pen 4 (.iload_n 1) 1 5 := ⟨by decide +kernel, rfl⟩
theorem eX1_pen_5 : dk cX1_pen 5 (.iconst 2) 1 6 := ⟨by decide +kernel, rfl⟩
theorem eX1_pen_6 : db cX1_pen 6 (.if_icmp .le) 9 11 := ⟨5, by decide +kernel, rfl, by decide⟩
theorem eX1_pen_9 : dk cX1_pen 9 (.iconst 0) 1 10 := ⟨by decide +kernel, rfl⟩
theorem eX1_pen_10 : dk cX1_pen 10 (.ireturn) 1 11 := ⟨by decide +kernel, rfl⟩
theorem eX1_pen_11 : dk cX1_pen 11 (.aload_n 0) 1 12 := ⟨by decide +kernel, rfl⟩
theorem eX1_pen_12 : dk cX1_pen 12 (.iload_n 1) 1 13 := ⟨by decide +kernel, rfl⟩
theorem eX1_pen_13 : dk cX1_pen 13 (.putfield 16) 3 16 := ⟨by decide +kernel, rfl⟩
theorem eX1_pen_16 : dk cX1_pen 16 (.iconst 1) 1 17 := ⟨by decide +kernel, rfl⟩
theorem eX1_pen_17 : dk cX1_pen 17 (.ireturn) 1 18 := ⟨by decide +kernel, rfl⟩
theorem eX1_line_0 : dk cX1_line 0 (.aload_n 0) 1 1 := ⟨by decide +kernel, rfl⟩
theorem eX1_line_1 : dk cX1_line 1 (.iload_n 1) 1 2 := ⟨by decide +kernel, rfl⟩
theorem eX1_line_2 : dk cX1_line 2 (.invokevirtual 28) 3 5 := ⟨by decide +kernel, rfl⟩
theorem eX1_line_5 : db cX1_line 5 (.ifCond .eq) 8 16 := ⟨11, by decide +kernel, rfl, by decide⟩
theorem eX1_line_8 : dk cX1_line 8 (.aload_n 0) 1 9 := ⟨by decide +kernel, rfl⟩
theorem eX1_line_9 : dk cX1_line 9 (.iload_n 2) 1 10 := ⟨by decide +kernel, rfl⟩
theorem eX1_line_10 : dk cX1_line 10 (.invokevirtual 28) 3 13 := ⟨by decide +kernel, rfl⟩
theorem eX1_line_13 : db cX1_line 13 (.ifCond .ne) 16 18 := ⟨5, by decide +kernel, rfl, by decide⟩
theorem eX1_line_16 : dk cX1_line 16 (.iconst (-1)) 1 17 := ⟨by decide +kernel, rfl⟩
theorem eX1_line_17 : dk cX1_line 17 (.ireturn) 1 18 := ⟨by decide +kernel, rfl⟩
theorem eX1_line_18 : dk cX1_line 18 (.iconst 0) 1 19 := ⟨by decide +kernel, rfl⟩
theorem eX1_line_19 : dk cX1_line 19 (.istore_n 3) 1 20 := ⟨by decide +kernel, rfl⟩
theorem eX1_line_20 : dk cX1_line 20 (.iload_n 3) 1 21 := ⟨by decide +kernel, rfl⟩
theorem eX1_line_21 : dk cX1_line 21 (.sipush 576) 3 24 := ⟨by decide +kernel, rfl⟩
theorem eX1_line_24 : db cX1_line 24 (.if_icmp .ge) 27 67 := ⟨43, by decide +kernel, rfl, by decide⟩
theorem eX1_line_27 : dk cX1_line 27 (.aload_n 0) 1 28 := ⟨by decide +kernel, rfl⟩
theorem eX1_line_28 : dk cX1_line 28 (.getfield 13) 3 31 := ⟨by decide +kernel, rfl⟩
theorem eX1_line_31 : dk cX1_line 31 (.iload_n 3) 1 32 := ⟨by decide +kernel, rfl⟩
theorem eX1_line_32 : dk cX1_line 32 (.aload_n 0) 1 33 := ⟨by decide +kernel, rfl⟩
theorem eX1_line_33 : dk cX1_line 33 (.iload_n 3) 1 34 := ⟨by decide +kernel, rfl⟩
theorem eX1_line_34 : dk cX1_line 34 (.bipush 24) 2 36 := ⟨by decide +kernel, rfl⟩
theorem eX1_line_36 : dk cX1_line 36 (.irem) 1 37 := ⟨by decide +kernel, rfl⟩
theorem eX1_line_37 : dk cX1_line 37 (.iload_n 3) 1 38 := ⟨by decide +kernel, rfl⟩
theorem eX1_line_38 : dk cX1_line 38 (.bipush 24) 2 40 := ⟨by decide +kernel, rfl⟩
theorem eX1_line_40 : dk cX1_line 40 (.idiv) 1 41 := ⟨by decide +kernel, rfl⟩
theorem eX1_line_41 : dk cX1_line 41 (.iload_n 1) 1 42 := ⟨by decide +kernel, rfl⟩
theorem eX1_line_42 : dk cX1_line 42 (.bipush 32) 2 44 := ⟨by decide +kernel, rfl⟩
theorem eX1_line_44 : dk cX1_line 44 (.irem) 1 45 := ⟨by decide +kernel, rfl⟩
theorem eX1_line_45 : dk cX1_line 45 (.iload_n 1) 1 46 := ⟨by decide +kernel, rfl⟩
theorem eX1_line_46 : dk cX1_line 46 (.bipush 32) 2 48 := ⟨by decide +kernel, rfl⟩
theorem eX1_line_48 : dk cX1_line 48 (.idiv) 1 49 := ⟨by decide +kernel, rfl⟩
theorem eX1_line_49 : dk cX1_line 49 (.iload_n 2) 1 50 := ⟨by decide +kernel, rfl⟩
theorem eX1_line_50 : dk cX1_line 50 (.bipush 32) 2 52 := ⟨by decide +kernel, rfl⟩
theorem eX1_line_52 : dk cX1_line 52 (.irem) 1 53 := ⟨by decide +kernel, rfl⟩
theorem eX1_line_53 : dk cX1_line 53 (.iload_n 2) 1 54 := ⟨by decide +kernel, rfl⟩
theorem eX1_line_54 : dk cX1_line 54 (.bipush 32) 2 56 := ⟨by decide +kernel, rfl⟩
theorem eX1_line_56 : dk cX1_line 56 (.idiv) 1 57 := ⟨by decide +kernel, rfl⟩
theorem eX1_line_57 : dk cX1_line 57 (.invokevirtual 32) 3 60 := ⟨by decide +kernel, rfl⟩
theorem eX1_line_60 : dk cX1_line 60 (.bastore) 1 61 := ⟨by decide +kernel, rfl⟩
theorem eX1_line_61 : dk cX1_line 61 (.iinc 3 1) 3 64 := ⟨by decide +kernel, rfl⟩
theorem eX1_line_64 : db cX1_line 64 (.goto) 67 20 := ⟨(-44), by decide +kernel, rfl, by decide⟩
theorem eX1_line_67 : dk cX1_line 67 (.aload_n 0) 1 68 := ⟨by decide +kernel, rfl⟩
theorem eX1_line_68 : dk cX1_line 68 (.invokevirtual 35) 3 71 := ⟨by decide +kernel, rfl⟩
theorem eX1_line_71 : dk cX1_line 71 (.ireturn) 1 72 := ⟨by decide +kernel, rfl⟩
theorem eX1_isPixel_0 : dk cX1_isPixel 0 (.iload_n 1) 1 1 := ⟨by decide +kernel, rfl⟩
theorem eX1_isPixel_1 : db cX1_isPixel 1 (.ifCond .lt) 4 26 := ⟨25, by decide +kernel, rfl, by decide⟩
theorem eX1_isPixel_4 : dk cX1_isPixel 4 (.iload_n 1) 1 5 := ⟨by decide +kernel, rfl⟩
theorem eX1_isPixel_5 : dk cX1_isPixel 5 (.bipush 32) 2 7 := ⟨by decide +kernel, rfl⟩
theorem eX1_isPixel_7 : dk cX1_isPixel 7 (.irem) 1 8 := ⟨by decide +kernel, rfl⟩
theorem eX1_isPixel_8 : dk cX1_isPixel 8 (.bipush 23) 2 10 := ⟨by decide +kernel, rfl⟩
theorem eX1_isPixel_10 : db cX1_isPixel 10 (.if_icmp .gt) 13 26 := ⟨16, by decide +kernel, rfl, by decide⟩
theorem eX1_isPixel_13 : dk cX1_isPixel 13 (.iload_n 1) 1 14 := ⟨by decide +kernel, rfl⟩
theorem eX1_isPixel_14 : dk cX1_isPixel 14 (.bipush 32) 2 16 := ⟨by decide +kernel, rfl⟩
theorem eX1_isPixel_16 : dk cX1_isPixel 16 (.idiv) 1 17 := ⟨by decide +kernel, rfl⟩
theorem eX1_isPixel_17 : dk cX1_isPixel 17 (.bipush 23) 2 19 := ⟨by decide +kernel, rfl⟩
theorem eX1_isPixel_19 : db cX1_isPixel 19 (.if_icmp .gt) 22 26 := ⟨7, by decide +kernel, rfl, by decide⟩
theorem eX1_isPixel_22 : dk cX1_isPixel 22 (.iconst 1) 1 23 := ⟨by decide +kernel, rfl⟩
theorem eX1_isPixel_23 : db cX1_isPixel 23 (.goto) 26 27 := ⟨4, by decide +kernel, rfl, by decide⟩
theorem eX1_isPixel_26 : dk cX1_isPixel 26 (.iconst 0) 1 27 := ⟨by decide +kernel, rfl⟩
theorem eX1_isPixel_27 : dk cX1_isPixel 27 (.ireturn) 1 28 := ⟨by decide +kernel, rfl⟩
theorem eX1_onLine_0 : dk cX1_onLine 0 (.iload_n 3) 1 1 := ⟨by decide +kernel, rfl⟩
theorem eX1_onLine_1 : dk cX1_onLine 1 (.iload 5) 2 3 := ⟨by decide +kernel, rfl⟩
theorem eX1_onLine_3 : db cX1_onLine 3 (.if_icmp .ne) 6 30 := ⟨27, by decide +kernel, rfl, by decide⟩
theorem eX1_onLine_6 : dk cX1_onLine 6 (.iload 4) 2 8 := ⟨by decide +kernel, rfl⟩
theorem eX1_onLine_8 : dk cX1_onLine 8 (.iload 6) 2 10 := ⟨by decide +kernel, rfl⟩
theorem eX1_onLine_10 : db cX1_onLine 10 (.if_icmp .ne) 13 30 := ⟨20, by decide +kernel, rfl, by decide⟩
theorem eX1_onLine_13 : dk cX1_onLine 13 (.iload_n 1) 1 14 := ⟨by decide +kernel, rfl⟩
theorem eX1_onLine_14 : dk cX1_onLine 14 (.iload_n 3) 1 15 := ⟨by decide +kernel, rfl⟩
theorem eX1_onLine_15 : db cX1_onLine 15 (.if_icmp .ne) 18 28 := ⟨13, by decide +kernel, rfl, by decide⟩
theorem eX1_onLine_18 : dk cX1_onLine 18 (.iload_n 2) 1 19 := ⟨by decide +kernel, rfl⟩
theorem eX1_onLine_19 : dk cX1_onLine 19 (.iload 4) 2 21 := ⟨by decide +kernel, rfl⟩
theorem eX1_onLine_21 : db cX1_onLine 21 (.if_icmp .ne) 24 28 := ⟨7, by decide +kernel, rfl, by decide⟩
theorem eX1_onLine_24 : dk cX1_onLine 24 (.iconst 1) 1 25 := ⟨by decide +kernel, rfl⟩
theorem eX1_onLine_25 : db cX1_onLine 25 (.goto) 28 29 := ⟨4, by decide +kernel, rfl, by decide⟩
theorem eX1_onLine_28 : dk cX1_onLine 28 (.iconst 0) 1 29 := ⟨by decide +kernel, rfl⟩
theorem eX1_onLine_29 : dk cX1_onLine 29 (.ireturn) 1 30 := ⟨by decide +kernel, rfl⟩
theorem eX1_onLine_30 : dk cX1_onLine 30 (.aload_n 0) 1 31 := ⟨by decide +kernel, rfl⟩
theorem eX1_onLine_31 : dk cX1_onLine 31 (.iload_n 3) 1 32 := ⟨by decide +kernel, rfl⟩
theorem eX1_onLine_32 : dk cX1_onLine 32 (.iload 5) 2 34 := ⟨by decide +kernel, rfl⟩
theorem eX1_onLine_34 : dk cX1_onLine 34 (.isub) 1 35 := ⟨by decide +kernel, rfl⟩
theorem eX1_onLine_35 : dk cX1_onLine 35 (.invokevirtual 20) 3 38 := ⟨by decide +kernel, rfl⟩
theorem eX1_onLine_38 : dk cX1_onLine 38 (.aload_n 0) 1 39 := ⟨by decide +kernel, rfl⟩
theorem eX1_onLine_39 : dk cX1_onLine 39 (.iload 4) 2 41 := ⟨by decide +kernel, rfl⟩
theorem eX1_onLine_41 : dk cX1_onLine 41 (.iload 6) 2 43 := ⟨by decide +kernel, rfl⟩
theorem eX1_onLine_43 : dk cX1_onLine 43 (.isub) 1 44 := ⟨by decide +kernel, rfl⟩
theorem eX1_onLine_44 : dk cX1_onLine 44 (.invokevirtual 20) 3 47 := ⟨by decide +kernel, rfl⟩
theorem eX1_onLine_47 : db cX1_onLine 47 (.if_icmp .lt) 50 86 := ⟨39, by decide +kernel, rfl, by decide⟩
theorem eX1_onLine_50 : dk cX1_onLine 50 (.iload_n 3) 1 51 := ⟨by decide +kernel, rfl⟩
theorem eX1_onLine_51 : dk cX1_onLine 51 (.iload 5) 2 53 := ⟨by decide +kernel, rfl⟩
theorem eX1_onLine_53 : db cX1_onLine 53 (.if_icmp .ge) 56 72 := ⟨19, by decide +kernel, rfl, by decide⟩
theorem eX1_onLine_56 : dk cX1_onLine 56 (.aload_n 0) 1 57 := ⟨by decide +kernel, rfl⟩
theorem eX1_onLine_57 : dk cX1_onLine 57 (.iload_n 1) 1 58 := ⟨by decide +kernel, rfl⟩
theorem eX1_onLine_58 : dk cX1_onLine 58 (.iload_n 2) 1 59 := ⟨by decide +kernel, rfl⟩
theorem eX1_onLine_59 : dk cX1_onLine 59 (.iload_n 3) 1 60 := ⟨by decide +kernel, rfl⟩
theorem eX1_onLine_60 : dk cX1_onLine 60 (.iload 4) 2 62 := ⟨by decide +kernel, rfl⟩
theorem eX1_onLine_62 : dk cX1_onLine 62 (.iload 5) 2 64 := ⟨by decide +kernel, rfl⟩
theorem eX1_onLine_64 : dk cX1_onLine 64 (.iload 6) 2 66 := ⟨by decide +kernel, rfl⟩
theorem eX1_onLine_66 : dk cX1_onLine 66 (.invokevirtual 24) 3 69 := ⟨by decide +kernel, rfl⟩
theorem eX1_onLine_69 : db cX1_onLine 69 (.goto) 72 85 := ⟨16, by decide +kernel, rfl, by decide⟩
theorem eX1_onLine_72 : dk cX1_onLine 72 (.aload_n 0) 1 73 := ⟨by decide +kernel, rfl⟩
theorem eX1_onLine_73 : dk cX1_onLine 73 (.iload_n 1) 1 74 := ⟨by decide +kernel, rfl⟩
theorem eX1_onLine_74 : dk cX1_onLine 74 (.iload_n 2) 1 75 := ⟨by decide +kernel, rfl⟩
theorem eX1_onLine_75 : dk cX1_onLine 75 (.iload 5) 2 77 := ⟨by decide +kernel, rfl⟩
theorem eX1_onLine_77 : dk cX1_onLine 77 (.iload 6) 2 79 := ⟨by decide +kernel, rfl⟩
theorem eX1_onLine_79 : dk cX1_onLine 79 (.iload_n 3) 1 80 := ⟨by decide +kernel, rfl⟩
theorem eX1_onLine_80 : dk cX1_onLine 80 (.iload 4) 2 82 := ⟨by decide +kernel, rfl⟩
theorem eX1_onLine_82 : dk cX1_onLine 82 (.invokevirtual 24) 3 85 := ⟨by decide +kernel, rfl⟩
theorem eX1_onLine_85 : dk cX1_onLine 85 (.ireturn) 1 86 := ⟨by decide +kernel, rfl⟩
theorem eX1_onLine_86 : dk cX1_onLine 86 (.iload 4) 2 88 := ⟨by decide +kernel, rfl⟩
theorem eX1_onLine_88 : dk cX1_onLine 88 (.iload 6) 2 90 := ⟨by decide +kernel, rfl⟩
theorem eX1_onLine_90 : db cX1_onLine 90 (.if_icmp .ge) 93 109 := ⟨19, by decide +kernel, rfl, by decide⟩
theorem eX1_onLine_93 : dk cX1_onLine 93 (.aload_n 0) 1 94 := ⟨by decide +kernel, rfl⟩
theorem eX1_onLine_94 : dk cX1_onLine 94 (.iload_n 2) 1 95 := ⟨by decide +kernel, rfl⟩
theorem eX1_onLine_95 : dk cX1_onLine 95 (.iload_n 1) 1 96 := ⟨by decide +kernel, rfl⟩
theorem eX1_onLine_96 : dk cX1_onLine 96 (.iload 4) 2 98 := ⟨by decide +kernel, rfl⟩
theorem eX1_onLine_98 : dk cX1_onLine 98 (.iload_n 3) 1 99 := ⟨by decide +kernel, rfl⟩
theorem eX1_onLine_99 : dk cX1_onLine 99 (.iload 6) 2 101 := ⟨by decide +kernel, rfl⟩
theorem eX1_onLine_101 : dk cX1_onLine 101 (.iload 5) 2 103 := ⟨by decide +kernel, rfl⟩
theorem eX1_onLine_103 : dk cX1_onLine 103 (.invokevirtual 24) 3 106 := ⟨by decide +kernel, rfl⟩
theorem eX1_onLine_106 : db cX1_onLine 106 (.goto) 109 122 := ⟨16, by decide +kernel, rfl, by decide⟩
theorem eX1_onLine_109 : dk cX1_onLine 109 (.aload_n 0) 1 110 := ⟨by decide +kernel, rfl⟩
theorem eX1_onLine_110 : dk cX1_onLine 110 (.iload_n 2) 1 111 := ⟨by decide +kernel, rfl⟩
theorem eX1_onLine_111 : dk cX1_onLine 111 (.iload_n 1) 1 112 := ⟨by decide +kernel, rfl⟩
theorem eX1_onLine_112 : dk cX1_onLine 112 (.iload 6) 2 114 := ⟨by decide +kernel, rfl⟩
theorem eX1_onLine_114 : dk cX1_onLine 114 (.iload 5) 2 116 := ⟨by decide +kernel, rfl⟩
theorem eX1_onLine_116 : dk cX1_onLine 116 (.iload 4) 2 118 := ⟨by decide +kernel, rfl⟩
theorem eX1_onLine_118 : dk cX1_onLine 118 (.iload_n 3) 1 119 := ⟨by decide +kernel, rfl⟩
theorem eX1_onLine_119 : dk cX1_onLine 119 (.invokevirtual 24) 3 122 := ⟨by decide +kernel, rfl⟩
theorem eX1_onLine_122 : dk cX1_onLine 122 (.ireturn) 1 123 := ⟨by decide +kernel, rfl⟩
theorem eX1_size_0 : dk cX1_size 0 (.iload_n 1) 1 1 := ⟨by decide +kernel, rfl⟩
theorem eX1_size_1 : db cX1_size 1 (.ifCond .ge) 4 9 := ⟨8, by decide +kernel, rfl, by decide⟩
theorem eX1_size_4 : dk cX1_size 4 (.iload_n 1) 1 5 := ⟨by decide +kernel, rfl⟩
theorem eX1_size_5 : dk cX1_size 5 (.ineg) 1 6 := ⟨by decide +kernel, rfl⟩
theorem eX1_size_6 : db cX1_size 6 (.goto) 9 10 := ⟨4, by decide +kernel, rfl, by decide⟩
theorem eX1_size_9 : dk cX1_size 9 (.iload_n 1) 1 10 := ⟨by decide +kernel, rfl⟩
theorem eX1_size_10 : dk cX1_size 10 (.ireturn) 1 11 := ⟨by decide +kernel, rfl⟩
theorem eX1_nearest_0 : dk cX1_nearest 0 (.iload 5) 2 2 := ⟨by decide +kernel, rfl⟩
theorem eX1_nearest_2 : dk cX1_nearest 2 (.iload_n 3) 1 3 := ⟨by decide +kernel, rfl⟩
theorem eX1_nearest_3 : dk cX1_nearest 3 (.isub) 1 4 := ⟨by decide +kernel, rfl⟩
theorem eX1_nearest_4 : dk cX1_nearest 4 (.istore 7) 2 6 := ⟨by decide +kernel, rfl⟩
theorem eX1_nearest_6 : dk cX1_nearest 6 (.iconst 2) 1 7 := ⟨by decide +kernel, rfl⟩
theorem eX1_nearest_7 : dk cX1_nearest 7 (.iload 7) 2 9 := ⟨by decide +kernel, rfl⟩
theorem eX1_nearest_9 : dk cX1_nearest 9 (.iload_n 2) 1 10 := ⟨by decide +kernel, rfl⟩
theorem eX1_nearest_10 : dk cX1_nearest 10 (.iload 4) 2 12 := ⟨by decide +kernel, rfl⟩
theorem eX1_nearest_12 : dk cX1_nearest 12 (.isub) 1 13 := ⟨by decide +kernel, rfl⟩
theorem eX1_nearest_13 : dk cX1_nearest 13 (.imul) 1 14 := ⟨by decide +kernel, rfl⟩
theorem eX1_nearest_14 : dk cX1_nearest 14 (.iload 6) 2 16 := ⟨by decide +kernel, rfl⟩
theorem eX1_nearest_16 : dk cX1_nearest 16 (.iload 4) 2 18 := ⟨by decide +kernel, rfl⟩
theorem eX1_nearest_18 : dk cX1_nearest 18 (.isub) 1 19 := ⟨by decide +kernel, rfl⟩
theorem eX1_nearest_19 : dk cX1_nearest 19 (.iload_n 1) 1 20 := ⟨by decide +kernel, rfl⟩
theorem eX1_nearest_20 : dk cX1_nearest 20 (.iload_n 3) 1 21 := ⟨by decide +kernel, rfl⟩
theorem eX1_nearest_21 : dk cX1_nearest 21 (.isub) 1 22 := ⟨by decide +kernel, rfl⟩
theorem eX1_nearest_22 : dk cX1_nearest 22 (.imul) 1 23 := ⟨by decide +kernel, rfl⟩
theorem eX1_nearest_23 : dk cX1_nearest 23 (.isub) 1 24 := ⟨by decide +kernel, rfl⟩
theorem eX1_nearest_24 : dk cX1_nearest 24 (.imul) 1 25 := ⟨by decide +kernel, rfl⟩
theorem eX1_nearest_25 : dk cX1_nearest 25 (.istore 8) 2 27 := ⟨by decide +kernel, rfl⟩
theorem eX1_nearest_27 : dk cX1_nearest 27 (.iload_n 1) 1 28 := ⟨by decide +kernel, rfl⟩
theorem eX1_nearest_28 : dk cX1_nearest 28 (.iload_n 3) 1 29 := ⟨by decide +kernel, rfl⟩
theorem eX1_nearest_29 : db cX1_nearest 29 (.if_icmp .lt) 32 57 := ⟨28, by decide +kernel, rfl, by decide⟩
theorem eX1_nearest_32 : dk cX1_nearest 32 (.iload_n 1) 1 33 := ⟨by decide +kernel, rfl⟩
theorem eX1_nearest_33 : dk cX1_nearest 33 (.iload 5) 2 35 := ⟨by decide +kernel, rfl⟩
theorem eX1_nearest_35 : db cX1_nearest 35 (.if_icmp .gt) 38 57 := ⟨22, by decide +kernel, rfl, by decide⟩
theorem eX1_nearest_38 : dk cX1_nearest 38 (.iload 8) 2 40 := ⟨by decide +kernel, rfl⟩
theorem eX1_nearest_40 : dk cX1_nearest 40 (.iload 7) 2 42 := ⟨by decide +kernel, rfl⟩
theorem eX1_nearest_42 : dk cX1_nearest 42 (.ineg) 1 43 := ⟨by decide +kernel, rfl⟩
theorem eX1_nearest_43 : db cX1_nearest 43 (.if_icmp .lt) 46 57 := ⟨14, by decide +kernel, rfl, by decide⟩
theorem eX1_nearest_46 : dk cX1_nearest 46 (.iload 8) 2 48 := ⟨by decide +kernel, rfl⟩
theorem eX1_nearest_48 : dk cX1_nearest 48 (.iload 7) 2 50 := ⟨by decide +kernel, rfl⟩
theorem eX1_nearest_50 : db cX1_nearest 50 (.if_icmp .ge) 53 57 := ⟨7, by decide +kernel, rfl, by decide⟩
theorem eX1_nearest_53 : dk cX1_nearest 53 (.iconst 1) 1 54 := ⟨by decide +kernel, rfl⟩
theorem eX1_nearest_54 : db cX1_nearest 54 (.goto) 57 58 := ⟨4, by decide +kernel, rfl, by decide⟩
theorem eX1_nearest_57 : dk cX1_nearest 57 (.iconst 0) 1 58 := ⟨by decide +kernel, rfl⟩
theorem eX1_nearest_58 : dk cX1_nearest 58 (.ireturn) 1 59 := ⟨by decide +kernel, rfl⟩
theorem eX1_ink_0 : dk cX1_ink 0 (.iconst 0) 1 1 := ⟨by decide +kernel, rfl⟩
theorem eX1_ink_1 : dk cX1_ink 1 (.istore_n 1) 1 2 := ⟨by decide +kernel, rfl⟩
theorem eX1_ink_2 : dk cX1_ink 2 (.iconst 0) 1 3 := ⟨by decide +kernel, rfl⟩
theorem eX1_ink_3 : dk cX1_ink 3 (.istore_n 2) 1 4 := ⟨by decide +kernel, rfl⟩
theorem eX1_ink_4 : dk cX1_ink 4 (.iload_n 2) 1 5 := ⟨by decide +kernel, rfl⟩
theorem eX1_ink_5 : dk cX1_ink 5 (.sipush 576) 3 8 := ⟨by decide +kernel, rfl⟩
theorem eX1_ink_8 : db cX1_ink 8 (.if_icmp .ge) 11 76 := ⟨68, by decide +kernel, rfl, by decide⟩
theorem eX1_ink_11 : dk cX1_ink 11 (.aload_n 0) 1 12 := ⟨by decide +kernel, rfl⟩
theorem eX1_ink_12 : dk cX1_ink 12 (.getfield 16) 3 15 := ⟨by decide +kernel, rfl⟩
theorem eX1_ink_15 : db cX1_ink 15 (.ifCond .eq) 18 35 := ⟨20, by decide +kernel, rfl, by decide⟩
theorem eX1_ink_18 : dk cX1_ink 18 (.aload_n 0) 1 19 := ⟨by decide +kernel, rfl⟩
theorem eX1_ink_19 : dk cX1_ink 19 (.getfield 16) 3 22 := ⟨by decide +kernel, rfl⟩
theorem eX1_ink_22 : dk cX1_ink 22 (.iconst 2) 1 23 := ⟨by decide +kernel, rfl⟩
theorem eX1_ink_23 : db cX1_ink 23 (.if_icmp .ne) 26 39 := ⟨16, by decide +kernel, rfl, by decide⟩
theorem eX1_ink_26 : dk cX1_ink 26 (.aload_n 0) 1 27 := ⟨by decide +kernel, rfl⟩
theorem eX1_ink_27 : dk cX1_ink 27 (.getfield 7) 3 30 := ⟨by decide +kernel, rfl⟩
theorem eX1_ink_30 : dk cX1_ink 30 (.iload_n 2) 1 31 := ⟨by decide +kernel, rfl⟩
theorem eX1_ink_31 : dk cX1_ink 31 (.baload) 1 32 := ⟨by decide +kernel, rfl⟩
theorem eX1_ink_32 : db cX1_ink 32 (.ifCond .ne) 35 39 := ⟨7, by decide +kernel, rfl, by decide⟩
theorem eX1_ink_35 : dk cX1_ink 35 (.iconst 1) 1 36 := ⟨by decide +kernel, rfl⟩
theorem eX1_ink_36 : db cX1_ink 36 (.goto) 39 40 := ⟨4, by decide +kernel, rfl, by decide⟩
theorem eX1_ink_39 : dk cX1_ink 39 (.iconst 0) 1 40 := ⟨by decide +kernel, rfl⟩
theorem eX1_ink_40 : dk cX1_ink 40 (.istore_n 3) 1 41 := ⟨by decide +kernel, rfl⟩
theorem eX1_ink_41 : dk cX1_ink 41 (.aload_n 0) 1 42 := ⟨by decide +kernel, rfl⟩
theorem eX1_ink_42 : dk cX1_ink 42 (.getfield 13) 3 45 := ⟨by decide +kernel, rfl⟩
theorem eX1_ink_45 : dk cX1_ink 45 (.iload_n 2) 1 46 := ⟨by decide +kernel, rfl⟩
theorem eX1_ink_46 : dk cX1_ink 46 (.baload) 1 47 := ⟨by decide +kernel, rfl⟩
theorem eX1_ink_47 : db cX1_ink 47 (.ifCond .eq) 50 70 := ⟨23, by decide +kernel, rfl, by decide⟩
theorem eX1_ink_50 : dk cX1_ink 50 (.aload_n 0) 1 51 := ⟨by decide +kernel, rfl⟩
theorem eX1_ink_51 : dk cX1_ink 51 (.getfield 7) 3 54 := ⟨by decide +kernel, rfl⟩
theorem eX1_ink_54 : dk cX1_ink 54 (.iload_n 2) 1 55 := ⟨by decide +kernel, rfl⟩
theorem eX1_ink_55 : dk cX1_ink 55 (.baload) 1 56 := ⟨by decide +kernel, rfl⟩
theorem eX1_ink_56 : dk cX1_ink 56 (.iload_n 3) 1 57 := ⟨by decide +kernel, rfl⟩
theorem eX1_ink_57 : db cX1_ink 57 (.if_icmp .eq) 60 70 := ⟨13, by decide +kernel, rfl, by decide⟩
theorem eX1_ink_60 : dk cX1_ink 60 (.aload_n 0) 1 61 := ⟨by decide +kernel, rfl⟩
theorem eX1_ink_61 : dk cX1_ink 61 (.getfield 7) 3 64 := ⟨by decide +kernel, rfl⟩
theorem eX1_ink_64 : dk cX1_ink 64 (.iload_n 2) 1 65 := ⟨by decide +kernel, rfl⟩
theorem eX1_ink_65 : dk cX1_ink 65 (.iload_n 3) 1 66 := ⟨by decide +kernel, rfl⟩
theorem eX1_ink_66 : dk cX1_ink 66 (.bastore) 1 67 := ⟨by decide +kernel, rfl⟩
theorem eX1_ink_67 : dk cX1_ink 67 (.iinc 1 1) 3 70 := ⟨by decide +kernel, rfl⟩
theorem eX1_ink_70 : dk cX1_ink 70 (.iinc 2 1) 3 73 := ⟨by decide +kernel, rfl⟩
theorem eX1_ink_73 : db cX1_ink 73 (.goto) 76 4 := ⟨(-69), by decide +kernel, rfl, by decide⟩
theorem eX1_ink_76 : dk cX1_ink 76 (.iload_n 1) 1 77 := ⟨by decide +kernel, rfl⟩
theorem eX1_ink_77 : dk cX1_ink 77 (.ireturn) 1 78 := ⟨by decide +kernel, rfl⟩
theorem eX1_disc_0 : dk cX1_disc 0 (.aload_n 0) 1 1 := ⟨by decide +kernel, rfl⟩
theorem eX1_disc_1 : dk cX1_disc 1 (.iload_n 1) 1 2 := ⟨by decide +kernel, rfl⟩
theorem eX1_disc_2 : dk cX1_disc 2 (.iload_n 2) 1 3 := ⟨by decide +kernel, rfl⟩
theorem eX1_disc_3 : dk cX1_disc 3 (.invokevirtual 39) 3 6 := ⟨by decide +kernel, rfl⟩
theorem eX1_disc_6 : db cX1_disc 6 (.ifCond .ne) 9 11 := ⟨5, by decide +kernel, rfl, by decide⟩
theorem eX1_disc_9 : dk cX1_disc 9 (.iconst (-1)) 1 10 := ⟨by decide +kernel, rfl⟩
theorem eX1_disc_10 : dk cX1_disc 10 (.ireturn) 1 11 := ⟨by decide +kernel, rfl⟩
theorem eX1_disc_11 : dk cX1_disc 11 (.iconst 0) 1 12 := ⟨by decide +kernel, rfl⟩
theorem eX1_disc_12 : dk cX1_disc 12 (.istore_n 3) 1 13 := ⟨by decide +kernel, rfl⟩
theorem eX1_disc_13 : dk cX1_disc 13 (.iload_n 3) 1 14 := ⟨by decide +kernel, rfl⟩
theorem eX1_disc_14 : dk cX1_disc 14 (.sipush 576) 3 17 := ⟨by decide +kernel, rfl⟩
theorem eX1_disc_17 : db cX1_disc 17 (.if_icmp .ge) 20 76 := ⟨59, by decide +kernel, rfl, by decide⟩
theorem eX1_disc_20 : dk cX1_disc 20 (.iload_n 3) 1 21 := ⟨by decide +kernel, rfl⟩
theorem eX1_disc_21 : dk cX1_disc 21 (.bipush 24) 2 23 := ⟨by decide +kernel, rfl⟩
theorem eX1_disc_23 : dk cX1_disc 23 (.irem) 1 24 := ⟨by decide +kernel, rfl⟩
theorem eX1_disc_24 : dk cX1_disc 24 (.iload_n 1) 1 25 := ⟨by decide +kernel, rfl⟩
theorem eX1_disc_25 : dk cX1_disc 25 (.bipush 32) 2 27 := ⟨by decide +kernel, rfl⟩
theorem eX1_disc_27 : dk cX1_disc 27 (.irem) 1 28 := ⟨by decide +kernel, rfl⟩
theorem eX1_disc_28 : dk cX1_disc 28 (.isub) 1 29 := ⟨by decide +kernel, rfl⟩
theorem eX1_disc_29 : dk cX1_disc 29 (.istore 4) 2 31 := ⟨by decide +kernel, rfl⟩
theorem eX1_disc_31 : dk cX1_disc 31 (.iload_n 3) 1 32 := ⟨by decide +kernel, rfl⟩
theorem eX1_disc_32 : dk cX1_disc 32 (.bipush 24) 2 34 := ⟨by decide +kernel, rfl⟩
theorem eX1_disc_34 : dk cX1_disc 34 (.idiv) 1 35 := ⟨by decide +kernel, rfl⟩
theorem eX1_disc_35 : dk cX1_disc 35 (.iload_n 1) 1 36 := ⟨by decide +kernel, rfl⟩
theorem eX1_disc_36 : dk cX1_disc 36 (.bipush 32) 2 38 := ⟨by decide +kernel, rfl⟩
theorem eX1_disc_38 : dk cX1_disc 38 (.idiv) 1 39 := ⟨by decide +kernel, rfl⟩
theorem eX1_disc_39 : dk cX1_disc 39 (.isub) 1 40 := ⟨by decide +kernel, rfl⟩
theorem eX1_disc_40 : dk cX1_disc 40 (.istore 5) 2 42 := ⟨by decide +kernel, rfl⟩
theorem eX1_disc_42 : dk cX1_disc 42 (.aload_n 0) 1 43 := ⟨by decide +kernel, rfl⟩
theorem eX1_disc_43 : dk cX1_disc 43 (.getfield 13) 3 46 := ⟨by decide +kernel, rfl⟩
theorem eX1_disc_46 : dk cX1_disc 46 (.iload_n 3) 1 47 := ⟨by decide +kernel, rfl⟩
theorem eX1_disc_47 : dk cX1_disc 47 (.iload 4) 2 49 := ⟨by decide +kernel, rfl⟩
theorem eX1_disc_49 : dk cX1_disc 49 (.iload 4) 2 51 := ⟨by decide +kernel, rfl⟩
theorem eX1_disc_51 : dk cX1_disc 51 (.imul) 1 52 := ⟨by decide +kernel, rfl⟩
theorem eX1_disc_52 : dk cX1_disc 52 (.iload 5) 2 54 := ⟨by decide +kernel, rfl⟩
theorem eX1_disc_54 : dk cX1_disc 54 (.iload 5) 2 56 := ⟨by decide +kernel, rfl⟩
theorem eX1_disc_56 : dk cX1_disc 56 (.imul) 1 57 := ⟨by decide +kernel, rfl⟩
theorem eX1_disc_57 : dk cX1_disc 57 (.iadd) 1 58 := ⟨by decide +kernel, rfl⟩
theorem eX1_disc_58 : dk cX1_disc 58 (.iload_n 2) 1 59 := ⟨by decide +kernel, rfl⟩
theorem eX1_disc_59 : dk cX1_disc 59 (.iload_n 2) 1 60 := ⟨by decide +kernel, rfl⟩
theorem eX1_disc_60 : dk cX1_disc 60 (.imul) 1 61 := ⟨by decide +kernel, rfl⟩
theorem eX1_disc_61 : db cX1_disc 61 (.if_icmp .gt) 64 68 := ⟨7, by decide +kernel, rfl, by decide⟩
theorem eX1_disc_64 : dk cX1_disc 64 (.iconst 1) 1 65 := ⟨by decide +kernel, rfl⟩
theorem eX1_disc_65 : db cX1_disc 65 (.goto) 68 69 := ⟨4, by decide +kernel, rfl, by decide⟩
theorem eX1_disc_68 : dk cX1_disc 68 (.iconst 0) 1 69 := ⟨by decide +kernel, rfl⟩
theorem eX1_disc_69 : dk cX1_disc 69 (.bastore) 1 70 := ⟨by decide +kernel, rfl⟩
theorem eX1_disc_70 : dk cX1_disc 70 (.iinc 3 1) 3 73 := ⟨by decide +kernel, rfl⟩
theorem eX1_disc_73 : db cX1_disc 73 (.goto) 76 13 := ⟨(-60), by decide +kernel, rfl, by decide⟩
theorem eX1_disc_76 : dk cX1_disc 76 (.aload_n 0) 1 77 := ⟨by decide +kernel, rfl⟩
theorem eX1_disc_77 : dk cX1_disc 77 (.invokevirtual 35) 3 80 := ⟨by decide +kernel, rfl⟩
theorem eX1_disc_80 : dk cX1_disc 80 (.ireturn) 1 81 := ⟨by decide +kernel, rfl⟩
theorem eX1_isRound_0 : dk cX1_isRound 0 (.aload_n 0) 1 1 := ⟨by decide +kernel, rfl⟩
theorem eX1_isRound_1 : dk cX1_isRound 1 (.iload_n 1) 1 2 := ⟨by decide +kernel, rfl⟩
theorem eX1_isRound_2 : dk cX1_isRound 2 (.invokevirtual 28) 3 5 := ⟨by decide +kernel, rfl⟩
theorem eX1_isRound_5 : db cX1_isRound 5 (.ifCond .eq) 8 22 := ⟨17, by decide +kernel, rfl, by decide⟩
theorem eX1_isRound_8 : dk cX1_isRound 8 (.iload_n 2) 1 9 := ⟨by decide +kernel, rfl⟩
theorem eX1_isRound_9 : db cX1_isRound 9 (.ifCond .lt) 12 22 := ⟨13, by decide +kernel, rfl, by decide⟩
theorem eX1_isRound_12 : dk cX1_isRound 12 (.iload_n 2) 1 13 := ⟨by decide +kernel, rfl⟩
theorem eX1_isRound_13 : dk cX1_isRound 13 (.bipush 30) 2 15 := ⟨by decide +kernel, rfl⟩
theorem eX1_isRound_15 : db cX1_isRound 15 (.if_icmp .gt) 18 22 := ⟨7, by decide +kernel, rfl, by decide⟩
theorem eX1_isRound_18 : dk cX1_isRound 18 (.iconst 1) 1 19 := ⟨by decide +kernel, rfl⟩
theorem eX1_isRound_19 : db cX1_isRound 19 (.goto) 22 23 := ⟨4, by decide +kernel, rfl, by decide⟩
theorem eX1_isRound_22 : dk cX1_isRound 22 (.iconst 0) 1 23 := ⟨by decide +kernel, rfl⟩
theorem eX1_isRound_23 : dk cX1_isRound 23 (.ireturn) 1 24 := ⟨by decide +kernel, rfl⟩
theorem eX1_ring_0 : dk cX1_ring 0 (.aload_n 0) 1 1 := ⟨by decide +kernel, rfl⟩
theorem eX1_ring_1 : dk cX1_ring 1 (.iload_n 1) 1 2 := ⟨by decide +kernel, rfl⟩
theorem eX1_ring_2 : dk cX1_ring 2 (.iload_n 2) 1 3 := ⟨by decide +kernel, rfl⟩
theorem eX1_ring_3 : dk cX1_ring 3 (.invokevirtual 39) 3 6 := ⟨by decide +kernel, rfl⟩
theorem eX1_ring_6 : db cX1_ring 6 (.ifCond .ne) 9 11 := ⟨5, by decide +kernel, rfl, by decide⟩
theorem eX1_ring_9 : dk cX1_ring 9 (.iconst (-1)) 1 10 := ⟨by decide +kernel, rfl⟩
theorem eX1_ring_10 : dk cX1_ring 10 (.ireturn) 1 11 := ⟨by decide +kernel, rfl⟩
theorem eX1_ring_11 : dk cX1_ring 11 (.iconst 0) 1 12 := ⟨by decide +kernel, rfl⟩
theorem eX1_ring_12 : dk cX1_ring 12 (.istore_n 3) 1 13 := ⟨by decide +kernel, rfl⟩
theorem eX1_ring_13 : dk cX1_ring 13 (.iload_n 3) 1 14 := ⟨by decide +kernel, rfl⟩
theorem eX1_ring_14 : dk cX1_ring 14 (.sipush 576) 3 17 := ⟨by decide +kernel, rfl⟩
theorem eX1_ring_17 : db cX1_ring 17 (.if_icmp .ge) 20 83 := ⟨66, by decide +kernel, rfl, by decide⟩
theorem eX1_ring_20 : dk cX1_ring 20 (.iload_n 3) 1 21 := ⟨by decide +kernel, rfl⟩
theorem eX1_ring_21 : dk cX1_ring 21 (.bipush 24) 2 23 := ⟨by decide +kernel, rfl⟩
theorem eX1_ring_23 : dk cX1_ring 23 (.irem) 1 24 := ⟨by decide +kernel, rfl⟩
theorem eX1_ring_24 : dk cX1_ring 24 (.iload_n 1) 1 25 := ⟨by decide +kernel, rfl⟩
theorem eX1_ring_25 : dk cX1_ring 25 (.bipush 32) 2 27 := ⟨by decide +kernel, rfl⟩
theorem eX1_ring_27 : dk cX1_ring 27 (.irem) 1 28 := ⟨by decide +kernel, rfl⟩
theorem eX1_ring_28 : dk cX1_ring 28 (.isub) 1 29 := ⟨by decide +kernel, rfl⟩
theorem eX1_ring_29 : dk cX1_ring 29 (.istore 4) 2 31 := ⟨by decide +kernel, rfl⟩
theorem eX1_ring_31 : dk cX1_ring 31 (.iload_n 3) 1 32 := ⟨by decide +kernel, rfl⟩
theorem eX1_ring_32 : dk cX1_ring 32 (.bipush 24) 2 34 := ⟨by decide +kernel, rfl⟩
theorem eX1_ring_34 : dk cX1_ring 34 (.idiv) 1 35 := ⟨by decide +kernel, rfl⟩
theorem eX1_ring_35 : dk cX1_ring 35 (.iload_n 1) 1 36 := ⟨by decide +kernel, rfl⟩
theorem eX1_ring_36 : dk cX1_ring 36 (.bipush 32) 2 38 := ⟨by decide +kernel, rfl⟩
theorem eX1_ring_38 : dk cX1_ring 38 (.idiv) 1 39 := ⟨by decide +kernel, rfl⟩
theorem eX1_ring_39 : dk cX1_ring 39 (.isub) 1 40 := ⟨by decide +kernel, rfl⟩
theorem eX1_ring_40 : dk cX1_ring 40 (.istore 5) 2 42 := ⟨by decide +kernel, rfl⟩
theorem eX1_ring_42 : dk cX1_ring 42 (.aload_n 0) 1 43 := ⟨by decide +kernel, rfl⟩
theorem eX1_ring_43 : dk cX1_ring 43 (.getfield 13) 3 46 := ⟨by decide +kernel, rfl⟩
theorem eX1_ring_46 : dk cX1_ring 46 (.iload_n 3) 1 47 := ⟨by decide +kernel, rfl⟩
theorem eX1_ring_47 : dk cX1_ring 47 (.aload_n 0) 1 48 := ⟨by decide +kernel, rfl⟩
theorem eX1_ring_48 : dk cX1_ring 48 (.iload 4) 2 50 := ⟨by decide +kernel, rfl⟩
theorem eX1_ring_50 : dk cX1_ring 50 (.iload 5) 2 52 := ⟨by decide +kernel, rfl⟩
theorem eX1_ring_52 : dk cX1_ring 52 (.iload_n 2) 1 53 := ⟨by decide +kernel, rfl⟩
theorem eX1_ring_53 : dk cX1_ring 53 (.invokevirtual 43) 3 56 := ⟨by decide +kernel, rfl⟩
theorem eX1_ring_56 : db cX1_ring 56 (.ifCond .ne) 59 71 := ⟨15, by decide +kernel, rfl, by decide⟩
theorem eX1_ring_59 : dk cX1_ring 59 (.aload_n 0) 1 60 := ⟨by decide +kernel, rfl⟩
theorem eX1_ring_60 : dk cX1_ring 60 (.iload 5) 2 62 := ⟨by decide +kernel, rfl⟩
theorem eX1_ring_62 : dk cX1_ring 62 (.iload 4) 2 64 := ⟨by decide +kernel, rfl⟩
theorem eX1_ring_64 : dk cX1_ring 64 (.iload_n 2) 1 65 := ⟨by decide +kernel, rfl⟩
theorem eX1_ring_65 : dk cX1_ring 65 (.invokevirtual 43) 3 68 := ⟨by decide +kernel, rfl⟩
theorem eX1_ring_68 : db cX1_ring 68 (.ifCond .eq) 71 75 := ⟨7, by decide +kernel, rfl, by decide⟩
theorem eX1_ring_71 : dk cX1_ring 71 (.iconst 1) 1 72 := ⟨by decide +kernel, rfl⟩
theorem eX1_ring_72 : db cX1_ring 72 (.goto) 75 76 := ⟨4, by decide +kernel, rfl, by decide⟩
theorem eX1_ring_75 : dk cX1_ring 75 (.iconst 0) 1 76 := ⟨by decide +kernel, rfl⟩
theorem eX1_ring_76 : dk cX1_ring 76 (.bastore) 1 77 := ⟨by decide +kernel, rfl⟩
theorem eX1_ring_77 : dk cX1_ring 77 (.iinc 3 1) 3 80 := ⟨by decide +kernel, rfl⟩
theorem eX1_ring_80 : db cX1_ring 80 (.goto) 83 13 := ⟨(-67), by decide +kernel, rfl, by decide⟩
theorem eX1_ring_83 : dk cX1_ring 83 (.aload_n 0) 1 84 := ⟨by decide +kernel, rfl⟩
theorem eX1_ring_84 : dk cX1_ring 84 (.invokevirtual 35) 3 87 := ⟨by decide +kernel, rfl⟩
theorem eX1_ring_87 : dk cX1_ring 87 (.ireturn) 1 88 := ⟨by decide +kernel, rfl⟩
theorem eX1_onArc_0 : dk cX1_onArc 0 (.aload_n 0) 1 1 := ⟨by decide +kernel, rfl⟩
theorem eX1_onArc_1 : dk cX1_onArc 1 (.iload_n 2) 1 2 := ⟨by decide +kernel, rfl⟩
theorem eX1_onArc_2 : dk cX1_onArc 2 (.invokevirtual 20) 3 5 := ⟨by decide +kernel, rfl⟩
theorem eX1_onArc_5 : dk cX1_onArc 5 (.istore 4) 2 7 := ⟨by decide +kernel, rfl⟩
theorem eX1_onArc_7 : dk cX1_onArc 7 (.iload_n 3) 1 8 := ⟨by decide +kernel, rfl⟩
theorem eX1_onArc_8 : dk cX1_onArc 8 (.iload_n 3) 1 9 := ⟨by decide +kernel, rfl⟩
theorem eX1_onArc_9 : dk cX1_onArc 9 (.imul) 1 10 := ⟨by decide +kernel, rfl⟩
theorem eX1_onArc_10 : dk cX1_onArc 10 (.iload_n 1) 1 11 := ⟨by decide +kernel, rfl⟩
theorem eX1_onArc_11 : dk cX1_onArc 11 (.iload_n 1) 1 12 := ⟨by decide +kernel, rfl⟩
theorem eX1_onArc_12 : dk cX1_onArc 12 (.imul) 1 13 := ⟨by decide +kernel, rfl⟩
theorem eX1_onArc_13 : dk cX1_onArc 13 (.isub) 1 14 := ⟨by decide +kernel, rfl⟩
theorem eX1_onArc_14 : dk cX1_onArc 14 (.istore 5) 2 16 := ⟨by decide +kernel, rfl⟩
theorem eX1_onArc_16 : dk cX1_onArc 16 (.iload 5) 2 18 := ⟨by decide +kernel, rfl⟩
theorem eX1_onArc_18 : db cX1_onArc 18 (.ifCond .lt) 21 31 := ⟨13, by decide +kernel, rfl, by decide⟩
theorem eX1_onArc_21 : dk cX1_onArc 21 (.aload_n 0) 1 22 := ⟨by decide +kernel, rfl⟩
theorem eX1_onArc_22 : dk cX1_onArc 22 (.iload_n 1) 1 23 := ⟨by decide +kernel, rfl⟩
theorem eX1_onArc_23 : dk cX1_onArc 23 (.invokevirtual 20) 3 26 := ⟨by decide +kernel, rfl⟩
theorem eX1_onArc_26 : dk cX1_onArc 26 (.iload 4) 2 28 := ⟨by decide +kernel, rfl⟩
theorem eX1_onArc_28 : db cX1_onArc 28 (.if_icmp .le) 31 33 := ⟨5, by decide +kernel, rfl, by decide⟩
theorem eX1_onArc_31 : dk cX1_onArc 31 (.iconst 0) 1 32 := ⟨by decide +kernel, rfl⟩
theorem eX1_onArc_32 : dk cX1_onArc 32 (.ireturn) 1 33 := ⟨by decide +kernel, rfl⟩
theorem eX1_onArc_33 : dk cX1_onArc 33 (.iload 5) 2 35 := ⟨by decide +kernel, rfl⟩
theorem eX1_onArc_35 : dk cX1_onArc 35 (.iload 4) 2 37 := ⟨by decide +kernel, rfl⟩
theorem eX1_onArc_37 : dk cX1_onArc 37 (.iload 4) 2 39 := ⟨by decide +kernel, rfl⟩
theorem eX1_onArc_39 : dk cX1_onArc 39 (.imul) 1 40 := ⟨by decide +kernel, rfl⟩
theorem eX1_onArc_40 : dk cX1_onArc 40 (.iload 4) 2 42 := ⟨by decide +kernel, rfl⟩
theorem eX1_onArc_42 : dk cX1_onArc 42 (.iadd) 1 43 := ⟨by decide +kernel, rfl⟩
theorem eX1_onArc_43 : db cX1_onArc 43 (.if_icmp .gt) 46 68 := ⟨25, by decide +kernel, rfl, by decide⟩
theorem eX1_onArc_46 : dk cX1_onArc 46 (.iload 4) 2 48 := ⟨by decide +kernel, rfl⟩
theorem eX1_onArc_48 : db cX1_onArc 48 (.ifCond .eq) 51 64 := ⟨16, by decide +kernel, rfl, by decide⟩
theorem eX1_onArc_51 : dk cX1_onArc 51 (.iload 5) 2 53 := ⟨by decide +kernel, rfl⟩
theorem eX1_onArc_53 : dk cX1_onArc 53 (.iload 4) 2 55 := ⟨by decide +kernel, rfl⟩
theorem eX1_onArc_55 : dk cX1_onArc 55 (.iload 4) 2 57 := ⟨by decide +kernel, rfl⟩
theorem eX1_onArc_57 : dk cX1_onArc 57 (.imul) 1 58 := ⟨by decide +kernel, rfl⟩
theorem eX1_onArc_58 : dk cX1_onArc 58 (.iload 4) 2 60 := ⟨by decide +kernel, rfl⟩
theorem eX1_onArc_60 : dk cX1_onArc 60 (.isub) 1 61 := ⟨by decide +kernel, rfl⟩
theorem eX1_onArc_61 : db cX1_onArc 61 (.if_icmp .le) 64 68 := ⟨7, by decide +kernel, rfl, by decide⟩
theorem eX1_onArc_64 : dk cX1_onArc 64 (.iconst 1) 1 65 := ⟨by decide +kernel, rfl⟩
theorem eX1_onArc_65 : db cX1_onArc 65 (.goto) 68 69 := ⟨4, by decide +kernel, rfl, by decide⟩
theorem eX1_onArc_68 : dk cX1_onArc 68 (.iconst 0) 1 69 := ⟨by decide +kernel, rfl⟩
theorem eX1_onArc_69 : dk cX1_onArc 69 (.ireturn) 1 70 := ⟨by decide +kernel, rfl⟩
theorem eX1_blot_0 : dk cX1_blot 0 (.aload_n 0) 1 1 := ⟨by decide +kernel, rfl⟩
theorem eX1_blot_1 : dk cX1_blot 1 (.iload_n 1) 1 2 := ⟨by decide +kernel, rfl⟩
theorem eX1_blot_2 : dk cX1_blot 2 (.iload_n 2) 1 3 := ⟨by decide +kernel, rfl⟩
theorem eX1_blot_3 : dk cX1_blot 3 (.invokevirtual 39) 3 6 := ⟨by decide +kernel, rfl⟩
theorem eX1_blot_6 : db cX1_blot 6 (.ifCond .eq) 9 18 := ⟨12, by decide +kernel, rfl, by decide⟩
theorem eX1_blot_9 : dk cX1_blot 9 (.aload_n 0) 1 10 := ⟨by decide +kernel, rfl⟩
theorem eX1_blot_10 : dk cX1_blot 10 (.iload_n 1) 1 11 := ⟨by decide +kernel, rfl⟩
theorem eX1_blot_11 : dk cX1_blot 11 (.iload_n 3) 1 12 := ⟨by decide +kernel, rfl⟩
theorem eX1_blot_12 : dk cX1_blot 12 (.invokevirtual 39) 3 15 := ⟨by decide +kernel, rfl⟩
theorem eX1_blot_15 : db cX1_blot 15 (.ifCond .ne) 18 20 := ⟨5, by decide +kernel, rfl, by decide⟩
theorem eX1_blot_18 : dk cX1_blot 18 (.iconst (-1)) 1 19 := ⟨by decide +kernel, rfl⟩
theorem eX1_blot_19 : dk cX1_blot 19 (.ireturn) 1 20 := ⟨by decide +kernel, rfl⟩
theorem eX1_blot_20 : dk cX1_blot 20 (.iconst 0) 1 21 := ⟨by decide +kernel, rfl⟩
theorem eX1_blot_21 : dk cX1_blot 21 (.istore 4) 2 23 := ⟨by decide +kernel, rfl⟩
theorem eX1_blot_23 : dk cX1_blot 23 (.iload 4) 2 25 := ⟨by decide +kernel, rfl⟩
theorem eX1_blot_25 : dk cX1_blot 25 (.sipush 576) 3 28 := ⟨by decide +kernel, rfl⟩
theorem eX1_blot_28 : db cX1_blot 28 (.if_icmp .ge) 31 102 := ⟨74, by decide +kernel, rfl, by decide⟩
theorem eX1_blot_31 : dk cX1_blot 31 (.iload 4) 2 33 := ⟨by decide +kernel, rfl⟩
theorem eX1_blot_33 : dk cX1_blot 33 (.bipush 24) 2 35 := ⟨by decide +kernel, rfl⟩
theorem eX1_blot_35 : dk cX1_blot 35 (.irem) 1 36 := ⟨by decide +kernel, rfl⟩
theorem eX1_blot_36 : dk cX1_blot 36 (.iload_n 1) 1 37 := ⟨by decide +kernel, rfl⟩
theorem eX1_blot_37 : dk cX1_blot 37 (.bipush 32) 2 39 := ⟨by decide +kernel, rfl⟩
theorem eX1_blot_39 : dk cX1_blot 39 (.irem) 1 40 := ⟨by decide +kernel, rfl⟩
theorem eX1_blot_40 : dk cX1_blot 40 (.isub) 1 41 := ⟨by decide +kernel, rfl⟩
theorem eX1_blot_41 : dk cX1_blot 41 (.istore 5) 2 43 := ⟨by decide +kernel, rfl⟩
theorem eX1_blot_43 : dk cX1_blot 43 (.iload 4) 2 45 := ⟨by decide +kernel, rfl⟩
theorem eX1_blot_45 : dk cX1_blot 45 (.bipush 24) 2 47 := ⟨by decide +kernel, rfl⟩
theorem eX1_blot_47 : dk cX1_blot 47 (.idiv) 1 48 := ⟨by decide +kernel, rfl⟩
theorem eX1_blot_48 : dk cX1_blot 48 (.iload_n 1) 1 49 := ⟨by decide +kernel, rfl⟩
theorem eX1_blot_49 : dk cX1_blot 49 (.bipush 32) 2 51 := ⟨by decide +kernel, rfl⟩
theorem eX1_blot_51 : dk cX1_blot 51 (.idiv) 1 52 := ⟨by decide +kernel, rfl⟩
theorem eX1_blot_52 : dk cX1_blot 52 (.isub) 1 53 := ⟨by decide +kernel, rfl⟩
theorem eX1_blot_53 : dk cX1_blot 53 (.istore 6) 2 55 := ⟨by decide +kernel, rfl⟩
theorem eX1_blot_55 : dk cX1_blot 55 (.aload_n 0) 1 56 := ⟨by decide +kernel, rfl⟩
theorem eX1_blot_56 : dk cX1_blot 56 (.getfield 13) 3 59 := ⟨by decide +kernel, rfl⟩
theorem eX1_blot_59 : dk cX1_blot 59 (.iload 4) 2 61 := ⟨by decide +kernel, rfl⟩
theorem eX1_blot_61 : dk cX1_blot 61 (.iload_n 3) 1 62 := ⟨by decide +kernel, rfl⟩
theorem eX1_blot_62 : dk cX1_blot 62 (.iload_n 3) 1 63 := ⟨by decide +kernel, rfl⟩
theorem eX1_blot_63 : dk cX1_blot 63 (.imul) 1 64 := ⟨by decide +kernel, rfl⟩
theorem eX1_blot_64 : dk cX1_blot 64 (.iload 5) 2 66 := ⟨by decide +kernel, rfl⟩
theorem eX1_blot_66 : dk cX1_blot 66 (.imul) 1 67 := ⟨by decide +kernel, rfl⟩
theorem eX1_blot_67 : dk cX1_blot 67 (.iload 5) 2 69 := ⟨by decide +kernel, rfl⟩
theorem eX1_blot_69 : dk cX1_blot 69 (.imul) 1 70 := ⟨by decide +kernel, rfl⟩
theorem eX1_blot_70 : dk cX1_blot 70 (.iload_n 2) 1 71 := ⟨by decide +kernel, rfl⟩
theorem eX1_blot_71 : dk cX1_blot 71 (.iload_n 2) 1 72 := ⟨by decide +kernel, rfl⟩
theorem eX1_blot_72 : dk cX1_blot 72 (.imul) 1 73 := ⟨by decide +kernel, rfl⟩
theorem eX1_blot_73 : dk cX1_blot 73 (.iload 6) 2 75 := ⟨by decide +kernel, rfl⟩
theorem eX1_blot_75 : dk cX1_blot 75 (.imul) 1 76 := ⟨by decide +kernel, rfl⟩
theorem eX1_blot_76 : dk cX1_blot 76 (.iload 6) 2 78 := ⟨by decide +kernel, rfl⟩
theorem eX1_blot_78 : dk cX1_blot 78 (.imul) 1 79 := ⟨by decide +kernel, rfl⟩
theorem eX1_blot_79 : dk cX1_blot 79 (.iadd) 1 80 := ⟨by decide +kernel, rfl⟩
theorem eX1_blot_80 : dk cX1_blot 80 (.iload_n 2) 1 81 := ⟨by decide +kernel, rfl⟩
theorem eX1_blot_81 : dk cX1_blot 81 (.iload_n 2) 1 82 := ⟨by decide +kernel, rfl⟩
theorem eX1_blot_82 : dk cX1_blot 82 (.imul) 1 83 := ⟨by decide +kernel, rfl⟩
theorem eX1_blot_83 : dk cX1_blot 83 (.iload_n 3) 1 84 := ⟨by decide +kernel, rfl⟩
theorem eX1_blot_84 : dk cX1_blot 84 (.imul) 1 85 := ⟨by decide +kernel, rfl⟩
theorem eX1_blot_85 : dk cX1_blot 85 (.iload_n 3) 1 86 := ⟨by decide +kernel, rfl⟩
theorem eX1_blot_86 : dk cX1_blot 86 (.imul) 1 87 := ⟨by decide +kernel, rfl⟩
theorem eX1_blot_87 : db cX1_blot 87 (.if_icmp .gt) 90 94 := ⟨7, by decide +kernel, rfl, by decide⟩
theorem eX1_blot_90 : dk cX1_blot 90 (.iconst 1) 1 91 := ⟨by decide +kernel, rfl⟩
theorem eX1_blot_91 : db cX1_blot 91 (.goto) 94 95 := ⟨4, by decide +kernel, rfl, by decide⟩
theorem eX1_blot_94 : dk cX1_blot 94 (.iconst 0) 1 95 := ⟨by decide +kernel, rfl⟩
theorem eX1_blot_95 : dk cX1_blot 95 (.bastore) 1 96 := ⟨by decide +kernel, rfl⟩
theorem eX1_blot_96 : dk cX1_blot 96 (.iinc 4 1) 3 99 := ⟨by decide +kernel, rfl⟩
theorem eX1_blot_99 : db cX1_blot 99 (.goto) 102 23 := ⟨(-76), by decide +kernel, rfl, by decide⟩
theorem eX1_blot_102 : dk cX1_blot 102 (.aload_n 0) 1 103 := ⟨by decide +kernel, rfl⟩
theorem eX1_blot_103 : dk cX1_blot 103 (.invokevirtual 35) 3 106 := ⟨by decide +kernel, rfl⟩
theorem eX1_blot_106 : dk cX1_blot 106 (.ireturn) 1 107 := ⟨by decide +kernel, rfl⟩
theorem eX1_triangle_0 : dk cX1_triangle 0 (.aload_n 0) 1 1 := ⟨by decide +kernel, rfl⟩
theorem eX1_triangle_1 : dk cX1_triangle 1 (.iload_n 1) 1 2 := ⟨by decide +kernel, rfl⟩
theorem eX1_triangle_2 : dk cX1_triangle 2 (.invokevirtual 28) 3 5 := ⟨by decide +kernel, rfl⟩
theorem eX1_triangle_5 : db cX1_triangle 5 (.ifCond .eq) 8 24 := ⟨19, by decide +kernel, rfl, by decide⟩
theorem eX1_triangle_8 : dk cX1_triangle 8 (.aload_n 0) 1 9 := ⟨by decide +kernel, rfl⟩
theorem eX1_triangle_9 : dk cX1_triangle 9 (.iload_n 2) 1 10 := ⟨by decide +kernel, rfl⟩
theorem eX1_triangle_10 : dk cX1_triangle 10 (.invokevirtual 28) 3 13 := ⟨by decide +kernel, rfl⟩
theorem eX1_triangle_13 : db cX1_triangle 13 (.ifCond .eq) 16 24 := ⟨11, by decide +kernel, rfl, by decide⟩
theorem eX1_triangle_16 : dk cX1_triangle 16 (.aload_n 0) 1 17 := ⟨by decide +kernel, rfl⟩
theorem eX1_triangle_17 : dk cX1_triangle 17 (.iload_n 3) 1 18 := ⟨by decide +kernel, rfl⟩
theorem eX1_triangle_18 : dk cX1_triangle 18 (.invokevirtual 28) 3 21 := ⟨by decide +kernel, rfl⟩
theorem eX1_triangle_21 : db cX1_triangle 21 (.ifCond .ne) 24 26 := ⟨5, by decide +kernel, rfl, by decide⟩
theorem eX1_triangle_24 : dk cX1_triangle 24 (.iconst (-1)) 1 25 := ⟨by decide +kernel, rfl⟩
theorem eX1_triangle_25 : dk cX1_triangle 25 (.ireturn) 1 26 := ⟨by decide +kernel, rfl⟩
theorem eX1_triangle_26 : dk cX1_triangle 26 (.iconst 0) 1 27 := ⟨by decide +kernel, rfl⟩
theorem eX1_triangle_27 : dk cX1_triangle 27 (.istore 4) 2 29 := ⟨by decide +kernel, rfl⟩
theorem eX1_triangle_29 : dk cX1_triangle 29 (.iload 4) 2 31 := ⟨by decide +kernel, rfl⟩
theorem eX1_triangle_31 : dk cX1_triangle 31 (.sipush 576) 3 34 := ⟨by decide +kernel, rfl⟩
theorem eX1_triangle_34 : db cX1_triangle 34 (.if_icmp .ge) 37 67 := ⟨33, by decide +kernel, rfl, by decide⟩
theorem eX1_triangle_37 : dk cX1_triangle 37 (.aload_n 0) 1 38 := ⟨by decide +kernel, rfl⟩
theorem eX1_triangle_38 : dk cX1_triangle 38 (.getfield 13) 3 41 := ⟨by decide +kernel, rfl⟩
theorem eX1_triangle_41 : dk cX1_triangle 41 (.iload 4) 2 43 := ⟨by decide +kernel, rfl⟩
theorem eX1_triangle_43 : dk cX1_triangle 43 (.aload_n 0) 1 44 := ⟨by decide +kernel, rfl⟩
theorem eX1_triangle_44 : dk cX1_triangle 44 (.iload 4) 2 46 := ⟨by decide +kernel, rfl⟩
theorem eX1_triangle_46 : dk cX1_triangle 46 (.bipush 24) 2 48 := ⟨by decide +kernel, rfl⟩
theorem eX1_triangle_48 : dk cX1_triangle 48 (.irem) 1 49 := ⟨by decide +kernel, rfl⟩
theorem eX1_triangle_49 : dk cX1_triangle 49 (.iload 4) 2 51 := ⟨by decide +kernel, rfl⟩
theorem eX1_triangle_51 : dk cX1_triangle 51 (.bipush 24) 2 53 := ⟨by decide +kernel, rfl⟩
theorem eX1_triangle_53 : dk cX1_triangle 53 (.idiv) 1 54 := ⟨by decide +kernel, rfl⟩
theorem eX1_triangle_54 : dk cX1_triangle 54 (.iload_n 1) 1 55 := ⟨by decide +kernel, rfl⟩
theorem eX1_triangle_55 : dk cX1_triangle 55 (.iload_n 2) 1 56 := ⟨by decide +kernel, rfl⟩
theorem eX1_triangle_56 : dk cX1_triangle 56 (.iload_n 3) 1 57 := ⟨by decide +kernel, rfl⟩
theorem eX1_triangle_57 : dk cX1_triangle 57 (.invokevirtual 55) 3 60 := ⟨by decide +kernel, rfl⟩
theorem eX1_triangle_60 : dk cX1_triangle 60 (.bastore) 1 61 := ⟨by decide +kernel, rfl⟩
theorem eX1_triangle_61 : dk cX1_triangle 61 (.iinc 4 1) 3 64 := ⟨by decide +kernel, rfl⟩
theorem eX1_triangle_64 : db cX1_triangle 64 (.goto) 67 29 := ⟨(-35), by decide +kernel, rfl, by decide⟩
theorem eX1_triangle_67 : dk cX1_triangle 67 (.aload_n 0) 1 68 := ⟨by decide +kernel, rfl⟩
theorem eX1_triangle_68 : dk cX1_triangle 68 (.invokevirtual 35) 3 71 := ⟨by decide +kernel, rfl⟩
theorem eX1_triangle_71 : dk cX1_triangle 71 (.ireturn) 1 72 := ⟨by decide +kernel, rfl⟩
theorem eX1_inTriangle_0 : dk cX1_inTriangle 0 (.aload_n 0) 1 1 := ⟨by decide +kernel, rfl⟩
theorem eX1_inTriangle_1 : dk cX1_inTriangle 1 (.iload_n 1) 1 2 := ⟨by decide +kernel, rfl⟩
theorem eX1_inTriangle_2 : dk cX1_inTriangle 2 (.iload_n 2) 1 3 := ⟨by decide +kernel, rfl⟩
theorem eX1_inTriangle_3 : dk cX1_inTriangle 3 (.iload_n 3) 1 4 := ⟨by decide +kernel, rfl⟩
theorem eX1_inTriangle_4 : dk cX1_inTriangle 4 (.iload 4) 2 6 := ⟨by decide +kernel, rfl⟩
theorem eX1_inTriangle_6 : dk cX1_inTriangle 6 (.invokevirtual 47) 3 9 := ⟨by decide +kernel, rfl⟩
theorem eX1_inTriangle_9 : dk cX1_inTriangle 9 (.istore 6) 2 11 := ⟨by decide +kernel, rfl⟩
theorem eX1_inTriangle_11 : dk cX1_inTriangle 11 (.aload_n 0) 1 12 := ⟨by decide +kernel, rfl⟩
theorem eX1_inTriangle_12 : dk cX1_inTriangle 12 (.iload_n 1) 1 13 := ⟨by decide +kernel, rfl⟩
theorem eX1_inTriangle_13 : dk cX1_inTriangle 13 (.iload_n 2) 1 14 := ⟨by decide +kernel, rfl⟩
theorem eX1_inTriangle_14 : dk cX1_inTriangle 14 (.iload 4) 2 16 := ⟨by decide +kernel, rfl⟩
theorem eX1_inTriangle_16 : dk cX1_inTriangle 16 (.iload 5) 2 18 := ⟨by decide +kernel, rfl⟩
theorem eX1_inTriangle_18 : dk cX1_inTriangle 18 (.invokevirtual 47) 3 21 := ⟨by decide +kernel, rfl⟩
theorem eX1_inTriangle_21 : dk cX1_inTriangle 21 (.istore 7) 2 23 := ⟨by decide +kernel, rfl⟩
theorem eX1_inTriangle_23 : dk cX1_inTriangle 23 (.aload_n 0) 1 24 := ⟨by decide +kernel, rfl⟩
theorem eX1_inTriangle_24 : dk cX1_inTriangle 24 (.iload_n 1) 1 25 := ⟨by decide +kernel, rfl⟩
theorem eX1_inTriangle_25 : dk cX1_inTriangle 25 (.iload_n 2) 1 26 := ⟨by decide +kernel, rfl⟩
theorem eX1_inTriangle_26 : dk cX1_inTriangle 26 (.iload 5) 2 28 := ⟨by decide +kernel, rfl⟩
theorem eX1_inTriangle_28 : dk cX1_inTriangle 28 (.iload_n 3) 1 29 := ⟨by decide +kernel, rfl⟩
theorem eX1_inTriangle_29 : dk cX1_inTriangle 29 (.invokevirtual 47) 3 32 := ⟨by decide +kernel, rfl⟩
theorem eX1_inTriangle_32 : dk cX1_inTriangle 32 (.istore 8) 2 34 := ⟨by decide +kernel, rfl⟩
theorem eX1_inTriangle_34 : dk cX1_inTriangle 34 (.iload 6) 2 36 := ⟨by decide +kernel, rfl⟩
theorem eX1_inTriangle_36 : db cX1_inTriangle 36 (.ifCond .lt) 39 49 := ⟨13, by decide +kernel, rfl, by decide⟩
theorem eX1_inTriangle_39 : dk cX1_inTriangle 39 (.iload 7) 2 41 := ⟨by decide +kernel, rfl⟩
theorem eX1_inTriangle_41 : db cX1_inTriangle 41 (.ifCond .lt) 44 49 := ⟨8, by decide +kernel, rfl, by decide⟩
theorem eX1_inTriangle_44 : dk cX1_inTriangle 44 (.iload 8) 2 46 := ⟨by decide +kernel, rfl⟩
theorem eX1_inTriangle_46 : db cX1_inTriangle 46 (.ifCond .ge) 49 64 := ⟨18, by decide +kernel, rfl, by decide⟩
theorem eX1_inTriangle_49 : dk cX1_inTriangle 49 (.iload 6) 2 51 := ⟨by decide +kernel, rfl⟩
theorem eX1_inTriangle_51 : db cX1_inTriangle 51 (.ifCond .gt) 54 68 := ⟨17, by decide +kernel, rfl, by decide⟩
theorem eX1_inTriangle_54 : dk cX1_inTriangle 54 (.iload 7) 2 56 := ⟨by decide +kernel, rfl⟩
theorem eX1_inTriangle_56 : db cX1_inTriangle 56 (.ifCond .gt) 59 68 := ⟨12, by decide +kernel, rfl, by decide⟩
theorem eX1_inTriangle_59 : dk cX1_inTriangle 59 (.iload 8) 2 61 := ⟨by decide +kernel, rfl⟩
theorem eX1_inTriangle_61 : db cX1_inTriangle 61 (.ifCond .gt) 64 68 := ⟨7, by decide +kernel, rfl, by decide⟩
theorem eX1_inTriangle_64 : dk cX1_inTriangle 64 (.iconst 1) 1 65 := ⟨by decide +kernel, rfl⟩
theorem eX1_inTriangle_65 : db cX1_inTriangle 65 (.goto) 68 69 := ⟨4, by decide +kernel, rfl, by decide⟩
theorem eX1_inTriangle_68 : dk cX1_inTriangle 68 (.iconst 0) 1 69 := ⟨by decide +kernel, rfl⟩
theorem eX1_inTriangle_69 : dk cX1_inTriangle 69 (.istore 9) 2 71 := ⟨by decide +kernel, rfl⟩
theorem eX1_inTriangle_71 : dk cX1_inTriangle 71 (.iload 9) 2 73 := ⟨by decide +kernel, rfl⟩
theorem eX1_inTriangle_73 : db cX1_inTriangle 73 (.ifCond .eq) 76 124 := ⟨51, by decide +kernel, rfl, by decide⟩
theorem eX1_inTriangle_76 : dk cX1_inTriangle 76 (.aload_n 0) 1 77 := ⟨by decide +kernel, rfl⟩
theorem eX1_inTriangle_77 : dk cX1_inTriangle 77 (.iload_n 1) 1 78 := ⟨by decide +kernel, rfl⟩
theorem eX1_inTriangle_78 : dk cX1_inTriangle 78 (.iload_n 3) 1 79 := ⟨by decide +kernel, rfl⟩
theorem eX1_inTriangle_79 : dk cX1_inTriangle 79 (.bipush 32) 2 81 := ⟨by decide +kernel, rfl⟩
theorem eX1_inTriangle_81 : dk cX1_inTriangle 81 (.irem) 1 82 := ⟨by decide +kernel, rfl⟩
theorem eX1_inTriangle_82 : dk cX1_inTriangle 82 (.iload 4) 2 84 := ⟨by decide +kernel, rfl⟩
theorem eX1_inTriangle_84 : dk cX1_inTriangle 84 (.bipush 32) 2 86 := ⟨by decide +kernel, rfl⟩
theorem eX1_inTriangle_86 : dk cX1_inTriangle 86 (.irem) 1 87 := ⟨by decide +kernel, rfl⟩
theorem eX1_inTriangle_87 : dk cX1_inTriangle 87 (.iload 5) 2 89 := ⟨by decide +kernel, rfl⟩
theorem eX1_inTriangle_89 : dk cX1_inTriangle 89 (.bipush 32) 2 91 := ⟨by decide +kernel, rfl⟩
theorem eX1_inTriangle_91 : dk cX1_inTriangle 91 (.irem) 1 92 := ⟨by decide +kernel, rfl⟩
theorem eX1_inTriangle_92 : dk cX1_inTriangle 92 (.invokevirtual 51) 3 95 := ⟨by decide +kernel, rfl⟩
theorem eX1_inTriangle_95 : db cX1_inTriangle 95 (.ifCond .eq) 98 124 := ⟨29, by decide +kernel, rfl, by decide⟩
theorem eX1_inTriangle_98 : dk cX1_inTriangle 98 (.aload_n 0) 1 99 := ⟨by decide +kernel, rfl⟩
theorem eX1_inTriangle_99 : dk cX1_inTriangle 99 (.iload_n 2) 1 100 := ⟨by decide +kernel, rfl⟩
theorem eX1_inTriangle_100 : dk cX1_inTriangle 100 (.iload_n 3) 1 101 := ⟨by decide +kernel, rfl⟩
theorem eX1_inTriangle_101 : dk cX1_inTriangle 101 (.bipush 32) 2 103 := ⟨by decide +kernel, rfl⟩
theorem eX1_inTriangle_103 : dk cX1_inTriangle 103 (.idiv) 1 104 := ⟨by decide +kernel, rfl⟩
theorem eX1_inTriangle_104 : dk cX1_inTriangle 104 (.iload 4) 2 106 := ⟨by decide +kernel, rfl⟩
theorem eX1_inTriangle_106 : dk cX1_inTriangle 106 (.bipush 32) 2 108 := ⟨by decide +kernel, rfl⟩
theorem eX1_inTriangle_108 : dk cX1_inTriangle 108 (.idiv) 1 109 := ⟨by decide +kernel, rfl⟩
theorem eX1_inTriangle_109 : dk cX1_inTriangle 109 (.iload 5) 2 111 := ⟨by decide +kernel, rfl⟩
theorem eX1_inTriangle_111 : dk cX1_inTriangle 111 (.bipush 32) 2 113 := ⟨by decide +kernel, rfl⟩
theorem eX1_inTriangle_113 : dk cX1_inTriangle 113 (.idiv) 1 114 := ⟨by decide +kernel, rfl⟩
theorem eX1_inTriangle_114 : dk cX1_inTriangle 114 (.invokevirtual 51) 3 117 := ⟨by decide +kernel, rfl⟩
theorem eX1_inTriangle_117 : db cX1_inTriangle 117 (.ifCond .eq) 120 124 := ⟨7, by decide +kernel, rfl, by decide⟩
theorem eX1_inTriangle_120 : dk cX1_inTriangle 120 (.iconst 1) 1 121 := ⟨by decide +kernel, rfl⟩
theorem eX1_inTriangle_121 : db cX1_inTriangle 121 (.goto) 124 125 := ⟨4, by decide +kernel, rfl, by decide⟩
theorem eX1_inTriangle_124 : dk cX1_inTriangle 124 (.iconst 0) 1 125 := ⟨by decide +kernel, rfl⟩
theorem eX1_inTriangle_125 : dk cX1_inTriangle 125 (.ireturn) 1 126 := ⟨by decide +kernel, rfl⟩
theorem eX1_side_0 : dk cX1_side 0 (.iload 4) 2 2 := ⟨by decide +kernel, rfl⟩
theorem eX1_side_2 : dk cX1_side 2 (.bipush 32) 2 4 := ⟨by decide +kernel, rfl⟩
theorem eX1_side_4 : dk cX1_side 4 (.irem) 1 5 := ⟨by decide +kernel, rfl⟩
theorem eX1_side_5 : dk cX1_side 5 (.iload_n 3) 1 6 := ⟨by decide +kernel, rfl⟩
theorem eX1_side_6 : dk cX1_side 6 (.bipush 32) 2 8 := ⟨by decide +kernel, rfl⟩
theorem eX1_side_8 : dk cX1_side 8 (.irem) 1 9 := ⟨by decide +kernel, rfl⟩
theorem eX1_side_9 : dk cX1_side 9 (.isub) 1 10 := ⟨by decide +kernel, rfl⟩
theorem eX1_side_10 : dk cX1_side 10 (.iload_n 2) 1 11 := ⟨by decide +kernel, rfl⟩
theorem eX1_side_11 : dk cX1_side 11 (.iload_n 3) 1 12 := ⟨by decide +kernel, rfl⟩
theorem eX1_side_12 : dk cX1_side 12 (.bipush 32) 2 14 := ⟨by decide +kernel, rfl⟩
theorem eX1_side_14 : dk cX1_side 14 (.idiv) 1 15 := ⟨by decide +kernel, rfl⟩
theorem eX1_side_15 : dk cX1_side 15 (.isub) 1 16 := ⟨by decide +kernel, rfl⟩
theorem eX1_side_16 : dk cX1_side 16 (.imul) 1 17 := ⟨by decide +kernel, rfl⟩
theorem eX1_side_17 : dk cX1_side 17 (.iload 4) 2 19 := ⟨by decide +kernel, rfl⟩
theorem eX1_side_19 : dk cX1_side 19 (.bipush 32) 2 21 := ⟨by decide +kernel, rfl⟩
theorem eX1_side_21 : dk cX1_side 21 (.idiv) 1 22 := ⟨by decide +kernel, rfl⟩
theorem eX1_side_22 : dk cX1_side 22 (.iload_n 3) 1 23 := ⟨by decide +kernel, rfl⟩
theorem eX1_side_23 : dk cX1_side 23 (.bipush 32) 2 25 := ⟨by decide +kernel, rfl⟩
theorem eX1_side_25 : dk cX1_side 25 (.idiv) 1 26 := ⟨by decide +kernel, rfl⟩
theorem eX1_side_26 : dk cX1_side 26 (.isub) 1 27 := ⟨by decide +kernel, rfl⟩
theorem eX1_side_27 : dk cX1_side 27 (.iload_n 1) 1 28 := ⟨by decide +kernel, rfl⟩
theorem eX1_side_28 : dk cX1_side 28 (.iload_n 3) 1 29 := ⟨by decide +kernel, rfl⟩
theorem eX1_side_29 : dk cX1_side 29 (.bipush 32) 2 31 := ⟨by decide +kernel, rfl⟩
theorem eX1_side_31 : dk cX1_side 31 (.irem) 1 32 := ⟨by decide +kernel, rfl⟩
theorem eX1_side_32 : dk cX1_side 32 (.isub) 1 33 := ⟨by decide +kernel, rfl⟩
theorem eX1_side_33 : dk cX1_side 33 (.imul) 1 34 := ⟨by decide +kernel, rfl⟩
theorem eX1_side_34 : dk cX1_side 34 (.isub) 1 35 := ⟨by decide +kernel, rfl⟩
theorem eX1_side_35 : dk cX1_side 35 (.ireturn) 1 36 := ⟨by decide +kernel, rfl⟩
theorem eX1_between_0 : dk cX1_between 0 (.iload_n 1) 1 1 := ⟨by decide +kernel, rfl⟩
theorem eX1_between_1 : dk cX1_between 1 (.iload_n 2) 1 2 := ⟨by decide +kernel, rfl⟩
theorem eX1_between_2 : db cX1_between 2 (.if_icmp .ge) 5 16 := ⟨14, by decide +kernel, rfl, by decide⟩
theorem eX1_between_5 : dk cX1_between 5 (.iload_n 1) 1 6 := ⟨by decide +kernel, rfl⟩
theorem eX1_between_6 : dk cX1_between 6 (.iload_n 3) 1 7 := ⟨by decide +kernel, rfl⟩
theorem eX1_between_7 : db cX1_between 7 (.if_icmp .ge) 10 16 := ⟨9, by decide +kernel, rfl, by decide⟩
theorem eX1_between_10 : dk cX1_between 10 (.iload_n 1) 1 11 := ⟨by decide +kernel, rfl⟩
theorem eX1_between_11 : dk cX1_between 11 (.iload 4) 2 13 := ⟨by decide +kernel, rfl⟩
theorem eX1_between_13 : db cX1_between 13 (.if_icmp .lt) 16 36 := ⟨23, by decide +kernel, rfl, by decide⟩
theorem eX1_between_16 : dk cX1_between 16 (.iload_n 1) 1 17 := ⟨by decide +kernel, rfl⟩
theorem eX1_between_17 : dk cX1_between 17 (.iload_n 2) 1 18 := ⟨by decide +kernel, rfl⟩
theorem eX1_between_18 : db cX1_between 18 (.if_icmp .le) 21 32 := ⟨14, by decide +kernel, rfl, by decide⟩
theorem eX1_between_21 : dk cX1_between 21 (.iload_n 1) 1 22 := ⟨by decide +kernel, rfl⟩
theorem eX1_between_22 : dk cX1_between 22 (.iload_n 3) 1 23 := ⟨by decide +kernel, rfl⟩
theorem eX1_between_23 : db cX1_between 23 (.if_icmp .le) 26 32 := ⟨9, by decide +kernel, rfl, by decide⟩
theorem eX1_between_26 : dk cX1_between 26 (.iload_n 1) 1 27 := ⟨by decide +kernel, rfl⟩
theorem eX1_between_27 : dk cX1_between 27 (.iload 4) 2 29 := ⟨by decide +kernel, rfl⟩
theorem eX1_between_29 : db cX1_between 29 (.if_icmp .gt) 32 36 := ⟨7, by decide +kernel, rfl, by decide⟩
theorem eX1_between_32 : dk cX1_between 32 (.iconst 1) 1 33 := ⟨by decide +kernel, rfl⟩
theorem eX1_between_33 : db cX1_between 33 (.goto) 36 37 := ⟨4, by decide +kernel, rfl, by decide⟩
theorem eX1_between_36 : dk cX1_between 36 (.iconst 0) 1 37 := ⟨by decide +kernel, rfl⟩
theorem eX1_between_37 : dk cX1_between 37 (.ireturn) 1 38 := ⟨by decide +kernel, rfl⟩
theorem eX1_flood_0 : dk cX1_flood 0 (.aload_n 0) 1 1 := ⟨by decide +kernel, rfl⟩
theorem eX1_flood_1 : dk cX1_flood 1 (.iload_n 1) 1 2 := ⟨by decide +kernel, rfl⟩
theorem eX1_flood_2 : dk cX1_flood 2 (.invokevirtual 28) 3 5 := ⟨by decide +kernel, rfl⟩
theorem eX1_flood_5 : db cX1_flood 5 (.ifCond .ne) 8 10 := ⟨5, by decide +kernel, rfl, by decide⟩
theorem eX1_flood_8 : dk cX1_flood 8 (.iconst (-1)) 1 9 := ⟨by decide +kernel, rfl⟩
theorem eX1_flood_9 : dk cX1_flood 9 (.ireturn) 1 10 := ⟨by decide +kernel, rfl⟩
theorem eX1_flood_10 : dk cX1_flood 10 (.bipush 24) 2 12 := ⟨by decide +kernel, rfl⟩
theorem eX1_flood_12 : dk cX1_flood 12 (.iload_n 1) 1 13 := ⟨by decide +kernel, rfl⟩
theorem eX1_flood_13 : dk cX1_flood 13 (.bipush 32) 2 15 := ⟨by decide +kernel, rfl⟩
theorem eX1_flood_15 : dk cX1_flood 15 (.idiv) 1 16 := ⟨by decide +kernel, rfl⟩
theorem eX1_flood_16 : dk cX1_flood 16 (.imul) 1 17 := ⟨by decide +kernel, rfl⟩
theorem eX1_flood_17 : dk cX1_flood 17 (.iload_n 1) 1 18 := ⟨by decide +kernel, rfl⟩
theorem eX1_flood_18 : dk cX1_flood 18 (.bipush 32) 2 20 := ⟨by decide +kernel, rfl⟩
theorem eX1_flood_20 : dk cX1_flood 20 (.irem) 1 21 := ⟨by decide +kernel, rfl⟩
theorem eX1_flood_21 : dk cX1_flood 21 (.iadd) 1 22 := ⟨by decide +kernel, rfl⟩
theorem eX1_flood_22 : dk cX1_flood 22 (.istore_n 2) 1 23 := ⟨by decide +kernel, rfl⟩
theorem eX1_flood_23 : dk cX1_flood 23 (.iconst 0) 1 24 := ⟨by decide +kernel, rfl⟩
theorem eX1_flood_24 : dk cX1_flood 24 (.istore_n 3) 1 25 := ⟨by decide +kernel, rfl⟩
theorem eX1_flood_25 : dk cX1_flood 25 (.iload_n 3) 1 26 := ⟨by decide +kernel, rfl⟩
theorem eX1_flood_26 : dk cX1_flood 26 (.sipush 576) 3 29 := ⟨by decide +kernel, rfl⟩
theorem eX1_flood_29 : db cX1_flood 29 (.if_icmp .ge) 32 54 := ⟨25, by decide +kernel, rfl, by decide⟩
theorem eX1_flood_32 : dk cX1_flood 32 (.aload_n 0) 1 33 := ⟨by decide +kernel, rfl⟩
theorem eX1_flood_33 : dk cX1_flood 33 (.getfield 13) 3 36 := ⟨by decide +kernel, rfl⟩
theorem eX1_flood_36 : dk cX1_flood 36 (.iload_n 3) 1 37 := ⟨by decide +kernel, rfl⟩
theorem eX1_flood_37 : dk cX1_flood 37 (.iload_n 3) 1 38 := ⟨by decide +kernel, rfl⟩
theorem eX1_flood_38 : dk cX1_flood 38 (.iload_n 2) 1 39 := ⟨by decide +kernel, rfl⟩
theorem eX1_flood_39 : db cX1_flood 39 (.if_icmp .ne) 42 46 := ⟨7, by decide +kernel, rfl, by decide⟩
theorem eX1_flood_42 : dk cX1_flood 42 (.iconst 1) 1 43 := ⟨by decide +kernel, rfl⟩
theorem eX1_flood_43 : db cX1_flood 43 (.goto) 46 47 := ⟨4, by decide +kernel, rfl, by decide⟩
theorem eX1_flood_46 : dk cX1_flood 46 (.iconst 0) 1 47 := ⟨by decide +kernel, rfl⟩
theorem eX1_flood_47 : dk cX1_flood 47 (.bastore) 1 48 := ⟨by decide +kernel, rfl⟩
theorem eX1_flood_48 : dk cX1_flood 48 (.iinc 3 1) 3 51 := ⟨by decide +kernel, rfl⟩
theorem eX1_flood_51 : db cX1_flood 51 (.goto) 54 25 := ⟨(-26), by decide +kernel, rfl, by decide⟩
theorem eX1_flood_54 : dk cX1_flood 54 (.iconst 1) 1 55 := ⟨by decide +kernel, rfl⟩
theorem eX1_flood_55 : dk cX1_flood 55 (.istore_n 3) 1 56 := ⟨by decide +kernel, rfl⟩
theorem eX1_flood_56 : dk cX1_flood 56 (.iconst 0) 1 57 := ⟨by decide +kernel, rfl⟩
theorem eX1_flood_57 : dk cX1_flood 57 (.istore 4) 2 59 := ⟨by decide +kernel, rfl⟩
theorem eX1_flood_59 : dk cX1_flood 59 (.iload 4) 2 61 := ⟨by decide +kernel, rfl⟩
theorem eX1_flood_61 : dk cX1_flood 61 (.sipush 576) 3 64 := ⟨by decide +kernel, rfl⟩
theorem eX1_flood_64 : db cX1_flood 64 (.if_icmp .ge) 67 141 := ⟨77, by decide +kernel, rfl, by decide⟩
theorem eX1_flood_67 : dk cX1_flood 67 (.iload_n 3) 1 68 := ⟨by decide +kernel, rfl⟩
theorem eX1_flood_68 : db cX1_flood 68 (.ifCond .eq) 71 141 := ⟨73, by decide +kernel, rfl, by decide⟩
theorem eX1_flood_71 : dk cX1_flood 71 (.iconst 0) 1 72 := ⟨by decide +kernel, rfl⟩
theorem eX1_flood_72 : dk cX1_flood 72 (.istore_n 3) 1 73 := ⟨by decide +kernel, rfl⟩
theorem eX1_flood_73 : dk cX1_flood 73 (.iconst 0) 1 74 := ⟨by decide +kernel, rfl⟩
theorem eX1_flood_74 : dk cX1_flood 74 (.istore 5) 2 76 := ⟨by decide +kernel, rfl⟩
theorem eX1_flood_76 : dk cX1_flood 76 (.iload 5) 2 78 := ⟨by decide +kernel, rfl⟩
theorem eX1_flood_78 : dk cX1_flood 78 (.sipush 576) 3 81 := ⟨by decide +kernel, rfl⟩
theorem eX1_flood_81 : db cX1_flood 81 (.if_icmp .ge) 84 135 := ⟨54, by decide +kernel, rfl, by decide⟩
theorem eX1_flood_84 : dk cX1_flood 84 (.aload_n 0) 1 85 := ⟨by decide +kernel, rfl⟩
theorem eX1_flood_85 : dk cX1_flood 85 (.getfield 13) 3 88 := ⟨by decide +kernel, rfl⟩
theorem eX1_flood_88 : dk cX1_flood 88 (.iload 5) 2 90 := ⟨by decide +kernel, rfl⟩
theorem eX1_flood_90 : dk cX1_flood 90 (.baload) 1 91 := ⟨by decide +kernel, rfl⟩
theorem eX1_flood_91 : db cX1_flood 91 (.ifCond .ne) 94 129 := ⟨38, by decide +kernel, rfl, by decide⟩
theorem eX1_flood_94 : dk cX1_flood 94 (.aload_n 0) 1 95 := ⟨by decide +kernel, rfl⟩
theorem eX1_flood_95 : dk cX1_flood 95 (.getfield 7) 3 98 := ⟨by decide +kernel, rfl⟩
theorem eX1_flood_98 : dk cX1_flood 98 (.iload 5) 2 100 := ⟨by decide +kernel, rfl⟩
theorem eX1_flood_100 : dk cX1_flood 100 (.baload) 1 101 := ⟨by decide +kernel, rfl⟩
theorem eX1_flood_101 : dk cX1_flood 101 (.aload_n 0) 1 102 := ⟨by decide +kernel, rfl⟩
theorem eX1_flood_102 : dk cX1_flood 102 (.getfield 7) 3 105 := ⟨by decide +kernel, rfl⟩
theorem eX1_flood_105 : dk cX1_flood 105 (.iload_n 2) 1 106 := ⟨by decide +kernel, rfl⟩
theorem eX1_flood_106 : dk cX1_flood 106 (.baload) 1 107 := ⟨by decide +kernel, rfl⟩
theorem eX1_flood_107 : db cX1_flood 107 (.if_icmp .ne) 110 129 := ⟨22, by decide +kernel, rfl, by decide⟩
theorem eX1_flood_110 : dk cX1_flood 110 (.aload_n 0) 1 111 := ⟨by decide +kernel, rfl⟩
theorem eX1_flood_111 : dk cX1_flood 111 (.iload 5) 2 113 := ⟨by decide +kernel, rfl⟩
theorem eX1_flood_113 : dk cX1_flood 113 (.invokevirtual 59) 3 116 := ⟨by decide +kernel, rfl⟩
theorem eX1_flood_116 : db cX1_flood 116 (.ifCond .eq) 119 129 := ⟨13, by decide +kernel, rfl, by decide⟩
theorem eX1_flood_119 : dk cX1_flood 119 (.aload_n 0) 1 120 := ⟨by decide +kernel, rfl⟩
theorem eX1_flood_120 : dk cX1_flood 120 (.getfield 13) 3 123 := ⟨by decide +kernel, rfl⟩
theorem eX1_flood_123 : dk cX1_flood 123 (.iload 5) 2 125 := ⟨by decide +kernel, rfl⟩
theorem eX1_flood_125 : dk cX1_flood 125 (.iconst 1) 1 126 := ⟨by decide +kernel, rfl⟩
theorem eX1_flood_126 : dk cX1_flood 126 (.bastore) 1 127 := ⟨by decide +kernel, rfl⟩
theorem eX1_flood_127 : dk cX1_flood 127 (.iconst 1) 1 128 := ⟨by decide +kernel, rfl⟩
theorem eX1_flood_128 : dk cX1_flood 128 (.istore_n 3) 1 129 := ⟨by decide +kernel, rfl⟩
theorem eX1_flood_129 : dk cX1_flood 129 (.iinc 5 1) 3 132 := ⟨by decide +kernel, rfl⟩
theorem eX1_flood_132 : db cX1_flood 132 (.goto) 135 76 := ⟨(-56), by decide +kernel, rfl, by decide⟩
theorem eX1_flood_135 : dk cX1_flood 135 (.iinc 4 1) 3 138 := ⟨by decide +kernel, rfl⟩
theorem eX1_flood_138 : db cX1_flood 138 (.goto) 141 59 := ⟨(-79), by decide +kernel, rfl, by decide⟩
theorem eX1_flood_141 : dk cX1_flood 141 (.iconst 0) 1 142 := ⟨by decide +kernel, rfl⟩
theorem eX1_flood_142 : dk cX1_flood 142 (.istore 4) 2 144 := ⟨by decide +kernel, rfl⟩
theorem eX1_flood_144 : dk cX1_flood 144 (.iconst 0) 1 145 := ⟨by decide +kernel, rfl⟩
theorem eX1_flood_145 : dk cX1_flood 145 (.istore 5) 2 147 := ⟨by decide +kernel, rfl⟩
theorem eX1_flood_147 : dk cX1_flood 147 (.iload 5) 2 149 := ⟨by decide +kernel, rfl⟩
theorem eX1_flood_149 : dk cX1_flood 149 (.sipush 576) 3 152 := ⟨by decide +kernel, rfl⟩
theorem eX1_flood_152 : db cX1_flood 152 (.if_icmp .ge) 155 196 := ⟨44, by decide +kernel, rfl, by decide⟩
theorem eX1_flood_155 : dk cX1_flood 155 (.aload_n 0) 1 156 := ⟨by decide +kernel, rfl⟩
theorem eX1_flood_156 : dk cX1_flood 156 (.getfield 13) 3 159 := ⟨by decide +kernel, rfl⟩
theorem eX1_flood_159 : dk cX1_flood 159 (.iload 5) 2 161 := ⟨by decide +kernel, rfl⟩
theorem eX1_flood_161 : dk cX1_flood 161 (.baload) 1 162 := ⟨by decide +kernel, rfl⟩
theorem eX1_flood_162 : db cX1_flood 162 (.ifCond .eq) 165 190 := ⟨28, by decide +kernel, rfl, by decide⟩
theorem eX1_flood_165 : dk cX1_flood 165 (.aload_n 0) 1 166 := ⟨by decide +kernel, rfl⟩
theorem eX1_flood_166 : dk cX1_flood 166 (.getfield 7) 3 169 := ⟨by decide +kernel, rfl⟩
theorem eX1_flood_169 : dk cX1_flood 169 (.iload 5) 2 171 := ⟨by decide +kernel, rfl⟩
theorem eX1_flood_171 : dk cX1_flood 171 (.aload_n 0) 1 172 := ⟨by decide +kernel, rfl⟩
theorem eX1_flood_172 : dk cX1_flood 172 (.getfield 7) 3 175 := ⟨by decide +kernel, rfl⟩
theorem eX1_flood_175 : dk cX1_flood 175 (.iload 5) 2 177 := ⟨by decide +kernel, rfl⟩
theorem eX1_flood_177 : dk cX1_flood 177 (.baload) 1 178 := ⟨by decide +kernel, rfl⟩
theorem eX1_flood_178 : db cX1_flood 178 (.ifCond .ne) 181 185 := ⟨7, by decide +kernel, rfl, by decide⟩
theorem eX1_flood_181 : dk cX1_flood 181 (.iconst 1) 1 182 := ⟨by decide +kernel, rfl⟩
theorem eX1_flood_182 : db cX1_flood 182 (.goto) 185 186 := ⟨4, by decide +kernel, rfl, by decide⟩
theorem eX1_flood_185 : dk cX1_flood 185 (.iconst 0) 1 186 := ⟨by decide +kernel, rfl⟩
theorem eX1_flood_186 : dk cX1_flood 186 (.bastore) 1 187 := ⟨by decide +kernel, rfl⟩
theorem eX1_flood_187 : dk cX1_flood 187 (.iinc 4 1) 3 190 := ⟨by decide +kernel, rfl⟩
theorem eX1_flood_190 : dk cX1_flood 190 (.iinc 5 1) 3 193 := ⟨by decide +kernel, rfl⟩
theorem eX1_flood_193 : db cX1_flood 193 (.goto) 196 147 := ⟨(-46), by decide +kernel, rfl, by decide⟩
theorem eX1_flood_196 : dk cX1_flood 196 (.iload 4) 2 198 := ⟨by decide +kernel, rfl⟩
theorem eX1_flood_198 : dk cX1_flood 198 (.ireturn) 1 199 := ⟨by decide +kernel, rfl⟩
theorem eX1_besideFigure_0 : dk cX1_besideFigure 0 (.iload_n 1) 1 1 := ⟨by decide +kernel, rfl⟩
theorem eX1_besideFigure_1 : dk cX1_besideFigure 1 (.bipush 24) 2 3 := ⟨by decide +kernel, rfl⟩
theorem eX1_besideFigure_3 : dk cX1_besideFigure 3 (.irem) 1 4 := ⟨by decide +kernel, rfl⟩
theorem eX1_besideFigure_4 : db cX1_besideFigure 4 (.ifCond .le) 7 18 := ⟨14, by decide +kernel, rfl, by decide⟩
theorem eX1_besideFigure_7 : dk cX1_besideFigure 7 (.aload_n 0) 1 8 := ⟨by decide +kernel, rfl⟩
theorem eX1_besideFigure_8 : dk cX1_besideFigure 8 (.getfield 13) 3 11 := ⟨by decide +kernel, rfl⟩
theorem eX1_besideFigure_11 : dk cX1_besideFigure 11 (.iload_n 1) 1 12 := ⟨by decide +kernel, rfl⟩
theorem eX1_besideFigure_12 : dk cX1_besideFigure 12 (.iconst 1) 1 13 := ⟨by decide +kernel, rfl⟩
theorem eX1_besideFigure_13 : dk cX1_besideFigure 13 (.isub) 1 14 := ⟨by decide +kernel, rfl⟩
theorem eX1_besideFigure_14 : dk cX1_besideFigure 14 (.baload) 1 15 := ⟨by decide +kernel, rfl⟩
theorem eX1_besideFigure_15 : db cX1_besideFigure 15 (.ifCond .ne) 18 38 := ⟨23, by decide +kernel, rfl, by decide⟩
theorem eX1_besideFigure_18 : dk cX1_besideFigure 18 (.iload_n 1) 1 19 := ⟨by decide +kernel, rfl⟩
theorem eX1_besideFigure_19 : dk cX1_besideFigure 19 (.bipush 24) 2 21 := ⟨by decide +kernel, rfl⟩
theorem eX1_besideFigure_21 : dk cX1_besideFigure 21 (.irem) 1 22 := ⟨by decide +kernel, rfl⟩
theorem eX1_besideFigure_22 : dk cX1_besideFigure 22 (.bipush 23) 2 24 := ⟨by decide +kernel, rfl⟩
theorem eX1_besideFigure_24 : db cX1_besideFigure 24 (.if_icmp .ge) 27 40 := ⟨16, by decide +kernel, rfl, by decide⟩
theorem eX1_besideFigure_27 : dk cX1_besideFigure 27 (.aload_n 0) 1 28 := ⟨by decide +kernel, rfl⟩
theorem eX1_besideFigure_28 : dk cX1_besideFigure 28 (.getfield 13) 3 31 := ⟨by decide +kernel, rfl⟩
theorem eX1_besideFigure_31 : dk cX1_besideFigure 31 (.iload_n 1) 1 32 := ⟨by decide +kernel, rfl⟩
theorem eX1_besideFigure_32 : dk cX1_besideFigure 32 (.iconst 1) 1 33 := ⟨by decide +kernel, rfl⟩
theorem eX1_besideFigure_33 : dk cX1_besideFigure 33 (.iadd) 1 34 := ⟨by decide +kernel, rfl⟩
theorem eX1_besideFigure_34 : dk cX1_besideFigure 34 (.baload) 1 35 := ⟨by decide +kernel, rfl⟩
theorem eX1_besideFigure_35 : db cX1_besideFigure 35 (.ifCond .eq) 38 40 := ⟨5, by decide +kernel, rfl, by decide⟩
theorem eX1_besideFigure_38 : dk cX1_besideFigure 38 (.iconst 1) 1 39 := ⟨by decide +kernel, rfl⟩
theorem eX1_besideFigure_39 : dk cX1_besideFigure 39 (.ireturn) 1 40 := ⟨by decide +kernel, rfl⟩
theorem eX1_besideFigure_40 : dk cX1_besideFigure 40 (.iload_n 1) 1 41 := ⟨by decide +kernel, rfl⟩
theorem eX1_besideFigure_41 : dk cX1_besideFigure 41 (.bipush 24) 2 43 := ⟨by decide +kernel, rfl⟩
theorem eX1_besideFigure_43 : db cX1_besideFigure 43 (.if_icmp .lt) 46 58 := ⟨15, by decide +kernel, rfl, by decide⟩
theorem eX1_besideFigure_46 : dk cX1_besideFigure 46 (.aload_n 0) 1 47 := ⟨by decide +kernel, rfl⟩
theorem eX1_besideFigure_47 : dk cX1_besideFigure 47 (.getfield 13) 3 50 := ⟨by decide +kernel, rfl⟩
theorem eX1_besideFigure_50 : dk cX1_besideFigure 50 (.iload_n 1) 1 51 := ⟨by decide +kernel, rfl⟩
theorem eX1_besideFigure_51 : dk cX1_besideFigure 51 (.bipush 24) 2 53 := ⟨by decide +kernel, rfl⟩
theorem eX1_besideFigure_53 : dk cX1_besideFigure 53 (.isub) 1 54 := ⟨by decide +kernel, rfl⟩
theorem eX1_besideFigure_54 : dk cX1_besideFigure 54 (.baload) 1 55 := ⟨by decide +kernel, rfl⟩
theorem eX1_besideFigure_55 : db cX1_besideFigure 55 (.ifCond .ne) 58 77 := ⟨22, by decide +kernel, rfl, by decide⟩
theorem eX1_besideFigure_58 : dk cX1_besideFigure 58 (.iload_n 1) 1 59 := ⟨by decide +kernel, rfl⟩
theorem eX1_besideFigure_59 : dk cX1_besideFigure 59 (.sipush 552) 3 62 := ⟨by decide +kernel, rfl⟩
theorem eX1_besideFigure_62 : db cX1_besideFigure 62 (.if_icmp .ge) 65 81 := ⟨19, by decide +kernel, rfl, by decide⟩
theorem eX1_besideFigure_65 : dk cX1_besideFigure 65 (.aload_n 0) 1 66 := ⟨by decide +kernel, rfl⟩
theorem eX1_besideFigure_66 : dk cX1_besideFigure 66 (.getfield 13) 3 69 := ⟨by decide +kernel, rfl⟩
theorem eX1_besideFigure_69 : dk cX1_besideFigure 69 (.iload_n 1) 1 70 := ⟨by decide +kernel, rfl⟩
theorem eX1_besideFigure_70 : dk cX1_besideFigure 70 (.bipush 24) 2 72 := ⟨by decide +kernel, rfl⟩
theorem eX1_besideFigure_72 : dk cX1_besideFigure 72 (.iadd) 1 73 := ⟨by decide +kernel, rfl⟩
theorem eX1_besideFigure_73 : dk cX1_besideFigure 73 (.baload) 1 74 := ⟨by decide +kernel, rfl⟩
theorem eX1_besideFigure_74 : db cX1_besideFigure 74 (.ifCond .eq) 77 81 := ⟨7, by decide +kernel, rfl, by decide⟩
theorem eX1_besideFigure_77 : dk cX1_besideFigure 77 (.iconst 1) 1 78 := ⟨by decide +kernel, rfl⟩
theorem eX1_besideFigure_78 : db cX1_besideFigure 78 (.goto) 81 82 := ⟨4, by decide +kernel, rfl, by decide⟩
theorem eX1_besideFigure_81 : dk cX1_besideFigure 81 (.iconst 0) 1 82 := ⟨by decide +kernel, rfl⟩
theorem eX1_besideFigure_82 : dk cX1_besideFigure 82 (.ireturn) 1 83 := ⟨by decide +kernel, rfl⟩
theorem eX1_get_0 : dk cX1_get 0 (.aload_n 0) 1 1 := ⟨by decide +kernel, rfl⟩
theorem eX1_get_1 : dk cX1_get 1 (.iload_n 1) 1 2 := ⟨by decide +kernel, rfl⟩
theorem eX1_get_2 : dk cX1_get 2 (.invokevirtual 28) 3 5 := ⟨by decide +kernel, rfl⟩
theorem eX1_get_5 : db cX1_get 5 (.ifCond .ne) 8 10 := ⟨5, by decide +kernel, rfl, by decide⟩
theorem eX1_get_8 : dk cX1_get 8 (.iconst (-1)) 1 9 := ⟨by decide +kernel, rfl⟩
theorem eX1_get_9 : dk cX1_get 9 (.ireturn) 1 10 := ⟨by decide +kernel, rfl⟩
theorem eX1_get_10 : dk cX1_get 10 (.aload_n 0) 1 11 := ⟨by decide +kernel, rfl⟩
theorem eX1_get_11 : dk cX1_get 11 (.getfield 7) 3 14 := ⟨by decide +kernel, rfl⟩
theorem eX1_get_14 : dk cX1_get 14 (.bipush 24) 2 16 := ⟨by decide +kernel, rfl⟩
theorem eX1_get_16 : dk cX1_get 16 (.iload_n 1) 1 17 := ⟨by decide +kernel, rfl⟩
theorem eX1_get_17 : dk cX1_get 17 (.bipush 32) 2 19 := ⟨by decide +kernel, rfl⟩
theorem eX1_get_19 : dk cX1_get 19 (.idiv) 1 20 := ⟨by decide +kernel, rfl⟩
theorem eX1_get_20 : dk cX1_get 20 (.imul) 1 21 := ⟨by decide +kernel, rfl⟩
theorem eX1_get_21 : dk cX1_get 21 (.iload_n 1) 1 22 := ⟨by decide +kernel, rfl⟩
theorem eX1_get_22 : dk cX1_get 22 (.bipush 32) 2 24 := ⟨by decide +kernel, rfl⟩
theorem eX1_get_24 : dk cX1_get 24 (.irem) 1 25 := ⟨by decide +kernel, rfl⟩
theorem eX1_get_25 : dk cX1_get 25 (.iadd) 1 26 := ⟨by decide +kernel, rfl⟩
theorem eX1_get_26 : dk cX1_get 26 (.baload) 1 27 := ⟨by decide +kernel, rfl⟩
theorem eX1_get_27 : db cX1_get 27 (.ifCond .eq) 30 34 := ⟨7, by decide +kernel, rfl, by decide⟩
theorem eX1_get_30 : dk cX1_get 30 (.iconst 1) 1 31 := ⟨by decide +kernel, rfl⟩
theorem eX1_get_31 : db cX1_get 31 (.goto) 34 35 := ⟨4, by decide +kernel, rfl, by decide⟩
theorem eX1_get_34 : dk cX1_get 34 (.iconst 0) 1 35 := ⟨by decide +kernel, rfl⟩
theorem eX1_get_35 : dk cX1_get 35 (.ireturn) 1 36 := ⟨by decide +kernel, rfl⟩
theorem eX1_count_0 : dk cX1_count 0 (.iconst 0) 1 1 := ⟨by decide +kernel, rfl⟩
theorem eX1_count_1 : dk cX1_count 1 (.istore_n 1) 1 2 := ⟨by decide +kernel, rfl⟩
theorem eX1_count_2 : dk cX1_count 2 (.iconst 0) 1 3 := ⟨by decide +kernel, rfl⟩
theorem eX1_count_3 : dk cX1_count 3 (.istore_n 2) 1 4 := ⟨by decide +kernel, rfl⟩
theorem eX1_count_4 : dk cX1_count 4 (.iload_n 2) 1 5 := ⟨by decide +kernel, rfl⟩
theorem eX1_count_5 : dk cX1_count 5 (.sipush 576) 3 8 := ⟨by decide +kernel, rfl⟩
theorem eX1_count_8 : db cX1_count 8 (.if_icmp .ge) 11 29 := ⟨21, by decide +kernel, rfl, by decide⟩
theorem eX1_count_11 : dk cX1_count 11 (.aload_n 0) 1 12 := ⟨by decide +kernel, rfl⟩
theorem eX1_count_12 : dk cX1_count 12 (.getfield 7) 3 15 := ⟨by decide +kernel, rfl⟩
theorem eX1_count_15 : dk cX1_count 15 (.iload_n 2) 1 16 := ⟨by decide +kernel, rfl⟩
theorem eX1_count_16 : dk cX1_count 16 (.baload) 1 17 := ⟨by decide +kernel, rfl⟩
theorem eX1_count_17 : db cX1_count 17 (.ifCond .eq) 20 23 := ⟨6, by decide +kernel, rfl, by decide⟩
theorem eX1_count_20 : dk cX1_count 20 (.iinc 1 1) 3 23 := ⟨by decide +kernel, rfl⟩
theorem eX1_count_23 : dk cX1_count 23 (.iinc 2 1) 3 26 := ⟨by decide +kernel, rfl⟩
theorem eX1_count_26 : db cX1_count 26 (.goto) 29 4 := ⟨(-22), by decide +kernel, rfl, by decide⟩
theorem eX1_count_29 : dk cX1_count 29 (.iload_n 1) 1 30 := ⟨by decide +kernel, rfl⟩
theorem eX1_count_30 : dk cX1_count 30 (.ireturn) 1 31 := ⟨by decide +kernel, rfl⟩
theorem eX1_row_0 : dk cX1_row 0 (.iload_n 1) 1 1 := ⟨by decide +kernel, rfl⟩
theorem eX1_row_1 : db cX1_row 1 (.ifCond .lt) 4 10 := ⟨9, by decide +kernel, rfl, by decide⟩
theorem eX1_row_4 : dk cX1_row 4 (.iload_n 1) 1 5 := ⟨by decide +kernel, rfl⟩
theorem eX1_row_5 : dk cX1_row 5 (.bipush 23) 2 7 := ⟨by decide +kernel, rfl⟩
theorem eX1_row_7 : db cX1_row 7 (.if_icmp .le) 10 12 := ⟨5, by decide +kernel, rfl, by decide⟩
theorem eX1_row_10 : dk cX1_row 10 (.iconst (-1)) 1 11 := ⟨by decide +kernel, rfl⟩
theorem eX1_row_11 : dk cX1_row 11 (.ireturn) 1 12 := ⟨by decide +kernel, rfl⟩
theorem eX1_row_12 : dk cX1_row 12 (.iconst 0) 1 13 := ⟨by decide +kernel, rfl⟩
theorem eX1_row_13 : dk cX1_row 13 (.istore_n 2) 1 14 := ⟨by decide +kernel, rfl⟩
theorem eX1_row_14 : dk cX1_row 14 (.iconst 0) 1 15 := ⟨by decide +kernel, rfl⟩
theorem eX1_row_15 : dk cX1_row 15 (.istore_n 3) 1 16 := ⟨by decide +kernel, rfl⟩
theorem eX1_row_16 : dk cX1_row 16 (.iload_n 3) 1 17 := ⟨by decide +kernel, rfl⟩
theorem eX1_row_17 : dk cX1_row 17 (.bipush 24) 2 19 := ⟨by decide +kernel, rfl⟩
theorem eX1_row_19 : db cX1_row 19 (.if_icmp .ge) 22 48 := ⟨29, by decide +kernel, rfl, by decide⟩
theorem eX1_row_22 : dk cX1_row 22 (.aload_n 0) 1 23 := ⟨by decide +kernel, rfl⟩
theorem eX1_row_23 : dk cX1_row 23 (.getfield 7) 3 26 := ⟨by decide +kernel, rfl⟩
theorem eX1_row_26 : dk cX1_row 26 (.bipush 24) 2 28 := ⟨by decide +kernel, rfl⟩
theorem eX1_row_28 : dk cX1_row 28 (.iload_n 1) 1 29 := ⟨by decide +kernel, rfl⟩
theorem eX1_row_29 : dk cX1_row 29 (.imul) 1 30 := ⟨by decide +kernel, rfl⟩
theorem eX1_row_30 : dk cX1_row 30 (.iload_n 3) 1 31 := ⟨by decide +kernel, rfl⟩
theorem eX1_row_31 : dk cX1_row 31 (.iadd) 1 32 := ⟨by decide +kernel, rfl⟩
theorem eX1_row_32 : dk cX1_row 32 (.baload) 1 33 := ⟨by decide +kernel, rfl⟩
theorem eX1_row_33 : db cX1_row 33 (.ifCond .eq) 36 42 := ⟨9, by decide +kernel, rfl, by decide⟩
theorem eX1_row_36 : dk cX1_row 36 (.iload_n 2) 1 37 := ⟨by decide +kernel, rfl⟩
theorem eX1_row_37 : dk cX1_row 37 (.iconst 1) 1 38 := ⟨by decide +kernel, rfl⟩
theorem eX1_row_38 : dk cX1_row 38 (.iload_n 3) 1 39 := ⟨by decide +kernel, rfl⟩
theorem eX1_row_39 : dk cX1_row 39 (.ishl) 1 40 := ⟨by decide +kernel, rfl⟩
theorem eX1_row_40 : dk cX1_row 40 (.ior) 1 41 := ⟨by decide +kernel, rfl⟩
theorem eX1_row_41 : dk cX1_row 41 (.istore_n 2) 1 42 := ⟨by decide +kernel, rfl⟩
theorem eX1_row_42 : dk cX1_row 42 (.iinc 3 1) 3 45 := ⟨by decide +kernel, rfl⟩
theorem eX1_row_45 : db cX1_row 45 (.goto) 48 16 := ⟨(-29), by decide +kernel, rfl, by decide⟩
theorem eX1_row_48 : dk cX1_row 48 (.iload_n 2) 1 49 := ⟨by decide +kernel, rfl⟩
theorem eX1_row_49 : dk cX1_row 49 (.ireturn) 1 50 := ⟨by decide +kernel, rfl⟩
theorem eX1_move_0 : dk cX1_move 0 (.iload_n 1) 1 1 := ⟨by decide +kernel, rfl⟩
theorem eX1_move_1 : dk cX1_move 1 (.bipush (-24)) 2 3 := ⟨by decide +kernel, rfl⟩
theorem eX1_move_3 : db cX1_move 3 (.if_icmp .lt) 6 24 := ⟨21, by decide +kernel, rfl, by decide⟩
theorem eX1_move_6 : dk cX1_move 6 (.iload_n 1) 1 7 := ⟨by decide +kernel, rfl⟩
theorem eX1_move_7 : dk cX1_move 7 (.bipush 24) 2 9 := ⟨by decide +kernel, rfl⟩
theorem eX1_move_9 : db cX1_move 9 (.if_icmp .gt) 12 24 := ⟨15, by decide +kernel, rfl, by decide⟩
theorem eX1_move_12 : dk cX1_move 12 (.iload_n 2) 1 13 := ⟨by decide +kernel, rfl⟩
theorem eX1_move_13 : dk cX1_move 13 (.bipush (-24)) 2 15 := ⟨by decide +kernel, rfl⟩
theorem eX1_move_15 : db cX1_move 15 (.if_icmp .lt) 18 24 := ⟨9, by decide +kernel, rfl, by decide⟩
theorem eX1_move_18 : dk cX1_move 18 (.iload_n 2) 1 19 := ⟨by decide +kernel, rfl⟩
theorem eX1_move_19 : dk cX1_move 19 (.bipush 24) 2 21 := ⟨by decide +kernel, rfl⟩
theorem eX1_move_21 : db cX1_move 21 (.if_icmp .le) 24 26 := ⟨5, by decide +kernel, rfl, by decide⟩
theorem eX1_move_24 : dk cX1_move 24 (.iconst (-1)) 1 25 := ⟨by decide +kernel, rfl⟩
theorem eX1_move_25 : dk cX1_move 25 (.ireturn) 1 26 := ⟨by decide +kernel, rfl⟩
theorem eX1_move_26 : dk cX1_move 26 (.aload_n 0) 1 27 := ⟨by decide +kernel, rfl⟩
theorem eX1_move_27 : dk cX1_move 27 (.invokevirtual 62) 3 30 := ⟨by decide +kernel, rfl⟩
theorem eX1_move_30 : dk cX1_move 30 (.istore_n 3) 1 31 := ⟨by decide +kernel, rfl⟩
theorem eX1_move_31 : dk cX1_move 31 (.iconst 0) 1 32 := ⟨by decide +kernel, rfl⟩
theorem eX1_move_32 : dk cX1_move 32 (.istore 4) 2 34 := ⟨by decide +kernel, rfl⟩
theorem eX1_move_34 : dk cX1_move 34 (.iload 4) 2 36 := ⟨by decide +kernel, rfl⟩
theorem eX1_move_36 : dk cX1_move 36 (.sipush 576) 3 39 := ⟨by decide +kernel, rfl⟩
theorem eX1_move_39 : db cX1_move 39 (.if_icmp .ge) 42 62 := ⟨23, by decide +kernel, rfl, by decide⟩
theorem eX1_move_42 : dk cX1_move 42 (.aload_n 0) 1 43 := ⟨by decide +kernel, rfl⟩
theorem eX1_move_43 : dk cX1_move 43 (.getfield 13) 3 46 := ⟨by decide +kernel, rfl⟩
theorem eX1_move_46 : dk cX1_move 46 (.iload 4) 2 48 := ⟨by decide +kernel, rfl⟩
theorem eX1_move_48 : dk cX1_move 48 (.aload_n 0) 1 49 := ⟨by decide +kernel, rfl⟩
theorem eX1_move_49 : dk cX1_move 49 (.getfield 7) 3 52 := ⟨by decide +kernel, rfl⟩
theorem eX1_move_52 : dk cX1_move 52 (.iload 4) 2 54 := ⟨by decide +kernel, rfl⟩
theorem eX1_move_54 : dk cX1_move 54 (.baload) 1 55 := ⟨by decide +kernel, rfl⟩
theorem eX1_move_55 : dk cX1_move 55 (.bastore) 1 56 := ⟨by decide +kernel, rfl⟩
theorem eX1_move_56 : dk cX1_move 56 (.iinc 4 1) 3 59 := ⟨by decide +kernel, rfl⟩
theorem eX1_move_59 : db cX1_move 59 (.goto) 62 34 := ⟨(-25), by decide +kernel, rfl, by decide⟩
theorem eX1_move_62 : dk cX1_move 62 (.iconst 0) 1 63 := ⟨by decide +kernel, rfl⟩
theorem eX1_move_63 : dk cX1_move 63 (.istore 4) 2 65 := ⟨by decide +kernel, rfl⟩
theorem eX1_move_65 : dk cX1_move 65 (.iload 4) 2 67 := ⟨by decide +kernel, rfl⟩
theorem eX1_move_67 : dk cX1_move 67 (.sipush 576) 3 70 := ⟨by decide +kernel, rfl⟩
theorem eX1_move_70 : db cX1_move 70 (.if_icmp .ge) 73 161 := ⟨91, by decide +kernel, rfl, by decide⟩
theorem eX1_move_73 : dk cX1_move 73 (.iload 4) 2 75 := ⟨by decide +kernel, rfl⟩
theorem eX1_move_75 : dk cX1_move 75 (.bipush 24) 2 77 := ⟨by decide +kernel, rfl⟩
theorem eX1_move_77 : dk cX1_move 77 (.irem) 1 78 := ⟨by decide +kernel, rfl⟩
theorem eX1_move_78 : dk cX1_move 78 (.iload_n 1) 1 79 := ⟨by decide +kernel, rfl⟩
theorem eX1_move_79 : dk cX1_move 79 (.isub) 1 80 := ⟨by decide +kernel, rfl⟩
theorem eX1_move_80 : dk cX1_move 80 (.istore 5) 2 82 := ⟨by decide +kernel, rfl⟩
theorem eX1_move_82 : dk cX1_move 82 (.iload 4) 2 84 := ⟨by decide +kernel, rfl⟩
theorem eX1_move_84 : dk cX1_move 84 (.bipush 24) 2 86 := ⟨by decide +kernel, rfl⟩
theorem eX1_move_86 : dk cX1_move 86 (.idiv) 1 87 := ⟨by decide +kernel, rfl⟩
theorem eX1_move_87 : dk cX1_move 87 (.iload_n 2) 1 88 := ⟨by decide +kernel, rfl⟩
theorem eX1_move_88 : dk cX1_move 88 (.isub) 1 89 := ⟨by decide +kernel, rfl⟩
theorem eX1_move_89 : dk cX1_move 89 (.istore 6) 2 91 := ⟨by decide +kernel, rfl⟩
theorem eX1_move_91 : dk cX1_move 91 (.iload 5) 2 93 := ⟨by decide +kernel, rfl⟩
theorem eX1_move_93 : db cX1_move 93 (.ifCond .lt) 96 119 := ⟨26, by decide +kernel, rfl, by decide⟩
theorem eX1_move_96 : dk cX1_move 96 (.iload 5) 2 98 := ⟨by decide +kernel, rfl⟩
theorem eX1_move_98 : dk cX1_move 98 (.bipush 23) 2 100 := ⟨by decide +kernel, rfl⟩
theorem eX1_move_100 : db cX1_move 100 (.if_icmp .gt) 103 119 := ⟨19, by decide +kernel, rfl, by decide⟩
theorem eX1_move_103 : dk cX1_move 103 (.iload 6) 2 105 := ⟨by decide +kernel, rfl⟩
theorem eX1_move_105 : db cX1_move 105 (.ifCond .lt) 108 119 := ⟨14, by decide +kernel, rfl, by decide⟩
theorem eX1_move_108 : dk cX1_move 108 (.iload 6) 2 110 := ⟨by decide +kernel, rfl⟩
theorem eX1_move_110 : dk cX1_move 110 (.bipush 23) 2 112 := ⟨by decide +kernel, rfl⟩
theorem eX1_move_112 : db cX1_move 112 (.if_icmp .gt) 115 119 := ⟨7, by decide +kernel, rfl, by decide⟩
theorem eX1_move_115 : dk cX1_move 115 (.iconst 1) 1 116 := ⟨by decide +kernel, rfl⟩
theorem eX1_move_116 : db cX1_move 116 (.goto) 119 120 := ⟨4, by decide +kernel, rfl, by decide⟩
theorem eX1_move_119 : dk cX1_move 119 (.iconst 0) 1 120 := ⟨by decide +kernel, rfl⟩
theorem eX1_move_120 : dk cX1_move 120 (.istore 7) 2 122 := ⟨by decide +kernel, rfl⟩
theorem eX1_move_122 : dk cX1_move 122 (.aload_n 0) 1 123 := ⟨by decide +kernel, rfl⟩
theorem eX1_move_123 : dk cX1_move 123 (.getfield 7) 3 126 := ⟨by decide +kernel, rfl⟩
theorem eX1_move_126 : dk cX1_move 126 (.iload 4) 2 128 := ⟨by decide +kernel, rfl⟩
theorem eX1_move_128 : dk cX1_move 128 (.iload 7) 2 130 := ⟨by decide +kernel, rfl⟩
theorem eX1_move_130 : db cX1_move 130 (.ifCond .eq) 133 153 := ⟨23, by decide +kernel, rfl, by decide⟩
theorem eX1_move_133 : dk cX1_move 133 (.aload_n 0) 1 134 := ⟨by decide +kernel, rfl⟩
theorem eX1_move_134 : dk cX1_move 134 (.getfield 13) 3 137 := ⟨by decide +kernel, rfl⟩
theorem eX1_move_137 : dk cX1_move 137 (.bipush 24) 2 139 := ⟨by decide +kernel, rfl⟩
theorem eX1_move_139 : dk cX1_move 139 (.iload 6) 2 141 := ⟨by decide +kernel, rfl⟩
theorem eX1_move_141 : dk cX1_move 141 (.imul) 1 142 := ⟨by decide +kernel, rfl⟩
theorem eX1_move_142 : dk cX1_move 142 (.iload 5) 2 144 := ⟨by decide +kernel, rfl⟩
theorem eX1_move_144 : dk cX1_move 144 (.iadd) 1 145 := ⟨by decide +kernel, rfl⟩
theorem eX1_move_145 : dk cX1_move 145 (.baload) 1 146 := ⟨by decide +kernel, rfl⟩
theorem eX1_move_146 : db cX1_move 146 (.ifCond .eq) 149 153 := ⟨7, by decide +kernel, rfl, by decide⟩
theorem eX1_move_149 : dk cX1_move 149 (.iconst 1) 1 150 := ⟨by decide +kernel, rfl⟩
theorem eX1_move_150 : db cX1_move 150 (.goto) 153 154 := ⟨4, by decide +kernel, rfl, by decide⟩
theorem eX1_move_153 : dk cX1_move 153 (.iconst 0) 1 154 := ⟨by decide +kernel, rfl⟩
theorem eX1_move_154 : dk cX1_move 154 (.bastore) 1 155 := ⟨by decide +kernel, rfl⟩
theorem eX1_move_155 : dk cX1_move 155 (.iinc 4 1) 3 158 := ⟨by decide +kernel, rfl⟩
theorem eX1_move_158 : db cX1_move 158 (.goto) 161 65 := ⟨(-93), by decide +kernel, rfl, by decide⟩
theorem eX1_move_161 : dk cX1_move 161 (.iload_n 3) 1 162 := ⟨by decide +kernel, rfl⟩
theorem eX1_move_162 : dk cX1_move 162 (.aload_n 0) 1 163 := ⟨by decide +kernel, rfl⟩
theorem eX1_move_163 : dk cX1_move 163 (.invokevirtual 62) 3 166 := ⟨by decide +kernel, rfl⟩
theorem eX1_move_166 : dk cX1_move 166 (.isub) 1 167 := ⟨by decide +kernel, rfl⟩
theorem eX1_move_167 : dk cX1_move 167 (.ireturn) 1 168 := ⟨by decide +kernel, rfl⟩
end
section
set_option maxRecDepth 100000
theorem eL_law_0 : dk cL_law 0 (.new 7) 3 3 := ⟨by decide +kernel, rfl⟩
theorem eL_law_3 : dk cL_law 3 (.dup) 1 4 := ⟨by decide +kernel, rfl⟩
theorem eL_law_4 : dk cL_law 4 (.invokespecial 9) 3 7 := ⟨by decide +kernel, rfl⟩
theorem eL_law_7 : dk cL_law 7 (.astore_n 1) 1 8 := ⟨by decide +kernel, rfl⟩
theorem eL_law_8 : dk cL_law 8 (.new 10) 3 11 := ⟨by decide +kernel, rfl⟩
theorem eL_law_11 : dk cL_law 11 (.dup) 1 12 := ⟨by decide +kernel, rfl⟩
theorem eL_law_12 : dk cL_law 12 (.invokespecial 12) 3 15 := ⟨by decide +kernel, rfl⟩
theorem eL_law_15 : dk cL_law 15 (.astore_n 2) 1 16 := ⟨by decide +kernel, rfl⟩
theorem eL_law_16 : dk cL_law 16 (.iconst 0) 1 17 := ⟨by decide +kernel, rfl⟩
theorem eL_law_17 : dk cL_law 17 (.istore_n 3) 1 18 := ⟨by decide +kernel, rfl⟩
theorem eL_law_18 : dk cL_law 18 (.iload_n 3) 1 19 := ⟨by decide +kernel, rfl⟩
theorem eL_law_19 : dk cL_law 19 (.aload_n 0) 1 20 := ⟨by decide +kernel, rfl⟩
theorem eL_law_20 : dk cL_law 20 (.arraylength) 1 21 := ⟨by decide +kernel, rfl⟩
theorem eL_law_21 : dk cL_law 21 (.iconst 4) 1 22 := ⟨by decide +kernel, rfl⟩
theorem eL_law_22 : dk cL_law 22 (.isub) 1 23 := ⟨by decide +kernel, rfl⟩
theorem eL_law_23 : db cL_law 23 (.if_icmp .gt) 26 421 := ⟨398, by decide +kernel, rfl, by decide⟩
theorem eL_law_26 : dk cL_law 26 (.aload_n 0) 1 27 := ⟨by decide +kernel, rfl⟩
theorem eL_law_27 : dk cL_law 27 (.iload_n 3) 1 28 := ⟨by decide +kernel, rfl⟩
theorem eL_law_28 : dk cL_law 28 (.iaload) 1 29 := ⟨by decide +kernel, rfl⟩
theorem eL_law_29 : dk cL_law 29 (.bipush 15) 2 31 := ⟨by decide +kernel, rfl⟩
theorem eL_law_31 : dk cL_law 31 (.iand) 1 32 := ⟨by decide +kernel, rfl⟩
theorem eL_law_32 : dk cL_law 32 (.tableswitch 383 0 10 #[60, 83, 116, 149, 182, 225, 268, 291, 314, 327, 350]) 60 92 := ⟨by decide +kernel, rfl⟩
theorem eL_law_92 : dk cL_law 92 (.aload_n 1) 1 93 := ⟨by decide +kernel, rfl⟩
theorem eL_law_93 : dk cL_law 93 (.aload_n 0) 1 94 := ⟨by decide +kernel, rfl⟩
theorem eL_law_94 : dk cL_law 94 (.iload_n 3) 1 95 := ⟨by decide +kernel, rfl⟩
theorem eL_law_95 : dk cL_law 95 (.iconst 1) 1 96 := ⟨by decide +kernel, rfl⟩
theorem eL_law_96 : dk cL_law 96 (.iadd) 1 97 := ⟨by decide +kernel, rfl⟩
theorem eL_law_97 : dk cL_law 97 (.iaload) 1 98 := ⟨by decide +kernel, rfl⟩
theorem eL_law_98 : dk cL_law 98 (.invokevirtual 13) 3 101 := ⟨by decide +kernel, rfl⟩
theorem eL_law_101 : dk cL_law 101 (.aload_n 2) 1 102 := ⟨by decide +kernel, rfl⟩
theorem eL_law_102 : dk cL_law 102 (.aload_n 0) 1 103 := ⟨by decide +kernel, rfl⟩
theorem eL_law_103 : dk cL_law 103 (.iload_n 3) 1 104 := ⟨by decide +kernel, rfl⟩
theorem eL_law_104 : dk cL_law 104 (.iconst 1) 1 105 := ⟨by decide +kernel, rfl⟩
theorem eL_law_105 : dk cL_law 105 (.iadd) 1 106 := ⟨by decide +kernel, rfl⟩
theorem eL_law_106 : dk cL_law 106 (.iaload) 1 107 := ⟨by decide +kernel, rfl⟩
theorem eL_law_107 : dk cL_law 107 (.invokevirtual 17) 3 110 := ⟨by decide +kernel, rfl⟩
theorem eL_law_110 : db cL_law 110 (.if_icmp .eq) 113 415 := ⟨305, by decide +kernel, rfl, by decide⟩
theorem eL_law_113 : dk cL_law 113 (.iconst 0) 1 114 := ⟨by decide +kernel, rfl⟩
theorem eL_law_114 : dk cL_law 114 (.ireturn) 1 115 := ⟨by decide +kernel, rfl⟩
theorem eL_law_115 : dk cL_law 115 (.aload_n 1) 1 116 := ⟨by decide +kernel, rfl⟩
theorem eL_law_116 : dk cL_law 116 (.aload_n 0) 1 117 := ⟨by decide +kernel, rfl⟩
theorem eL_law_117 : dk cL_law 117 (.iload_n 3) 1 118 := ⟨by decide +kernel, rfl⟩
theorem eL_law_118 : dk cL_law 118 (.iconst 1) 1 119 := ⟨by decide +kernel, rfl⟩
theorem eL_law_119 : dk cL_law 119 (.iadd) 1 120 := ⟨by decide +kernel, rfl⟩
theorem eL_law_120 : dk cL_law 120 (.iaload) 1 121 := ⟨by decide +kernel, rfl⟩
theorem eL_law_121 : dk cL_law 121 (.aload_n 0) 1 122 := ⟨by decide +kernel, rfl⟩
theorem eL_law_122 : dk cL_law 122 (.iload_n 3) 1 123 := ⟨by decide +kernel, rfl⟩
theorem eL_law_123 : dk cL_law 123 (.iconst 2) 1 124 := ⟨by decide +kernel, rfl⟩
theorem eL_law_124 : dk cL_law 124 (.iadd) 1 125 := ⟨by decide +kernel, rfl⟩
theorem eL_law_125 : dk cL_law 125 (.iaload) 1 126 := ⟨by decide +kernel, rfl⟩
theorem eL_law_126 : dk cL_law 126 (.invokevirtual 18) 3 129 := ⟨by decide +kernel, rfl⟩
theorem eL_law_129 : dk cL_law 129 (.aload_n 2) 1 130 := ⟨by decide +kernel, rfl⟩
theorem eL_law_130 : dk cL_law 130 (.aload_n 0) 1 131 := ⟨by decide +kernel, rfl⟩
theorem eL_law_131 : dk cL_law 131 (.iload_n 3) 1 132 := ⟨by decide +kernel, rfl⟩
theorem eL_law_132 : dk cL_law 132 (.iconst 1) 1 133 := ⟨by decide +kernel, rfl⟩
theorem eL_law_133 : dk cL_law 133 (.iadd) 1 134 := ⟨by decide +kernel, rfl⟩
theorem eL_law_134 : dk cL_law 134 (.iaload) 1 135 := ⟨by decide +kernel, rfl⟩
theorem eL_law_135 : dk cL_law 135 (.aload_n 0) 1 136 := ⟨by decide +kernel, rfl⟩
theorem eL_law_136 : dk cL_law 136 (.iload_n 3) 1 137 := ⟨by decide +kernel, rfl⟩
theorem eL_law_137 : dk cL_law 137 (.iconst 2) 1 138 := ⟨by decide +kernel, rfl⟩
theorem eL_law_138 : dk cL_law 138 (.iadd) 1 139 := ⟨by decide +kernel, rfl⟩
theorem eL_law_139 : dk cL_law 139 (.iaload) 1 140 := ⟨by decide +kernel, rfl⟩
theorem eL_law_140 : dk cL_law 140 (.invokevirtual 22) 3 143 := ⟨by decide +kernel, rfl⟩
theorem eL_law_143 : db cL_law 143 (.if_icmp .eq) 146 415 := ⟨272, by decide +kernel, rfl, by decide⟩
theorem eL_law_146 : dk cL_law 146 (.iconst 0) 1 147 := ⟨by decide +kernel, rfl⟩
theorem eL_law_147 : dk cL_law 147 (.ireturn) 1 148 := ⟨by decide +kernel, rfl⟩
theorem eL_law_148 : dk cL_law 148 (.aload_n 1) 1 149 := ⟨by decide +kernel, rfl⟩
theorem eL_law_149 : dk cL_law 149 (.aload_n 0) 1 150 := ⟨by decide +kernel, rfl⟩
theorem eL_law_150 : dk cL_law 150 (.iload_n 3) 1 151 := ⟨by decide +kernel, rfl⟩
theorem eL_law_151 : dk cL_law 151 (.iconst 1) 1 152 := ⟨by decide +kernel, rfl⟩
theorem eL_law_152 : dk cL_law 152 (.iadd) 1 153 := ⟨by decide +kernel, rfl⟩
theorem eL_law_153 : dk cL_law 153 (.iaload) 1 154 := ⟨by decide +kernel, rfl⟩
theorem eL_law_154 : dk cL_law 154 (.aload_n 0) 1 155 := ⟨by decide +kernel, rfl⟩
theorem eL_law_155 : dk cL_law 155 (.iload_n 3) 1 156 := ⟨by decide +kernel, rfl⟩
theorem eL_law_156 : dk cL_law 156 (.iconst 2) 1 157 := ⟨by decide +kernel, rfl⟩
theorem eL_law_157 : dk cL_law 157 (.iadd) 1 158 := ⟨by decide +kernel, rfl⟩
theorem eL_law_158 : dk cL_law 158 (.iaload) 1 159 := ⟨by decide +kernel, rfl⟩
theorem eL_law_159 : dk cL_law 159 (.invokevirtual 23) 3 162 := ⟨by decide +kernel, rfl⟩
theorem eL_law_162 : dk cL_law 162 (.aload_n 2) 1 163 := ⟨by decide +kernel, rfl⟩
theorem eL_law_163 : dk cL_law 163 (.aload_n 0) 1 164 := ⟨by decide +kernel, rfl⟩
theorem eL_law_164 : dk cL_law 164 (.iload_n 3) 1 165 := ⟨by decide +kernel, rfl⟩
theorem eL_law_165 : dk cL_law 165 (.iconst 1) 1 166 := ⟨by decide +kernel, rfl⟩
theorem eL_law_166 : dk cL_law 166 (.iadd) 1 167 := ⟨by decide +kernel, rfl⟩
theorem eL_law_167 : dk cL_law 167 (.iaload) 1 168 := ⟨by decide +kernel, rfl⟩
theorem eL_law_168 : dk cL_law 168 (.aload_n 0) 1 169 := ⟨by decide +kernel, rfl⟩
theorem eL_law_169 : dk cL_law 169 (.iload_n 3) 1 170 := ⟨by decide +kernel, rfl⟩
theorem eL_law_170 : dk cL_law 170 (.iconst 2) 1 171 := ⟨by decide +kernel, rfl⟩
theorem eL_law_171 : dk cL_law 171 (.iadd) 1 172 := ⟨by decide +kernel, rfl⟩
theorem eL_law_172 : dk cL_law 172 (.iaload) 1 173 := ⟨by decide +kernel, rfl⟩
theorem eL_law_173 : dk cL_law 173 (.invokevirtual 26) 3 176 := ⟨by decide +kernel, rfl⟩
theorem eL_law_176 : db cL_law 176 (.if_icmp .eq) 179 415 := ⟨239, by decide +kernel, rfl, by decide⟩
theorem eL_law_179 : dk cL_law 179 (.iconst 0) 1 180 := ⟨by decide +kernel, rfl⟩
theorem eL_law_180 : dk cL_law 180 (.ireturn) 1 181 := ⟨by decide +kernel, rfl⟩
theorem eL_law_181 : dk cL_law 181 (.aload_n 1) 1 182 := ⟨by decide +kernel, rfl⟩
theorem eL_law_182 : dk cL_law 182 (.aload_n 0) 1 183 := ⟨by decide +kernel, rfl⟩
theorem eL_law_183 : dk cL_law 183 (.iload_n 3) 1 184 := ⟨by decide +kernel, rfl⟩
theorem eL_law_184 : dk cL_law 184 (.iconst 1) 1 185 := ⟨by decide +kernel, rfl⟩
theorem eL_law_185 : dk cL_law 185 (.iadd) 1 186 := ⟨by decide +kernel, rfl⟩
theorem eL_law_186 : dk cL_law 186 (.iaload) 1 187 := ⟨by decide +kernel, rfl⟩
theorem eL_law_187 : dk cL_law 187 (.aload_n 0) 1 188 := ⟨by decide +kernel, rfl⟩
theorem eL_law_188 : dk cL_law 188 (.iload_n 3) 1 189 := ⟨by decide +kernel, rfl⟩
theorem eL_law_189 : dk cL_law 189 (.iconst 2) 1 190 := ⟨by decide +kernel, rfl⟩
theorem eL_law_190 : dk cL_law 190 (.iadd) 1 191 := ⟨by decide +kernel, rfl⟩
theorem eL_law_191 : dk cL_law 191 (.iaload) 1 192 := ⟨by decide +kernel, rfl⟩
theorem eL_law_192 : dk cL_law 192 (.invokevirtual 27) 3 195 := ⟨by decide +kernel, rfl⟩
theorem eL_law_195 : dk cL_law 195 (.aload_n 2) 1 196 := ⟨by decide +kernel, rfl⟩
theorem eL_law_196 : dk cL_law 196 (.aload_n 0) 1 197 := ⟨by decide +kernel, rfl⟩
theorem eL_law_197 : dk cL_law 197 (.iload_n 3) 1 198 := ⟨by decide +kernel, rfl⟩
theorem eL_law_198 : dk cL_law 198 (.iconst 1) 1 199 := ⟨by decide +kernel, rfl⟩
theorem eL_law_199 : dk cL_law 199 (.iadd) 1 200 := ⟨by decide +kernel, rfl⟩
theorem eL_law_200 : dk cL_law 200 (.iaload) 1 201 := ⟨by decide +kernel, rfl⟩
theorem eL_law_201 : dk cL_law 201 (.aload_n 0) 1 202 := ⟨by decide +kernel, rfl⟩
theorem eL_law_202 : dk cL_law 202 (.iload_n 3) 1 203 := ⟨by decide +kernel, rfl⟩
theorem eL_law_203 : dk cL_law 203 (.iconst 2) 1 204 := ⟨by decide +kernel, rfl⟩
theorem eL_law_204 : dk cL_law 204 (.iadd) 1 205 := ⟨by decide +kernel, rfl⟩
theorem eL_law_205 : dk cL_law 205 (.iaload) 1 206 := ⟨by decide +kernel, rfl⟩
theorem eL_law_206 : dk cL_law 206 (.invokevirtual 30) 3 209 := ⟨by decide +kernel, rfl⟩
theorem eL_law_209 : db cL_law 209 (.if_icmp .eq) 212 415 := ⟨206, by decide +kernel, rfl, by decide⟩
theorem eL_law_212 : dk cL_law 212 (.iconst 0) 1 213 := ⟨by decide +kernel, rfl⟩
theorem eL_law_213 : dk cL_law 213 (.ireturn) 1 214 := ⟨by decide +kernel, rfl⟩
theorem eL_law_214 : dk cL_law 214 (.aload_n 1) 1 215 := ⟨by decide +kernel, rfl⟩
theorem eL_law_215 : dk cL_law 215 (.aload_n 0) 1 216 := ⟨by decide +kernel, rfl⟩
theorem eL_law_216 : dk cL_law 216 (.iload_n 3) 1 217 := ⟨by decide +kernel, rfl⟩
theorem eL_law_217 : dk cL_law 217 (.iconst 1) 1 218 := ⟨by decide +kernel, rfl⟩
theorem eL_law_218 : dk cL_law 218 (.iadd) 1 219 := ⟨by decide +kernel, rfl⟩
theorem eL_law_219 : dk cL_law 219 (.iaload) 1 220 := ⟨by decide +kernel, rfl⟩
theorem eL_law_220 : dk cL_law 220 (.aload_n 0) 1 221 := ⟨by decide +kernel, rfl⟩
theorem eL_law_221 : dk cL_law 221 (.iload_n 3) 1 222 := ⟨by decide +kernel, rfl⟩
theorem eL_law_222 : dk cL_law 222 (.iconst 2) 1 223 := ⟨by decide +kernel, rfl⟩
theorem eL_law_223 : dk cL_law 223 (.iadd) 1 224 := ⟨by decide +kernel, rfl⟩
theorem eL_law_224 : dk cL_law 224 (.iaload) 1 225 := ⟨by decide +kernel, rfl⟩
theorem eL_law_225 : dk cL_law 225 (.aload_n 0) 1 226 := ⟨by decide +kernel, rfl⟩
theorem eL_law_226 : dk cL_law 226 (.iload_n 3) 1 227 := ⟨by decide +kernel, rfl⟩
theorem eL_law_227 : dk cL_law 227 (.iconst 3) 1 228 := ⟨by decide +kernel, rfl⟩
theorem eL_law_228 : dk cL_law 228 (.iadd) 1 229 := ⟨by decide +kernel, rfl⟩
theorem eL_law_229 : dk cL_law 229 (.iaload) 1 230 := ⟨by decide +kernel, rfl⟩
theorem eL_law_230 : dk cL_law 230 (.invokevirtual 31) 3 233 := ⟨by decide +kernel, rfl⟩
theorem eL_law_233 : dk cL_law 233 (.aload_n 2) 1 234 := ⟨by decide +kernel, rfl⟩
theorem eL_law_234 : dk cL_law 234 (.aload_n 0) 1 235 := ⟨by decide +kernel, rfl⟩
theorem eL_law_235 : dk cL_law 235 (.iload_n 3) 1 236 := ⟨by decide +kernel, rfl⟩
theorem eL_law_236 : dk cL_law 236 (.iconst 1) 1 237 := ⟨by decide +kernel, rfl⟩
theorem eL_law_237 : dk cL_law 237 (.iadd) 1 238 := ⟨by decide +kernel, rfl⟩
theorem eL_law_238 : dk cL_law 238 (.iaload) 1 239 := ⟨by decide +kernel, rfl⟩
theorem eL_law_239 : dk cL_law 239 (.aload_n 0) 1 240 := ⟨by decide +kernel, rfl⟩
theorem eL_law_240 : dk cL_law 240 (.iload_n 3) 1 241 := ⟨by decide +kernel, rfl⟩
theorem eL_law_241 : dk cL_law 241 (.iconst 2) 1 242 := ⟨by decide +kernel, rfl⟩
theorem eL_law_242 : dk cL_law 242 (.iadd) 1 243 := ⟨by decide +kernel, rfl⟩
theorem eL_law_243 : dk cL_law 243 (.iaload) 1 244 := ⟨by decide +kernel, rfl⟩
theorem eL_law_244 : dk cL_law 244 (.aload_n 0) 1 245 := ⟨by decide +kernel, rfl⟩
theorem eL_law_245 : dk cL_law 245 (.iload_n 3) 1 246 := ⟨by decide +kernel, rfl⟩
theorem eL_law_246 : dk cL_law 246 (.iconst 3) 1 247 := ⟨by decide +kernel, rfl⟩
theorem eL_law_247 : dk cL_law 247 (.iadd) 1 248 := ⟨by decide +kernel, rfl⟩
theorem eL_law_248 : dk cL_law 248 (.iaload) 1 249 := ⟨by decide +kernel, rfl⟩
theorem eL_law_249 : dk cL_law 249 (.invokevirtual 35) 3 252 := ⟨by decide +kernel, rfl⟩
theorem eL_law_252 : db cL_law 252 (.if_icmp .eq) 255 415 := ⟨163, by decide +kernel, rfl, by decide⟩
theorem eL_law_255 : dk cL_law 255 (.iconst 0) 1 256 := ⟨by decide +kernel, rfl⟩
theorem eL_law_256 : dk cL_law 256 (.ireturn) 1 257 := ⟨by decide +kernel, rfl⟩
theorem eL_law_257 : dk cL_law 257 (.aload_n 1) 1 258 := ⟨by decide +kernel, rfl⟩
theorem eL_law_258 : dk cL_law 258 (.aload_n 0) 1 259 := ⟨by decide +kernel, rfl⟩
theorem eL_law_259 : dk cL_law 259 (.iload_n 3) 1 260 := ⟨by decide +kernel, rfl⟩
theorem eL_law_260 : dk cL_law 260 (.iconst 1) 1 261 := ⟨by decide +kernel, rfl⟩
theorem eL_law_261 : dk cL_law 261 (.iadd) 1 262 := ⟨by decide +kernel, rfl⟩
theorem eL_law_262 : dk cL_law 262 (.iaload) 1 263 := ⟨by decide +kernel, rfl⟩
theorem eL_law_263 : dk cL_law 263 (.aload_n 0) 1 264 := ⟨by decide +kernel, rfl⟩
theorem eL_law_264 : dk cL_law 264 (.iload_n 3) 1 265 := ⟨by decide +kernel, rfl⟩
theorem eL_law_265 : dk cL_law 265 (.iconst 2) 1 266 := ⟨by decide +kernel, rfl⟩
theorem eL_law_266 : dk cL_law 266 (.iadd) 1 267 := ⟨by decide +kernel, rfl⟩
theorem eL_law_267 : dk cL_law 267 (.iaload) 1 268 := ⟨by decide +kernel, rfl⟩
theorem eL_law_268 : dk cL_law 268 (.aload_n 0) 1 269 := ⟨by decide +kernel, rfl⟩
theorem eL_law_269 : dk cL_law 269 (.iload_n 3) 1 270 := ⟨by decide +kernel, rfl⟩
theorem eL_law_270 : dk cL_law 270 (.iconst 3) 1 271 := ⟨by decide +kernel, rfl⟩
theorem eL_law_271 : dk cL_law 271 (.iadd) 1 272 := ⟨by decide +kernel, rfl⟩
theorem eL_law_272 : dk cL_law 272 (.iaload) 1 273 := ⟨by decide +kernel, rfl⟩
theorem eL_law_273 : dk cL_law 273 (.invokevirtual 36) 3 276 := ⟨by decide +kernel, rfl⟩
theorem eL_law_276 : dk cL_law 276 (.aload_n 2) 1 277 := ⟨by decide +kernel, rfl⟩
theorem eL_law_277 : dk cL_law 277 (.aload_n 0) 1 278 := ⟨by decide +kernel, rfl⟩
theorem eL_law_278 : dk cL_law 278 (.iload_n 3) 1 279 := ⟨by decide +kernel, rfl⟩
theorem eL_law_279 : dk cL_law 279 (.iconst 1) 1 280 := ⟨by decide +kernel, rfl⟩
theorem eL_law_280 : dk cL_law 280 (.iadd) 1 281 := ⟨by decide +kernel, rfl⟩
theorem eL_law_281 : dk cL_law 281 (.iaload) 1 282 := ⟨by decide +kernel, rfl⟩
theorem eL_law_282 : dk cL_law 282 (.aload_n 0) 1 283 := ⟨by decide +kernel, rfl⟩
theorem eL_law_283 : dk cL_law 283 (.iload_n 3) 1 284 := ⟨by decide +kernel, rfl⟩
theorem eL_law_284 : dk cL_law 284 (.iconst 2) 1 285 := ⟨by decide +kernel, rfl⟩
theorem eL_law_285 : dk cL_law 285 (.iadd) 1 286 := ⟨by decide +kernel, rfl⟩
theorem eL_law_286 : dk cL_law 286 (.iaload) 1 287 := ⟨by decide +kernel, rfl⟩
theorem eL_law_287 : dk cL_law 287 (.aload_n 0) 1 288 := ⟨by decide +kernel, rfl⟩
theorem eL_law_288 : dk cL_law 288 (.iload_n 3) 1 289 := ⟨by decide +kernel, rfl⟩
theorem eL_law_289 : dk cL_law 289 (.iconst 3) 1 290 := ⟨by decide +kernel, rfl⟩
theorem eL_law_290 : dk cL_law 290 (.iadd) 1 291 := ⟨by decide +kernel, rfl⟩
theorem eL_law_291 : dk cL_law 291 (.iaload) 1 292 := ⟨by decide +kernel, rfl⟩
theorem eL_law_292 : dk cL_law 292 (.invokevirtual 39) 3 295 := ⟨by decide +kernel, rfl⟩
theorem eL_law_295 : db cL_law 295 (.if_icmp .eq) 298 415 := ⟨120, by decide +kernel, rfl, by decide⟩
theorem eL_law_298 : dk cL_law 298 (.iconst 0) 1 299 := ⟨by decide +kernel, rfl⟩
theorem eL_law_299 : dk cL_law 299 (.ireturn) 1 300 := ⟨by decide +kernel, rfl⟩
theorem eL_law_300 : dk cL_law 300 (.aload_n 1) 1 301 := ⟨by decide +kernel, rfl⟩
theorem eL_law_301 : dk cL_law 301 (.aload_n 0) 1 302 := ⟨by decide +kernel, rfl⟩
theorem eL_law_302 : dk cL_law 302 (.iload_n 3) 1 303 := ⟨by decide +kernel, rfl⟩
theorem eL_law_303 : dk cL_law 303 (.iconst 1) 1 304 := ⟨by decide +kernel, rfl⟩
theorem eL_law_304 : dk cL_law 304 (.iadd) 1 305 := ⟨by decide +kernel, rfl⟩
theorem eL_law_305 : dk cL_law 305 (.iaload) 1 306 := ⟨by decide +kernel, rfl⟩
theorem eL_law_306 : dk cL_law 306 (.invokevirtual 40) 3 309 := ⟨by decide +kernel, rfl⟩
theorem eL_law_309 : dk cL_law 309 (.aload_n 2) 1 310 := ⟨by decide +kernel, rfl⟩
theorem eL_law_310 : dk cL_law 310 (.aload_n 0) 1 311 := ⟨by decide +kernel, rfl⟩
theorem eL_law_311 : dk cL_law 311 (.iload_n 3) 1 312 := ⟨by decide +kernel, rfl⟩
theorem eL_law_312 : dk cL_law 312 (.iconst 1) 1 313 := ⟨by decide +kernel, rfl⟩
theorem eL_law_313 : dk cL_law 313 (.iadd) 1 314 := ⟨by decide +kernel, rfl⟩
theorem eL_law_314 : dk cL_law 314 (.iaload) 1 315 := ⟨by decide +kernel, rfl⟩
theorem eL_law_315 : dk cL_law 315 (.invokevirtual 44) 3 318 := ⟨by decide +kernel, rfl⟩
theorem eL_law_318 : db cL_law 318 (.if_icmp .eq) 321 415 := ⟨97, by decide +kernel, rfl, by decide⟩
theorem eL_law_321 : dk cL_law 321 (.iconst 0) 1 322 := ⟨by decide +kernel, rfl⟩
theorem eL_law_322 : dk cL_law 322 (.ireturn) 1 323 := ⟨by decide +kernel, rfl⟩
theorem eL_law_323 : dk cL_law 323 (.aload_n 1) 1 324 := ⟨by decide +kernel, rfl⟩
theorem eL_law_324 : dk cL_law 324 (.aload_n 0) 1 325 := ⟨by decide +kernel, rfl⟩
theorem eL_law_325 : dk cL_law 325 (.iload_n 3) 1 326 := ⟨by decide +kernel, rfl⟩
theorem eL_law_326 : dk cL_law 326 (.iconst 1) 1 327 := ⟨by decide +kernel, rfl⟩
theorem eL_law_327 : dk cL_law 327 (.iadd) 1 328 := ⟨by decide +kernel, rfl⟩
theorem eL_law_328 : dk cL_law 328 (.iaload) 1 329 := ⟨by decide +kernel, rfl⟩
theorem eL_law_329 : dk cL_law 329 (.invokevirtual 45) 3 332 := ⟨by decide +kernel, rfl⟩
theorem eL_law_332 : dk cL_law 332 (.aload_n 2) 1 333 := ⟨by decide +kernel, rfl⟩
theorem eL_law_333 : dk cL_law 333 (.aload_n 0) 1 334 := ⟨by decide +kernel, rfl⟩
theorem eL_law_334 : dk cL_law 334 (.iload_n 3) 1 335 := ⟨by decide +kernel, rfl⟩
theorem eL_law_335 : dk cL_law 335 (.iconst 1) 1 336 := ⟨by decide +kernel, rfl⟩
theorem eL_law_336 : dk cL_law 336 (.iadd) 1 337 := ⟨by decide +kernel, rfl⟩
theorem eL_law_337 : dk cL_law 337 (.iaload) 1 338 := ⟨by decide +kernel, rfl⟩
theorem eL_law_338 : dk cL_law 338 (.invokevirtual 48) 3 341 := ⟨by decide +kernel, rfl⟩
theorem eL_law_341 : db cL_law 341 (.if_icmp .eq) 344 415 := ⟨74, by decide +kernel, rfl, by decide⟩
theorem eL_law_344 : dk cL_law 344 (.iconst 0) 1 345 := ⟨by decide +kernel, rfl⟩
theorem eL_law_345 : dk cL_law 345 (.ireturn) 1 346 := ⟨by decide +kernel, rfl⟩
theorem eL_law_346 : dk cL_law 346 (.aload_n 1) 1 347 := ⟨by decide +kernel, rfl⟩
theorem eL_law_347 : dk cL_law 347 (.invokevirtual 49) 3 350 := ⟨by decide +kernel, rfl⟩
theorem eL_law_350 : dk cL_law 350 (.aload_n 2) 1 351 := ⟨by decide +kernel, rfl⟩
theorem eL_law_351 : dk cL_law 351 (.invokevirtual 53) 3 354 := ⟨by decide +kernel, rfl⟩
theorem eL_law_354 : db cL_law 354 (.if_icmp .eq) 357 415 := ⟨61, by decide +kernel, rfl, by decide⟩
theorem eL_law_357 : dk cL_law 357 (.iconst 0) 1 358 := ⟨by decide +kernel, rfl⟩
theorem eL_law_358 : dk cL_law 358 (.ireturn) 1 359 := ⟨by decide +kernel, rfl⟩
theorem eL_law_359 : dk cL_law 359 (.aload_n 1) 1 360 := ⟨by decide +kernel, rfl⟩
theorem eL_law_360 : dk cL_law 360 (.aload_n 0) 1 361 := ⟨by decide +kernel, rfl⟩
theorem eL_law_361 : dk cL_law 361 (.iload_n 3) 1 362 := ⟨by decide +kernel, rfl⟩
theorem eL_law_362 : dk cL_law 362 (.iconst 1) 1 363 := ⟨by decide +kernel, rfl⟩
theorem eL_law_363 : dk cL_law 363 (.iadd) 1 364 := ⟨by decide +kernel, rfl⟩
theorem eL_law_364 : dk cL_law 364 (.iaload) 1 365 := ⟨by decide +kernel, rfl⟩
theorem eL_law_365 : dk cL_law 365 (.invokevirtual 54) 3 368 := ⟨by decide +kernel, rfl⟩
theorem eL_law_368 : dk cL_law 368 (.aload_n 2) 1 369 := ⟨by decide +kernel, rfl⟩
theorem eL_law_369 : dk cL_law 369 (.aload_n 0) 1 370 := ⟨by decide +kernel, rfl⟩
theorem eL_law_370 : dk cL_law 370 (.iload_n 3) 1 371 := ⟨by decide +kernel, rfl⟩
theorem eL_law_371 : dk cL_law 371 (.iconst 1) 1 372 := ⟨by decide +kernel, rfl⟩
theorem eL_law_372 : dk cL_law 372 (.iadd) 1 373 := ⟨by decide +kernel, rfl⟩
theorem eL_law_373 : dk cL_law 373 (.iaload) 1 374 := ⟨by decide +kernel, rfl⟩
theorem eL_law_374 : dk cL_law 374 (.invokevirtual 57) 3 377 := ⟨by decide +kernel, rfl⟩
theorem eL_law_377 : db cL_law 377 (.if_icmp .eq) 380 415 := ⟨38, by decide +kernel, rfl, by decide⟩
theorem eL_law_380 : dk cL_law 380 (.iconst 0) 1 381 := ⟨by decide +kernel, rfl⟩
theorem eL_law_381 : dk cL_law 381 (.ireturn) 1 382 := ⟨by decide +kernel, rfl⟩
theorem eL_law_382 : dk cL_law 382 (.aload_n 1) 1 383 := ⟨by decide +kernel, rfl⟩
theorem eL_law_383 : dk cL_law 383 (.aload_n 0) 1 384 := ⟨by decide +kernel, rfl⟩
theorem eL_law_384 : dk cL_law 384 (.iload_n 3) 1 385 := ⟨by decide +kernel, rfl⟩
theorem eL_law_385 : dk cL_law 385 (.iconst 1) 1 386 := ⟨by decide +kernel, rfl⟩
theorem eL_law_386 : dk cL_law 386 (.iadd) 1 387 := ⟨by decide +kernel, rfl⟩
theorem eL_law_387 : dk cL_law 387 (.iaload) 1 388 := ⟨by decide +kernel, rfl⟩
theorem eL_law_388 : dk cL_law 388 (.aload_n 0) 1 389 := ⟨by decide +kernel, rfl⟩
theorem eL_law_389 : dk cL_law 389 (.iload_n 3) 1 390 := ⟨by decide +kernel, rfl⟩
theorem eL_law_390 : dk cL_law 390 (.iconst 2) 1 391 := ⟨by decide +kernel, rfl⟩
theorem eL_law_391 : dk cL_law 391 (.iadd) 1 392 := ⟨by decide +kernel, rfl⟩
theorem eL_law_392 : dk cL_law 392 (.iaload) 1 393 := ⟨by decide +kernel, rfl⟩
theorem eL_law_393 : dk cL_law 393 (.invokevirtual 58) 3 396 := ⟨by decide +kernel, rfl⟩
theorem eL_law_396 : dk cL_law 396 (.aload_n 2) 1 397 := ⟨by decide +kernel, rfl⟩
theorem eL_law_397 : dk cL_law 397 (.aload_n 0) 1 398 := ⟨by decide +kernel, rfl⟩
theorem eL_law_398 : dk cL_law 398 (.iload_n 3) 1 399 := ⟨by decide +kernel, rfl⟩
theorem eL_law_399 : dk cL_law 399 (.iconst 1) 1 400 := ⟨by decide +kernel, rfl⟩
theorem eL_law_400 : dk cL_law 400 (.iadd) 1 401 := ⟨by decide +kernel, rfl⟩
theorem eL_law_401 : dk cL_law 401 (.iaload) 1 402 := ⟨by decide +kernel, rfl⟩
theorem eL_law_402 : dk cL_law 402 (.aload_n 0) 1 403 := ⟨by decide +kernel, rfl⟩
theorem eL_law_403 : dk cL_law 403 (.iload_n 3) 1 404 := ⟨by decide +kernel, rfl⟩
theorem eL_law_404 : dk cL_law 404 (.iconst 2) 1 405 := ⟨by decide +kernel, rfl⟩
theorem eL_law_405 : dk cL_law 405 (.iadd) 1 406 := ⟨by decide +kernel, rfl⟩
theorem eL_law_406 : dk cL_law 406 (.iaload) 1 407 := ⟨by decide +kernel, rfl⟩
theorem eL_law_407 : dk cL_law 407 (.invokevirtual 61) 3 410 := ⟨by decide +kernel, rfl⟩
theorem eL_law_410 : db cL_law 410 (.if_icmp .eq) 413 415 := ⟨5, by decide +kernel, rfl, by decide⟩
theorem eL_law_413 : dk cL_law 413 (.iconst 0) 1 414 := ⟨by decide +kernel, rfl⟩
theorem eL_law_414 : dk cL_law 414 (.ireturn) 1 415 := ⟨by decide +kernel, rfl⟩
theorem eL_law_415 : dk cL_law 415 (.iinc 3 4) 3 418 := ⟨by decide +kernel, rfl⟩
theorem eL_law_418 : db cL_law 418 (.goto) 421 18 := ⟨(-400), by decide +kernel, rfl, by decide⟩
theorem eL_law_421 : dk cL_law 421 (.iconst 1) 1 422 := ⟨by decide +kernel, rfl⟩
theorem eL_law_422 : dk cL_law 422 (.ireturn) 1 423 := ⟨by decide +kernel, rfl⟩
end
section
/-! numbers: iI z, the int of z; bI f, the int whose bits are f -/
def bt (x : Int32) (i : Nat) : Bool := x.toBitVec.getLsbD i
theorem b_ext {x y : Int32} (h : ∀ i, i < 32 → bt x i = bt y i) : x = y := Int32.toBitVec_inj.mp (BitVec.eq_of_getLsbD_eq (fun i hi => h i hi))
theorem b_or (x y : Int32) (i : Nat) : bt (x ||| y) i = (bt x i || bt y i) := by unfold bt; rw [Int32.toBitVec_or, BitVec.getLsbD_or]
theorem b_and (x y : Int32) (i : Nat) : bt (x &&& y) i = (bt x i && bt y i) := by unfold bt; rw [Int32.toBitVec_and, BitVec.getLsbD_and]
theorem b_xor (x y : Int32) (i : Nat) : bt (x ^^^ y) i = (bt x i ^^ bt y i) := by unfold bt; rw [Int32.toBitVec_xor, BitVec.getLsbD_xor]
theorem b_m1 : ∀ i, i < 32 → bt (-1) i = true := by decide +kernel
theorem b_0 (i : Nat) : bt 0 i = false := BitVec.getLsbD_zero
theorem s_l : ∀ n, n < 32 → ((nI n &&& 31).toBitVec.smod 32).toNat = n := by decide +kernel
theorem b_shl (n : Nat) (hn : n < 32) (x : Int32) {i : Nat} (hi : i < 32) : bt (x <<< (nI n &&& 31)) i = (decide (n ≤ i) && bt x (i - n)) := by
  unfold bt
  rw [Int32.toBitVec_shiftLeft]
  show (x.toBitVec <<< ((nI n &&& 31).toBitVec.smod 32).toNat).getLsbD i = _
  rw [s_l n hn, BitVec.getLsbD_shiftLeft]
  rcases Nat.lt_or_ge i n with h | h
  · simp [h, Nat.not_le.mpr h]
  · simp [hi, h, Nat.not_lt.mpr h]
theorem b_sshr (n : Nat) (hn : n < 32) (x : Int32) {i : Nat} (hi : i < 32) : bt (x >>> (nI n &&& 31)) i = if n + i < 32 then bt x (n + i) else bt x 31 := by
  unfold bt
  rw [Int32.toBitVec_shiftRight]
  show (x.toBitVec.sshiftRight ((nI n &&& 31).toBitVec.smod 32).toNat).getLsbD i = _
  rw [s_l n hn, BitVec.getLsbD_sshiftRight, BitVec.msb_eq_getLsbD_last]
  simp [hi]
def iI (z : Int) : Int32 := Int32.ofInt z
theorem iI_n (n : Nat) : iI (n : Int) = nI n := Int32.ofInt_eq_ofNat
theorem iI_add (a b : Int) : iI a + iI b = iI (a + b) := (Int32.ofInt_add a b).symm
theorem iI_sub (a b : Int) : iI a - iI b = iI (a - b) := (Int32.ofInt_sub a b).symm
theorem iI_mul (a b : Int) : iI a * iI b = iI (a * b) := (Int32.ofInt_mul a b).symm
theorem iI_neg (a : Int) : -iI a = iI (-a) := (Int32.ofInt_neg a).symm
theorem iI_to {z : Int} (h1 : -2147483648 ≤ z) (h2 : z < 2147483648) : (iI z).toInt = z := Int32.toInt_ofInt_of_le (by simpa using h1) (by simpa using h2)
theorem iI_of (x : Int32) : x = iI x.toInt := (Int32.ofInt_toInt x).symm
theorem iI_lo (x : Int32) : -2147483648 ≤ x.toInt := by simpa using Int32.le_toInt x
theorem iI_hi (x : Int32) : x.toInt < 2147483648 := by simpa using Int32.toInt_lt x
theorem iI_ex (x : Int32) : ∃ z : Int, x = iI z ∧ -2147483648 ≤ z ∧ z < 2147483648 := ⟨x.toInt, iI_of x, iI_lo x, iI_hi x⟩
theorem iI_lt {a b : Int} (ha : -2147483648 ≤ a ∧ a < 2147483648) (hb : -2147483648 ≤ b ∧ b < 2147483648) : iI a < iI b ↔ a < b := by
  rw [Int32.lt_iff_toInt_lt, iI_to ha.1 ha.2, iI_to hb.1 hb.2]
theorem iI_le {a b : Int} (ha : -2147483648 ≤ a ∧ a < 2147483648) (hb : -2147483648 ≤ b ∧ b < 2147483648) : iI a ≤ iI b ↔ a ≤ b := by
  rw [Int32.le_iff_toInt_le, iI_to ha.1 ha.2, iI_to hb.1 hb.2]
theorem iI_eq {a b : Int} (ha : -2147483648 ≤ a ∧ a < 2147483648) (hb : -2147483648 ≤ b ∧ b < 2147483648) : iI a = iI b ↔ a = b := by
  rw [← Int32.toInt_inj, iI_to ha.1 ha.2, iI_to hb.1 hb.2]
theorem iI_div {a b : Int} (h1 : 0 ≤ a) (h2 : a < 2147483648) (h3 : 0 < b) (h4 : b < 2147483648) : iI a / iI b = iI (a / b) := by
  obtain ⟨n, rfl⟩ := Int.eq_ofNat_of_zero_le h1
  obtain ⟨d, rfl⟩ := Int.eq_ofNat_of_zero_le (Int.le_of_lt h3)
  rw [iI_n, iI_n, pk_div (by omega) (by omega) (by omega), ← iI_n, Int.natCast_ediv]
theorem iI_rem {a b : Int} (h1 : 0 ≤ a) (h2 : a < 2147483648) (h3 : 0 < b) (h4 : b < 2147483648) : iI a - iI a / iI b * iI b = iI (a % b) := by
  obtain ⟨n, rfl⟩ := Int.eq_ofNat_of_zero_le h1
  obtain ⟨d, rfl⟩ := Int.eq_ofNat_of_zero_le (Int.le_of_lt h3)
  rw [iI_n, iI_n, pk_rem (by omega) (by omega) (by omega), ← iI_n, Int.natCast_emod]
theorem iI_tn (z : Int) : (iI z).toBitVec.toNat = (z % 4294967296).toNat := by
  show (BitVec.ofInt 32 z).toNat = _
  rw [BitVec.toNat_ofInt]
  rfl
theorem iI_and31 (z : Int) : iI z &&& iI 31 = iI (z % 32) := by
  rw [pk_and (iI z) (m := iI 31) 5 (by decide), ← iI_n, iI_tn]
  congr 1
  omega
theorem iI_shr5 {z : Int} (h1 : -2147483648 ≤ z) (h2 : z < 2147483648) : iI z >>> (iI 5 &&& 31) = iI (z / 32) := by
  rw [← Int32.toInt_inj, pk_shr (iI z) _ 5 (by decide), iI_to h1 h2, iI_to (by omega) (by omega), Int.shiftRight_eq_div_pow]
  rfl
def bN (f : Nat → Bool) : Nat → Nat
  | 0 => 0
  | n + 1 => bN f n ||| (if f n then 2 ^ n else 0)
theorem bN_t (f : Nat → Bool) (n i : Nat) : (bN f n).testBit i = (decide (i < n) && f i) := by
  induction n with
  | zero => simp [bN]
  | succ n ih =>
    rw [bN, Nat.testBit_or, ih]
    rcases Nat.lt_trichotomy i n with h | h | h
    · have h2 : ¬ n = i := by omega
      cases hf : f n <;> simp [h, Nat.testBit_two_pow, h2, Nat.lt_succ_of_lt h]
    · subst h
      cases hf : f i <;> simp [Nat.testBit_two_pow]
    · have h2 : ¬ n = i := by omega
      have h3 : ¬ i < n := by omega
      have h4 : ¬ i < n + 1 := by omega
      cases hf : f n <;> simp [h3, h4, Nat.testBit_two_pow, h2]
def bI (f : Nat → Bool) : Int32 := Int32.ofBitVec (BitVec.ofNat 32 (bN f 32))
theorem bt_bI (f : Nat → Bool) {i : Nat} (h : i < 32) : bt (bI f) i = f i := by
  show (BitVec.ofNat 32 (bN f 32)).getLsbD i = f i
  rw [BitVec.getLsbD_ofNat, bN_t]
  simp [h]
theorem bI_ext {f g : Nat → Bool} (h : ∀ i, i < 32 → f i = g i) : bI f = bI g := b_ext fun i hi => by rw [bt_bI f hi, bt_bI g hi, h i hi]
theorem bI_bt (x : Int32) : x = bI (bt x) := b_ext fun i hi => by rw [bt_bI _ hi]
theorem bI_inj {f g : Nat → Bool} (h : bI f = bI g) {i : Nat} (hi : i < 32) : f i = g i := by rw [← bt_bI f hi, ← bt_bI g hi, h]
theorem bI_or (f g : Nat → Bool) : bI f ||| bI g = bI (fun i => f i || g i) := b_ext fun i hi => by rw [b_or, bt_bI f hi, bt_bI g hi, bt_bI _ hi]
theorem bI_and (f g : Nat → Bool) : bI f &&& bI g = bI (fun i => f i && g i) := b_ext fun i hi => by rw [b_and, bt_bI f hi, bt_bI g hi, bt_bI _ hi]
theorem bI_xor (f g : Nat → Bool) : bI f ^^^ bI g = bI (fun i => f i ^^ g i) := b_ext fun i hi => by rw [b_xor, bt_bI f hi, bt_bI g hi, bt_bI _ hi]
theorem bI_not (f : Nat → Bool) : bI f ^^^ iI (-1) = bI (fun i => !f i) := b_ext fun i hi => by
  rw [b_xor, bt_bI f hi, bt_bI _ hi, show iI (-1) = -1 from by decide, b_m1 i hi]
  cases f i <;> rfl
theorem bI_0 : bI (fun _ => false) = iI 0 := by decide +kernel
theorem bI_one : ∀ x : Nat, x < 32 → iI 1 <<< (iI (x : Int) &&& 31) = bI (fun i => decide (i = x)) := by decide +kernel
theorem bI_run : ∀ b : Nat, b < 24 → ∀ a : Nat, a < 24 → a ≤ b → (iI 1 <<< (iI ((b : Int) + 1) &&& 31)) - (iI 1 <<< (iI (a : Int) &&& 31)) = bI (fun i => decide (a ≤ i) && decide (i ≤ b)) := by decide +kernel
def zI (b : Bool) : Int := if b then 1 else 0
theorem zI_t : zI true = 1 := rfl
theorem zI_f : zI false = 0 := rfl
theorem zI_r (b : Bool) : 0 ≤ zI b ∧ zI b ≤ 1 := by cases b <;> decide
theorem zI_bits : ∀ b : Bool, iI (zI b) = bI (fun i => decide (i = 0) && b) := by decide +kernel
theorem bI_bit (f : Nat → Bool) {x : Nat} (hx : x < 32) : (bI f >>> (iI (x : Int) &&& 31)) &&& iI 1 = iI (zI (f x)) := by
  rw [zI_bits, iI_n]
  refine b_ext fun i hi => ?_
  rw [b_and, b_sshr x hx _ hi, bt_bI _ hi, show iI 1 = bI (fun i => decide (i = 0) && true) from zI_bits true, bt_bI _ hi]
  rcases Nat.eq_zero_or_pos i with h | h
  · subst h
    simp [hx, bt_bI f hx]
  · have h2 : ¬ i = 0 := by omega
    simp [h2]
theorem bI_shl (f : Nat → Bool) {n : Nat} (hn : n < 32) : bI f <<< (iI (n : Int) &&& 31) = bI (fun i => decide (n ≤ i) && f (i - n)) := by
  rw [iI_n]
  refine b_ext fun i hi => ?_
  rw [b_shl n hn _ hi, bt_bI _ hi, bt_bI f (by omega)]
theorem bI_shr (f : Nat → Bool) (hf : f 31 = false) {n : Nat} (hn : n < 32) : bI f >>> (iI (n : Int) &&& 31) = bI (fun i => decide (n + i < 32) && f (n + i)) := by
  rw [iI_n]
  refine b_ext fun i hi => ?_
  rw [b_sshr n hn _ hi, bt_bI _ hi]
  by_cases h : n + i < 32
  · simp [h, bt_bI f h]
  · simp [h, bt_bI f (show 31 < 32 by omega), hf]
theorem b_mask : ∀ i, i < 32 → bt 16777215 i = decide (i < 24) := by decide +kernel
theorem bI_mask (f : Nat → Bool) : bI f &&& 16777215 = bI (fun i => decide (i < 24) && f i) := b_ext fun i hi => by
  rw [b_and, bt_bI f hi, bt_bI _ hi, b_mask i hi, Bool.and_comm]
def cnt (f : Nat → Bool) : Nat → Nat
  | 0 => 0
  | n + 1 => cnt f n + (if f n then 1 else 0)
theorem cnt_ext {f g : Nat → Bool} {n : Nat} (h : ∀ i, i < n → f i = g i) : cnt f n = cnt g n := by
  induction n with
  | zero => rfl
  | succ n ih => rw [cnt, cnt, ih (fun i hi => h i (by omega)), h n (by omega)]
theorem cnt_le (f : Nat → Bool) (n : Nat) : cnt f n ≤ n := by
  induction n with
  | zero => exact Nat.le_refl 0
  | succ n ih => rw [cnt]; split <;> omega
theorem cnt_shift (f : Nat → Bool) (n : Nat) : cnt f (n + 1) = (if f 0 then 1 else 0) + cnt (fun i => f (i + 1)) n := by
  induction n with
  | zero => simp [cnt]
  | succ n ih => rw [cnt, ih, cnt]; omega
theorem cnt_low : ∀ (k n : Nat), n < 2 ^ k → n ≠ 0 → cnt (fun i => (n &&& (n - 1)).testBit i) k + 1 = cnt (fun i => n.testBit i) k := by
  intro k
  induction k with
  | zero => intro n h h0; simp at h; omega
  | succ k ih =>
    intro n h h0
    rw [cnt_shift, cnt_shift]
    have e : ∀ m : Nat, (fun i => m.testBit (i + 1)) = (fun i => (m / 2).testBit i) := fun m => by funext i; rw [Nat.testBit_succ]
    rw [e, e, Nat.and_div_two]
    rcases Nat.mod_two_eq_zero_or_one n with hp | hp
    · have h1 : (n - 1) / 2 = n / 2 - 1 := by omega
      have h2 : n / 2 < 2 ^ k := by rw [Nat.pow_succ] at h; omega
      have h3 := ih (n / 2) h2 (by omega)
      have h4 : (n &&& (n - 1)).testBit 0 = false := by rw [Nat.testBit_and]; simp [hp]
      have h5 : n.testBit 0 = false := by simp [hp]
      rw [h1, h4, h5]
      omega
    · have h1 : (n - 1) / 2 = n / 2 := by omega
      have h4 : (n &&& (n - 1)).testBit 0 = false := by
        rw [Nat.testBit_and]
        have : (n - 1) % 2 = 0 := by omega
        simp [this]
      have h5 : n.testBit 0 = true := by simp [hp]
      rw [h1, h4, h5, Nat.and_self]
      simp
      omega
/-- the bits of an int, counted -/
def cnb (x : Int32) : Nat := cnt (bt x) 32
theorem cnb_bI (f : Nat → Bool) : cnb (bI f) = cnt f 32 := cnt_ext fun i hi => bt_bI f hi
theorem bt_nat (x : Int32) (i : Nat) : bt x i = x.toBitVec.toNat.testBit i := rfl
theorem cnb_low {x : Int32} (h : ¬ x = iI 0) : cnb (x &&& (x - iI 1)) + 1 = cnb x := by
  have hn : x.toBitVec.toNat ≠ 0 := fun q => h (Int32.toBitVec_inj.mp (BitVec.eq_of_toNat_eq (by rw [q]; rfl)))
  have hx : x.toBitVec.toNat < 2 ^ 32 := x.toBitVec.isLt
  have e1 : (x - iI 1).toBitVec.toNat = x.toBitVec.toNat - 1 := by
    rw [Int32.toBitVec_sub, BitVec.toNat_sub]
    show (2 ^ 32 - 1 + x.toBitVec.toNat) % 2 ^ 32 = _
    omega
  have e2 : (x &&& (x - iI 1)).toBitVec.toNat = x.toBitVec.toNat &&& (x.toBitVec.toNat - 1) := by
    rw [Int32.toBitVec_and, BitVec.toNat_and, e1]
  have e3 := cnt_low 32 _ hx hn
  unfold cnb
  rw [show bt (x &&& (x - iI 1)) = fun i => (x.toBitVec.toNat &&& (x.toBitVec.toNat - 1)).testBit i from by funext i; rw [bt_nat, e2]]
  exact e3
theorem cnb_0 : cnb (iI 0) = 0 := by decide +kernel
end
section
/-! the judgement J, and a row an instruction -/
abbrev cls : List vw_C := [(RX0, TX0, 7), (RX1, TX1, 3)]
def jL (ls : Array Slot) (nL : Nat) (lv : List (Option Value)) : Prop := ls.size = nL ∧ lv_wf ls ∧ ∀ (i : Nat) (v : Value), lv[i]? = some (some v) → ls[i]? = some (.val v) ∧ v.category = 1
def jl (lv : List (Option Value)) : List (Nat × Value) := (List.range lv.length).filterMap (fun i => match lv[i]? with
  | some (some v) => some (i, v)
  | _ => none)
theorem mem_jl {lv : List (Option Value)} {j : Nat} {v : Value} : (j, v) ∈ jl lv ↔ lv[j]? = some (some v) := by
  unfold jl
  rw [List.mem_filterMap]
  constructor
  · rintro ⟨i, -, h⟩
    split at h
    · rename_i x hx
      cases h
      exact hx
    · cases h
  · intro h
    refine ⟨j, List.mem_range.mpr (List.getElem?_eq_some_iff.mp h).1, ?_⟩
    rw [h]
theorem jL.has {ls : Array Slot} {nL : Nat} {lv : List (Option Value)} (h : jL ls nL lv) : lv_has ls nL (jl lv) := ⟨h.1, h.2.1, fun q hq => (h.2.2 q.1 q.2 (mem_jl.mp hq)).1⟩
theorem jL.put {ls ls' : Array Slot} {nL i : Nat} {v : Value} {lv : List (Option Value)} (h : jL ls nL lv) (hc : v.category = 1) (h' : lv_has ls' nL ((i, v) :: (jl lv).filter (fun q => !(q.1 == i) && !(q.1 + 1 == i && q.2.category == 2)))) : jL ls' nL (lv.set i (some v)) := by
  refine ⟨h'.1, h'.2.1, fun j u hj => ?_⟩
  rw [List.getElem?_set] at hj
  by_cases e : i = j
  · rw [if_pos e] at hj
    split at hj
    · cases hj
      subst e
      exact ⟨h'.2.2 (i, v) List.mem_cons_self, hc⟩
    · cases hj
  · rw [if_neg e] at hj
    have h1 := h.2.2 j u hj
    refine ⟨h'.2.2 (j, u) (List.mem_cons_of_mem _ (List.mem_filter.mpr ⟨mem_jl.mpr hj, ?_⟩)), h1.2⟩
    have e2 : ¬ j = i := fun q => e q.symm
    simp [e2, h1.2]
abbrev jX : Type := (Program × Launch × Env × Room × State) × (MethodId × Array Value × List Frame × Method × Code) × (Nat × Nat × (State → Prop)) × (va_G × (Nat → Prop) × Nat)
def J (X : jX) (ws : va_W) (pc : Nat) (lv : List (Option Value)) (st : List Value) : Prop := match X with
  | ((p, l, e, R, s), (m, args, below, meth, c), (cells, slots, Q), (D, A, nL)) => ∀ (H : Heap) (locs : List Loc) (ls : Array Slot), va_P D cls ws H → va_D A ws → va_S A s.heap H locs → jL ls nL lv → W p l e R s m args below meth c H locs cells slots Q (F0 m pc ls st)
def jC (X : jX) (cc : ByteArray) (own : String) (n : Nat) (tys : List (ClassId × FieldType)) (fr lo : Nat) : Prop := match X with
  | ((p, l, e, R, s), (m, args, below, meth, c), (cells, slots, Q), (D, A, nL)) => p.tables.exec = Jvm.exec ∧ c.code = cc ∧ c.maxLocals = n ∧ nL = n ∧ s.vm.findClass own = some m.cls ∧ (∀ w ∈ lw_all, w.before args s = true) ∧ (∀ q, s.heap.size ≤ q → A q) ∧ va_K D cls tys s ∧ fr ≤ R.frames ∧ lo ≤ R.locals ∧ cells ≤ R.cells ∧ slots ≤ R.slots
section JR
variable {X : jX} {cc : ByteArray} {own : String} {n : Nat} {tys : List (ClassId × FieldType)} {fr lo : Nat} {ws : va_W} {pc q t : Nat} {lv : List (Option Value)} {st : List Value}
theorem j_val {x y : Int32} (h : x = y) (k : J X ws pc lv (.int y :: st)) : J X ws pc lv (.int x :: st) := h ▸ k
theorem j_wd {ws' : va_W} (h : ws = ws') (k : J X ws' pc lv st) : J X ws pc lv st := h ▸ k
theorem j_st {st' : List Value} (h : st = st') (k : J X ws pc lv st') : J X ws pc lv st := h ▸ k
theorem j_iconst (C : jC X cc own n tys fr lo) {v : Int} (d : dk cc pc (.iconst v) 1 q) (k : J X ws q lv (.int (iI v) :: st)) : J X ws pc lv st := by
  obtain ⟨⟨p, l, e, R, s⟩, ⟨m, args, below, meth, c⟩, ⟨cells, slots, Q⟩, D, A, nL⟩ := X
  obtain ⟨hx, hb, hml, hnL, hown, hts, hA, hK, hfr, hlo, hce, hsl⟩ := C
  obtain ⟨hd, rfl⟩ := d
  intro H locs ls hP hD hS hl
  exact lv_iconst hx hb hd rfl (k H locs ls hP hD hS hl)
theorem j_bipush (C : jC X cc own n tys fr lo) {v : Int} (d : dk cc pc (.bipush v) 2 q) (h : (Int8.ofInt v).toInt32 = iI v) (k : J X ws q lv (.int (iI v) :: st)) : J X ws pc lv st := by
  obtain ⟨⟨p, l, e, R, s⟩, ⟨m, args, below, meth, c⟩, ⟨cells, slots, Q⟩, D, A, nL⟩ := X
  obtain ⟨hx, hb, hml, hnL, hown, hts, hA, hK, hfr, hlo, hce, hsl⟩ := C
  obtain ⟨hd, rfl⟩ := d
  intro H locs ls hP hD hS hl
  exact lv_bipush hx hb hd h (k H locs ls hP hD hS hl)
theorem j_sipush (C : jC X cc own n tys fr lo) {v : Int} (d : dk cc pc (.sipush v) 3 q) (h : (Int16.ofInt v).toInt32 = iI v) (k : J X ws q lv (.int (iI v) :: st)) : J X ws pc lv st := by
  obtain ⟨⟨p, l, e, R, s⟩, ⟨m, args, below, meth, c⟩, ⟨cells, slots, Q⟩, D, A, nL⟩ := X
  obtain ⟨hx, hb, hml, hnL, hown, hts, hA, hK, hfr, hlo, hce, hsl⟩ := C
  obtain ⟨hd, rfl⟩ := d
  intro H locs ls hP hD hS hl
  exact lv_sipush hx hb hd h (k H locs ls hP hD hS hl)
theorem j_ldc (C : jC X cc own n tys fr lo) {i : Nat} {v : Int32} (d : dk cc pc (.ldc i) 2 q) (h : Cond.constant own i v ∈ lw_all) (k : J X ws q lv (.int v :: st)) : J X ws pc lv st := by
  obtain ⟨⟨p, l, e, R, s⟩, ⟨m, args, below, meth, c⟩, ⟨cells, slots, Q⟩, D, A, nL⟩ := X
  obtain ⟨hx, hb, hml, hnL, hown, hts, hA, hK, hfr, hlo, hce, hsl⟩ := C
  obtain ⟨hd, rfl⟩ := d
  intro H locs ls hP hD hS hl
  exact lv_ldc hx hb hown (hts _ h) hd (k H locs ls hP hD hS hl)
theorem j_iload_g (C : jC X cc own n tys fr lo) {i : Nat} {x : Int32} (hi : lv[i]? = some (some (.int x))) (d : dk cc pc (.iload i) 2 q) (k : J X ws q lv (.int x :: st)) : J X ws pc lv st := by
  obtain ⟨⟨p, l, e, R, s⟩, ⟨m, args, below, meth, c⟩, ⟨cells, slots, Q⟩, D, A, nL⟩ := X
  obtain ⟨hx, hb, hml, hnL, hown, hts, hA, hK, hfr, hlo, hce, hsl⟩ := C
  obtain ⟨hd, rfl⟩ := d
  intro H locs ls hP hD hS hl
  exact lv_iload hx hb hd (hl.2.2 i _ hi).1 (k H locs ls hP hD hS hl)
theorem j_iload_ng (C : jC X cc own n tys fr lo) {i : Fin 4} {x : Int32} (hi : lv[(i : Nat)]? = some (some (.int x))) (d : dk cc pc (.iload_n i) 1 q) (k : J X ws q lv (.int x :: st)) : J X ws pc lv st := by
  obtain ⟨⟨p, l, e, R, s⟩, ⟨m, args, below, meth, c⟩, ⟨cells, slots, Q⟩, D, A, nL⟩ := X
  obtain ⟨hx, hb, hml, hnL, hown, hts, hA, hK, hfr, hlo, hce, hsl⟩ := C
  obtain ⟨hd, rfl⟩ := d
  intro H locs ls hP hD hS hl
  exact lv_iload_n hx hb hd rfl (hl.2.2 _ _ hi).1 (k H locs ls hP hD hS hl)
theorem j_aload_ng (C : jC X cc own n tys fr lo) {i : Fin 4} {x : Nat} (hi : lv[(i : Nat)]? = some (some (.ref x))) (d : dk cc pc (.aload_n i) 1 q) (k : J X ws q lv (.ref x :: st)) : J X ws pc lv st := by
  obtain ⟨⟨p, l, e, R, s⟩, ⟨m, args, below, meth, c⟩, ⟨cells, slots, Q⟩, D, A, nL⟩ := X
  obtain ⟨hx, hb, hml, hnL, hown, hts, hA, hK, hfr, hlo, hce, hsl⟩ := C
  obtain ⟨hd, rfl⟩ := d
  intro H locs ls hP hD hS hl
  exact lv_aload_n hx hb hd rfl (hl.2.2 _ _ hi).1 (k H locs ls hP hD hS hl)
theorem j_istore_g (C : jC X cc own n tys fr lo) {i : Nat} {x : Int32} (d : dk cc pc (.istore i) 2 q) (hi : i < n) (k : J X ws q (lv.set i (some (.int x))) st) : J X ws pc lv (.int x :: st) := by
  obtain ⟨⟨p, l, e, R, s⟩, ⟨m, args, below, meth, c⟩, ⟨cells, slots, Q⟩, D, A, nL⟩ := X
  obtain ⟨hx, hb, hml, hnL, hown, hts, hA, hK, hfr, hlo, hce, hsl⟩ := C
  obtain ⟨hd, rfl⟩ := d
  intro H locs ls hP hD hS hl
  exact lv_istore hx hb hd hl.has (by omega) rfl (fun ls' h' => k H locs ls' hP hD hS (hl.put rfl h'))
theorem j_istore_ng (C : jC X cc own n tys fr lo) {i : Fin 4} {x : Int32} (d : dk cc pc (.istore_n i) 1 q) (hi : (i : Nat) < n) (k : J X ws q (lv.set i (some (.int x))) st) : J X ws pc lv (.int x :: st) := by
  obtain ⟨⟨p, l, e, R, s⟩, ⟨m, args, below, meth, c⟩, ⟨cells, slots, Q⟩, D, A, nL⟩ := X
  obtain ⟨hx, hb, hml, hnL, hown, hts, hA, hK, hfr, hlo, hce, hsl⟩ := C
  obtain ⟨hd, rfl⟩ := d
  intro H locs ls hP hD hS hl
  exact lv_istore_n hx hb hd rfl hl.has (by omega) rfl (fun ls' h' => k H locs ls' hP hD hS (hl.put rfl h'))
theorem j_astore_ng (C : jC X cc own n tys fr lo) {i : Fin 4} {x : Nat} (d : dk cc pc (.astore_n i) 1 q) (hi : (i : Nat) < n) (k : J X ws q (lv.set i (some (.ref x))) st) : J X ws pc lv (.ref x :: st) := by
  obtain ⟨⟨p, l, e, R, s⟩, ⟨m, args, below, meth, c⟩, ⟨cells, slots, Q⟩, D, A, nL⟩ := X
  obtain ⟨hx, hb, hml, hnL, hown, hts, hA, hK, hfr, hlo, hce, hsl⟩ := C
  obtain ⟨hd, rfl⟩ := d
  intro H locs ls hP hD hS hl
  exact lv_astore_n hx hb hd rfl hl.has (by omega) rfl (fun ls' h' => k H locs ls' hP hD hS (hl.put rfl h'))
theorem j_iinc_g (C : jC X cc own n tys fr lo) {i : Nat} {b z : Int} (hi : lv[i]? = some (some (.int (iI z)))) (d : dk cc pc (.iinc i b) 3 q) (hn : i < n) (k : J X ws q (lv.set i (some (.int (iI (z + b))))) st) : J X ws pc lv st := by
  obtain ⟨⟨p, l, e, R, s⟩, ⟨m, args, below, meth, c⟩, ⟨cells, slots, Q⟩, D, A, nL⟩ := X
  obtain ⟨hx, hb, hml, hnL, hown, hts, hA, hK, hfr, hlo, hce, hsl⟩ := C
  obtain ⟨hd, rfl⟩ := d
  intro H locs ls hP hD hS hl
  obtain ⟨kk, hkk⟩ := List.getElem?_of_mem (mem_jl.mpr hi)
  exact lv_iinc hx hb hd hl.has hkk (show iI z + iI b = iI (z + b) from iI_add z b) (by omega) rfl (fun ls' h' => k H locs ls' hP hD hS (hl.put rfl h'))
theorem j_il0 (C : jC X cc own n tys fr lo) {x : Int32} {r : List (Option Value)} (d : dk cc pc (.iload_n 0) 1 q) (k : J X ws q (some (.int x) :: r) (.int x :: st)) : J X ws pc (some (.int x) :: r) st := j_iload_ng C rfl d k
theorem j_is0 (C : jC X cc own n tys fr lo) {v0 : Option Value} {x : Int32} {r : List (Option Value)} (d : dk cc pc (.istore_n 0) 1 q) (hi : 0 < n) (k : J X ws q (some (.int x) :: r) st) : J X ws pc (v0 :: r) (.int x :: st) := j_istore_ng C d hi k
theorem j_inc0 (C : jC X cc own n tys fr lo) {b z : Int} {r : List (Option Value)} (d : dk cc pc (.iinc 0 b) 3 q) (hi : 0 < n) (k : J X ws q (some (.int (iI (z + b))) :: r) st) : J X ws pc (some (.int (iI z)) :: r) st := j_iinc_g C rfl d hi k
theorem j_al0 (C : jC X cc own n tys fr lo) {x : Nat} {r : List (Option Value)} (d : dk cc pc (.aload_n 0) 1 q) (k : J X ws q (some (.ref x) :: r) (.ref x :: st)) : J X ws pc (some (.ref x) :: r) st := j_aload_ng C rfl d k
theorem j_as0 (C : jC X cc own n tys fr lo) {v0 : Option Value} {x : Nat} {r : List (Option Value)} (d : dk cc pc (.astore_n 0) 1 q) (hi : 0 < n) (k : J X ws q (some (.ref x) :: r) st) : J X ws pc (v0 :: r) (.ref x :: st) := j_astore_ng C d hi k
theorem j_il1 (C : jC X cc own n tys fr lo) {v0 : Option Value} {x : Int32} {r : List (Option Value)} (d : dk cc pc (.iload_n 1) 1 q) (k : J X ws q (v0 :: some (.int x) :: r) (.int x :: st)) : J X ws pc (v0 :: some (.int x) :: r) st := j_iload_ng C rfl d k
theorem j_is1 (C : jC X cc own n tys fr lo) {v0 v1 : Option Value} {x : Int32} {r : List (Option Value)} (d : dk cc pc (.istore_n 1) 1 q) (hi : 1 < n) (k : J X ws q (v0 :: some (.int x) :: r) st) : J X ws pc (v0 :: v1 :: r) (.int x :: st) := j_istore_ng C d hi k
theorem j_inc1 (C : jC X cc own n tys fr lo) {v0 : Option Value} {b z : Int} {r : List (Option Value)} (d : dk cc pc (.iinc 1 b) 3 q) (hi : 1 < n) (k : J X ws q (v0 :: some (.int (iI (z + b))) :: r) st) : J X ws pc (v0 :: some (.int (iI z)) :: r) st := j_iinc_g C rfl d hi k
theorem j_al1 (C : jC X cc own n tys fr lo) {v0 : Option Value} {x : Nat} {r : List (Option Value)} (d : dk cc pc (.aload_n 1) 1 q) (k : J X ws q (v0 :: some (.ref x) :: r) (.ref x :: st)) : J X ws pc (v0 :: some (.ref x) :: r) st := j_aload_ng C rfl d k
theorem j_as1 (C : jC X cc own n tys fr lo) {v0 v1 : Option Value} {x : Nat} {r : List (Option Value)} (d : dk cc pc (.astore_n 1) 1 q) (hi : 1 < n) (k : J X ws q (v0 :: some (.ref x) :: r) st) : J X ws pc (v0 :: v1 :: r) (.ref x :: st) := j_astore_ng C d hi k
theorem j_il2 (C : jC X cc own n tys fr lo) {v0 v1 : Option Value} {x : Int32} {r : List (Option Value)} (d : dk cc pc (.iload_n 2) 1 q) (k : J X ws q (v0 :: v1 :: some (.int x) :: r) (.int x :: st)) : J X ws pc (v0 :: v1 :: some (.int x) :: r) st := j_iload_ng C rfl d k
theorem j_is2 (C : jC X cc own n tys fr lo) {v0 v1 v2 : Option Value} {x : Int32} {r : List (Option Value)} (d : dk cc pc (.istore_n 2) 1 q) (hi : 2 < n) (k : J X ws q (v0 :: v1 :: some (.int x) :: r) st) : J X ws pc (v0 :: v1 :: v2 :: r) (.int x :: st) := j_istore_ng C d hi k
theorem j_inc2 (C : jC X cc own n tys fr lo) {v0 v1 : Option Value} {b z : Int} {r : List (Option Value)} (d : dk cc pc (.iinc 2 b) 3 q) (hi : 2 < n) (k : J X ws q (v0 :: v1 :: some (.int (iI (z + b))) :: r) st) : J X ws pc (v0 :: v1 :: some (.int (iI z)) :: r) st := j_iinc_g C rfl d hi k
theorem j_al2 (C : jC X cc own n tys fr lo) {v0 v1 : Option Value} {x : Nat} {r : List (Option Value)} (d : dk cc pc (.aload_n 2) 1 q) (k : J X ws q (v0 :: v1 :: some (.ref x) :: r) (.ref x :: st)) : J X ws pc (v0 :: v1 :: some (.ref x) :: r) st := j_aload_ng C rfl d k
theorem j_as2 (C : jC X cc own n tys fr lo) {v0 v1 v2 : Option Value} {x : Nat} {r : List (Option Value)} (d : dk cc pc (.astore_n 2) 1 q) (hi : 2 < n) (k : J X ws q (v0 :: v1 :: some (.ref x) :: r) st) : J X ws pc (v0 :: v1 :: v2 :: r) (.ref x :: st) := j_astore_ng C d hi k
theorem j_il3 (C : jC X cc own n tys fr lo) {v0 v1 v2 : Option Value} {x : Int32} {r : List (Option Value)} (d : dk cc pc (.iload_n 3) 1 q) (k : J X ws q (v0 :: v1 :: v2 :: some (.int x) :: r) (.int x :: st)) : J X ws pc (v0 :: v1 :: v2 :: some (.int x) :: r) st := j_iload_ng C rfl d k
theorem j_is3 (C : jC X cc own n tys fr lo) {v0 v1 v2 v3 : Option Value} {x : Int32} {r : List (Option Value)} (d : dk cc pc (.istore_n 3) 1 q) (hi : 3 < n) (k : J X ws q (v0 :: v1 :: v2 :: some (.int x) :: r) st) : J X ws pc (v0 :: v1 :: v2 :: v3 :: r) (.int x :: st) := j_istore_ng C d hi k
theorem j_inc3 (C : jC X cc own n tys fr lo) {v0 v1 v2 : Option Value} {b z : Int} {r : List (Option Value)} (d : dk cc pc (.iinc 3 b) 3 q) (hi : 3 < n) (k : J X ws q (v0 :: v1 :: v2 :: some (.int (iI (z + b))) :: r) st) : J X ws pc (v0 :: v1 :: v2 :: some (.int (iI z)) :: r) st := j_iinc_g C rfl d hi k
theorem j_al3 (C : jC X cc own n tys fr lo) {v0 v1 v2 : Option Value} {x : Nat} {r : List (Option Value)} (d : dk cc pc (.aload_n 3) 1 q) (k : J X ws q (v0 :: v1 :: v2 :: some (.ref x) :: r) (.ref x :: st)) : J X ws pc (v0 :: v1 :: v2 :: some (.ref x) :: r) st := j_aload_ng C rfl d k
theorem j_as3 (C : jC X cc own n tys fr lo) {v0 v1 v2 v3 : Option Value} {x : Nat} {r : List (Option Value)} (d : dk cc pc (.astore_n 3) 1 q) (hi : 3 < n) (k : J X ws q (v0 :: v1 :: v2 :: some (.ref x) :: r) st) : J X ws pc (v0 :: v1 :: v2 :: v3 :: r) (.ref x :: st) := j_astore_ng C d hi k
theorem j_il4 (C : jC X cc own n tys fr lo) {v0 v1 v2 v3 : Option Value} {x : Int32} {r : List (Option Value)} (d : dk cc pc (.iload 4) 2 q) (k : J X ws q (v0 :: v1 :: v2 :: v3 :: some (.int x) :: r) (.int x :: st)) : J X ws pc (v0 :: v1 :: v2 :: v3 :: some (.int x) :: r) st := j_iload_g C rfl d k
theorem j_is4 (C : jC X cc own n tys fr lo) {v0 v1 v2 v3 v4 : Option Value} {x : Int32} {r : List (Option Value)} (d : dk cc pc (.istore 4) 2 q) (hi : 4 < n) (k : J X ws q (v0 :: v1 :: v2 :: v3 :: some (.int x) :: r) st) : J X ws pc (v0 :: v1 :: v2 :: v3 :: v4 :: r) (.int x :: st) := j_istore_g C d hi k
theorem j_inc4 (C : jC X cc own n tys fr lo) {v0 v1 v2 v3 : Option Value} {b z : Int} {r : List (Option Value)} (d : dk cc pc (.iinc 4 b) 3 q) (hi : 4 < n) (k : J X ws q (v0 :: v1 :: v2 :: v3 :: some (.int (iI (z + b))) :: r) st) : J X ws pc (v0 :: v1 :: v2 :: v3 :: some (.int (iI z)) :: r) st := j_iinc_g C rfl d hi k
theorem j_il5 (C : jC X cc own n tys fr lo) {v0 v1 v2 v3 v4 : Option Value} {x : Int32} {r : List (Option Value)} (d : dk cc pc (.iload 5) 2 q) (k : J X ws q (v0 :: v1 :: v2 :: v3 :: v4 :: some (.int x) :: r) (.int x :: st)) : J X ws pc (v0 :: v1 :: v2 :: v3 :: v4 :: some (.int x) :: r) st := j_iload_g C rfl d k
theorem j_is5 (C : jC X cc own n tys fr lo) {v0 v1 v2 v3 v4 v5 : Option Value} {x : Int32} {r : List (Option Value)} (d : dk cc pc (.istore 5) 2 q) (hi : 5 < n) (k : J X ws q (v0 :: v1 :: v2 :: v3 :: v4 :: some (.int x) :: r) st) : J X ws pc (v0 :: v1 :: v2 :: v3 :: v4 :: v5 :: r) (.int x :: st) := j_istore_g C d hi k
theorem j_inc5 (C : jC X cc own n tys fr lo) {v0 v1 v2 v3 v4 : Option Value} {b z : Int} {r : List (Option Value)} (d : dk cc pc (.iinc 5 b) 3 q) (hi : 5 < n) (k : J X ws q (v0 :: v1 :: v2 :: v3 :: v4 :: some (.int (iI (z + b))) :: r) st) : J X ws pc (v0 :: v1 :: v2 :: v3 :: v4 :: some (.int (iI z)) :: r) st := j_iinc_g C rfl d hi k
theorem j_il6 (C : jC X cc own n tys fr lo) {v0 v1 v2 v3 v4 v5 : Option Value} {x : Int32} {r : List (Option Value)} (d : dk cc pc (.iload 6) 2 q) (k : J X ws q (v0 :: v1 :: v2 :: v3 :: v4 :: v5 :: some (.int x) :: r) (.int x :: st)) : J X ws pc (v0 :: v1 :: v2 :: v3 :: v4 :: v5 :: some (.int x) :: r) st := j_iload_g C rfl d k
theorem j_is6 (C : jC X cc own n tys fr lo) {v0 v1 v2 v3 v4 v5 v6 : Option Value} {x : Int32} {r : List (Option Value)} (d : dk cc pc (.istore 6) 2 q) (hi : 6 < n) (k : J X ws q (v0 :: v1 :: v2 :: v3 :: v4 :: v5 :: some (.int x) :: r) st) : J X ws pc (v0 :: v1 :: v2 :: v3 :: v4 :: v5 :: v6 :: r) (.int x :: st) := j_istore_g C d hi k
theorem j_inc6 (C : jC X cc own n tys fr lo) {v0 v1 v2 v3 v4 v5 : Option Value} {b z : Int} {r : List (Option Value)} (d : dk cc pc (.iinc 6 b) 3 q) (hi : 6 < n) (k : J X ws q (v0 :: v1 :: v2 :: v3 :: v4 :: v5 :: some (.int (iI (z + b))) :: r) st) : J X ws pc (v0 :: v1 :: v2 :: v3 :: v4 :: v5 :: some (.int (iI z)) :: r) st := j_iinc_g C rfl d hi k
theorem j_il7 (C : jC X cc own n tys fr lo) {v0 v1 v2 v3 v4 v5 v6 : Option Value} {x : Int32} {r : List (Option Value)} (d : dk cc pc (.iload 7) 2 q) (k : J X ws q (v0 :: v1 :: v2 :: v3 :: v4 :: v5 :: v6 :: some (.int x) :: r) (.int x :: st)) : J X ws pc (v0 :: v1 :: v2 :: v3 :: v4 :: v5 :: v6 :: some (.int x) :: r) st := j_iload_g C rfl d k
theorem j_is7 (C : jC X cc own n tys fr lo) {v0 v1 v2 v3 v4 v5 v6 v7 : Option Value} {x : Int32} {r : List (Option Value)} (d : dk cc pc (.istore 7) 2 q) (hi : 7 < n) (k : J X ws q (v0 :: v1 :: v2 :: v3 :: v4 :: v5 :: v6 :: some (.int x) :: r) st) : J X ws pc (v0 :: v1 :: v2 :: v3 :: v4 :: v5 :: v6 :: v7 :: r) (.int x :: st) := j_istore_g C d hi k
theorem j_inc7 (C : jC X cc own n tys fr lo) {v0 v1 v2 v3 v4 v5 v6 : Option Value} {b z : Int} {r : List (Option Value)} (d : dk cc pc (.iinc 7 b) 3 q) (hi : 7 < n) (k : J X ws q (v0 :: v1 :: v2 :: v3 :: v4 :: v5 :: v6 :: some (.int (iI (z + b))) :: r) st) : J X ws pc (v0 :: v1 :: v2 :: v3 :: v4 :: v5 :: v6 :: some (.int (iI z)) :: r) st := j_iinc_g C rfl d hi k
theorem j_il8 (C : jC X cc own n tys fr lo) {v0 v1 v2 v3 v4 v5 v6 v7 : Option Value} {x : Int32} {r : List (Option Value)} (d : dk cc pc (.iload 8) 2 q) (k : J X ws q (v0 :: v1 :: v2 :: v3 :: v4 :: v5 :: v6 :: v7 :: some (.int x) :: r) (.int x :: st)) : J X ws pc (v0 :: v1 :: v2 :: v3 :: v4 :: v5 :: v6 :: v7 :: some (.int x) :: r) st := j_iload_g C rfl d k
theorem j_is8 (C : jC X cc own n tys fr lo) {v0 v1 v2 v3 v4 v5 v6 v7 v8 : Option Value} {x : Int32} {r : List (Option Value)} (d : dk cc pc (.istore 8) 2 q) (hi : 8 < n) (k : J X ws q (v0 :: v1 :: v2 :: v3 :: v4 :: v5 :: v6 :: v7 :: some (.int x) :: r) st) : J X ws pc (v0 :: v1 :: v2 :: v3 :: v4 :: v5 :: v6 :: v7 :: v8 :: r) (.int x :: st) := j_istore_g C d hi k
theorem j_inc8 (C : jC X cc own n tys fr lo) {v0 v1 v2 v3 v4 v5 v6 v7 : Option Value} {b z : Int} {r : List (Option Value)} (d : dk cc pc (.iinc 8 b) 3 q) (hi : 8 < n) (k : J X ws q (v0 :: v1 :: v2 :: v3 :: v4 :: v5 :: v6 :: v7 :: some (.int (iI (z + b))) :: r) st) : J X ws pc (v0 :: v1 :: v2 :: v3 :: v4 :: v5 :: v6 :: v7 :: some (.int (iI z)) :: r) st := j_iinc_g C rfl d hi k
theorem j_il9 (C : jC X cc own n tys fr lo) {v0 v1 v2 v3 v4 v5 v6 v7 v8 : Option Value} {x : Int32} {r : List (Option Value)} (d : dk cc pc (.iload 9) 2 q) (k : J X ws q (v0 :: v1 :: v2 :: v3 :: v4 :: v5 :: v6 :: v7 :: v8 :: some (.int x) :: r) (.int x :: st)) : J X ws pc (v0 :: v1 :: v2 :: v3 :: v4 :: v5 :: v6 :: v7 :: v8 :: some (.int x) :: r) st := j_iload_g C rfl d k
theorem j_is9 (C : jC X cc own n tys fr lo) {v0 v1 v2 v3 v4 v5 v6 v7 v8 v9 : Option Value} {x : Int32} {r : List (Option Value)} (d : dk cc pc (.istore 9) 2 q) (hi : 9 < n) (k : J X ws q (v0 :: v1 :: v2 :: v3 :: v4 :: v5 :: v6 :: v7 :: v8 :: some (.int x) :: r) st) : J X ws pc (v0 :: v1 :: v2 :: v3 :: v4 :: v5 :: v6 :: v7 :: v8 :: v9 :: r) (.int x :: st) := j_istore_g C d hi k
theorem j_inc9 (C : jC X cc own n tys fr lo) {v0 v1 v2 v3 v4 v5 v6 v7 v8 : Option Value} {b z : Int} {r : List (Option Value)} (d : dk cc pc (.iinc 9 b) 3 q) (hi : 9 < n) (k : J X ws q (v0 :: v1 :: v2 :: v3 :: v4 :: v5 :: v6 :: v7 :: v8 :: some (.int (iI (z + b))) :: r) st) : J X ws pc (v0 :: v1 :: v2 :: v3 :: v4 :: v5 :: v6 :: v7 :: v8 :: some (.int (iI z)) :: r) st := j_iinc_g C rfl d hi k
theorem j_il10 (C : jC X cc own n tys fr lo) {v0 v1 v2 v3 v4 v5 v6 v7 v8 v9 : Option Value} {x : Int32} {r : List (Option Value)} (d : dk cc pc (.iload 10) 2 q) (k : J X ws q (v0 :: v1 :: v2 :: v3 :: v4 :: v5 :: v6 :: v7 :: v8 :: v9 :: some (.int x) :: r) (.int x :: st)) : J X ws pc (v0 :: v1 :: v2 :: v3 :: v4 :: v5 :: v6 :: v7 :: v8 :: v9 :: some (.int x) :: r) st := j_iload_g C rfl d k
theorem j_is10 (C : jC X cc own n tys fr lo) {v0 v1 v2 v3 v4 v5 v6 v7 v8 v9 v10 : Option Value} {x : Int32} {r : List (Option Value)} (d : dk cc pc (.istore 10) 2 q) (hi : 10 < n) (k : J X ws q (v0 :: v1 :: v2 :: v3 :: v4 :: v5 :: v6 :: v7 :: v8 :: v9 :: some (.int x) :: r) st) : J X ws pc (v0 :: v1 :: v2 :: v3 :: v4 :: v5 :: v6 :: v7 :: v8 :: v9 :: v10 :: r) (.int x :: st) := j_istore_g C d hi k
theorem j_inc10 (C : jC X cc own n tys fr lo) {v0 v1 v2 v3 v4 v5 v6 v7 v8 v9 : Option Value} {b z : Int} {r : List (Option Value)} (d : dk cc pc (.iinc 10 b) 3 q) (hi : 10 < n) (k : J X ws q (v0 :: v1 :: v2 :: v3 :: v4 :: v5 :: v6 :: v7 :: v8 :: v9 :: some (.int (iI (z + b))) :: r) st) : J X ws pc (v0 :: v1 :: v2 :: v3 :: v4 :: v5 :: v6 :: v7 :: v8 :: v9 :: some (.int (iI z)) :: r) st := j_iinc_g C rfl d hi k
theorem j_il11 (C : jC X cc own n tys fr lo) {v0 v1 v2 v3 v4 v5 v6 v7 v8 v9 v10 : Option Value} {x : Int32} {r : List (Option Value)} (d : dk cc pc (.iload 11) 2 q) (k : J X ws q (v0 :: v1 :: v2 :: v3 :: v4 :: v5 :: v6 :: v7 :: v8 :: v9 :: v10 :: some (.int x) :: r) (.int x :: st)) : J X ws pc (v0 :: v1 :: v2 :: v3 :: v4 :: v5 :: v6 :: v7 :: v8 :: v9 :: v10 :: some (.int x) :: r) st := j_iload_g C rfl d k
theorem j_is11 (C : jC X cc own n tys fr lo) {v0 v1 v2 v3 v4 v5 v6 v7 v8 v9 v10 v11 : Option Value} {x : Int32} {r : List (Option Value)} (d : dk cc pc (.istore 11) 2 q) (hi : 11 < n) (k : J X ws q (v0 :: v1 :: v2 :: v3 :: v4 :: v5 :: v6 :: v7 :: v8 :: v9 :: v10 :: some (.int x) :: r) st) : J X ws pc (v0 :: v1 :: v2 :: v3 :: v4 :: v5 :: v6 :: v7 :: v8 :: v9 :: v10 :: v11 :: r) (.int x :: st) := j_istore_g C d hi k
theorem j_inc11 (C : jC X cc own n tys fr lo) {v0 v1 v2 v3 v4 v5 v6 v7 v8 v9 v10 : Option Value} {b z : Int} {r : List (Option Value)} (d : dk cc pc (.iinc 11 b) 3 q) (hi : 11 < n) (k : J X ws q (v0 :: v1 :: v2 :: v3 :: v4 :: v5 :: v6 :: v7 :: v8 :: v9 :: v10 :: some (.int (iI (z + b))) :: r) st) : J X ws pc (v0 :: v1 :: v2 :: v3 :: v4 :: v5 :: v6 :: v7 :: v8 :: v9 :: v10 :: some (.int (iI z)) :: r) st := j_iinc_g C rfl d hi k
theorem j_il12 (C : jC X cc own n tys fr lo) {v0 v1 v2 v3 v4 v5 v6 v7 v8 v9 v10 v11 : Option Value} {x : Int32} {r : List (Option Value)} (d : dk cc pc (.iload 12) 2 q) (k : J X ws q (v0 :: v1 :: v2 :: v3 :: v4 :: v5 :: v6 :: v7 :: v8 :: v9 :: v10 :: v11 :: some (.int x) :: r) (.int x :: st)) : J X ws pc (v0 :: v1 :: v2 :: v3 :: v4 :: v5 :: v6 :: v7 :: v8 :: v9 :: v10 :: v11 :: some (.int x) :: r) st := j_iload_g C rfl d k
theorem j_is12 (C : jC X cc own n tys fr lo) {v0 v1 v2 v3 v4 v5 v6 v7 v8 v9 v10 v11 v12 : Option Value} {x : Int32} {r : List (Option Value)} (d : dk cc pc (.istore 12) 2 q) (hi : 12 < n) (k : J X ws q (v0 :: v1 :: v2 :: v3 :: v4 :: v5 :: v6 :: v7 :: v8 :: v9 :: v10 :: v11 :: some (.int x) :: r) st) : J X ws pc (v0 :: v1 :: v2 :: v3 :: v4 :: v5 :: v6 :: v7 :: v8 :: v9 :: v10 :: v11 :: v12 :: r) (.int x :: st) := j_istore_g C d hi k
theorem j_inc12 (C : jC X cc own n tys fr lo) {v0 v1 v2 v3 v4 v5 v6 v7 v8 v9 v10 v11 : Option Value} {b z : Int} {r : List (Option Value)} (d : dk cc pc (.iinc 12 b) 3 q) (hi : 12 < n) (k : J X ws q (v0 :: v1 :: v2 :: v3 :: v4 :: v5 :: v6 :: v7 :: v8 :: v9 :: v10 :: v11 :: some (.int (iI (z + b))) :: r) st) : J X ws pc (v0 :: v1 :: v2 :: v3 :: v4 :: v5 :: v6 :: v7 :: v8 :: v9 :: v10 :: v11 :: some (.int (iI z)) :: r) st := j_iinc_g C rfl d hi k
theorem j_il13 (C : jC X cc own n tys fr lo) {v0 v1 v2 v3 v4 v5 v6 v7 v8 v9 v10 v11 v12 : Option Value} {x : Int32} {r : List (Option Value)} (d : dk cc pc (.iload 13) 2 q) (k : J X ws q (v0 :: v1 :: v2 :: v3 :: v4 :: v5 :: v6 :: v7 :: v8 :: v9 :: v10 :: v11 :: v12 :: some (.int x) :: r) (.int x :: st)) : J X ws pc (v0 :: v1 :: v2 :: v3 :: v4 :: v5 :: v6 :: v7 :: v8 :: v9 :: v10 :: v11 :: v12 :: some (.int x) :: r) st := j_iload_g C rfl d k
theorem j_is13 (C : jC X cc own n tys fr lo) {v0 v1 v2 v3 v4 v5 v6 v7 v8 v9 v10 v11 v12 v13 : Option Value} {x : Int32} {r : List (Option Value)} (d : dk cc pc (.istore 13) 2 q) (hi : 13 < n) (k : J X ws q (v0 :: v1 :: v2 :: v3 :: v4 :: v5 :: v6 :: v7 :: v8 :: v9 :: v10 :: v11 :: v12 :: some (.int x) :: r) st) : J X ws pc (v0 :: v1 :: v2 :: v3 :: v4 :: v5 :: v6 :: v7 :: v8 :: v9 :: v10 :: v11 :: v12 :: v13 :: r) (.int x :: st) := j_istore_g C d hi k
theorem j_inc13 (C : jC X cc own n tys fr lo) {v0 v1 v2 v3 v4 v5 v6 v7 v8 v9 v10 v11 v12 : Option Value} {b z : Int} {r : List (Option Value)} (d : dk cc pc (.iinc 13 b) 3 q) (hi : 13 < n) (k : J X ws q (v0 :: v1 :: v2 :: v3 :: v4 :: v5 :: v6 :: v7 :: v8 :: v9 :: v10 :: v11 :: v12 :: some (.int (iI (z + b))) :: r) st) : J X ws pc (v0 :: v1 :: v2 :: v3 :: v4 :: v5 :: v6 :: v7 :: v8 :: v9 :: v10 :: v11 :: v12 :: some (.int (iI z)) :: r) st := j_iinc_g C rfl d hi k
theorem j_il14 (C : jC X cc own n tys fr lo) {v0 v1 v2 v3 v4 v5 v6 v7 v8 v9 v10 v11 v12 v13 : Option Value} {x : Int32} {r : List (Option Value)} (d : dk cc pc (.iload 14) 2 q) (k : J X ws q (v0 :: v1 :: v2 :: v3 :: v4 :: v5 :: v6 :: v7 :: v8 :: v9 :: v10 :: v11 :: v12 :: v13 :: some (.int x) :: r) (.int x :: st)) : J X ws pc (v0 :: v1 :: v2 :: v3 :: v4 :: v5 :: v6 :: v7 :: v8 :: v9 :: v10 :: v11 :: v12 :: v13 :: some (.int x) :: r) st := j_iload_g C rfl d k
theorem j_is14 (C : jC X cc own n tys fr lo) {v0 v1 v2 v3 v4 v5 v6 v7 v8 v9 v10 v11 v12 v13 v14 : Option Value} {x : Int32} {r : List (Option Value)} (d : dk cc pc (.istore 14) 2 q) (hi : 14 < n) (k : J X ws q (v0 :: v1 :: v2 :: v3 :: v4 :: v5 :: v6 :: v7 :: v8 :: v9 :: v10 :: v11 :: v12 :: v13 :: some (.int x) :: r) st) : J X ws pc (v0 :: v1 :: v2 :: v3 :: v4 :: v5 :: v6 :: v7 :: v8 :: v9 :: v10 :: v11 :: v12 :: v13 :: v14 :: r) (.int x :: st) := j_istore_g C d hi k
theorem j_inc14 (C : jC X cc own n tys fr lo) {v0 v1 v2 v3 v4 v5 v6 v7 v8 v9 v10 v11 v12 v13 : Option Value} {b z : Int} {r : List (Option Value)} (d : dk cc pc (.iinc 14 b) 3 q) (hi : 14 < n) (k : J X ws q (v0 :: v1 :: v2 :: v3 :: v4 :: v5 :: v6 :: v7 :: v8 :: v9 :: v10 :: v11 :: v12 :: v13 :: some (.int (iI (z + b))) :: r) st) : J X ws pc (v0 :: v1 :: v2 :: v3 :: v4 :: v5 :: v6 :: v7 :: v8 :: v9 :: v10 :: v11 :: v12 :: v13 :: some (.int (iI z)) :: r) st := j_iinc_g C rfl d hi k
theorem j_iadd (C : jC X cc own n tys fr lo) {a b : Int} (d : dk cc pc .iadd 1 q) (k : J X ws q lv (.int (iI (a + b)) :: st)) : J X ws pc lv (.int (iI b) :: .int (iI a) :: st) := by
  obtain ⟨⟨p, l, e, R, s⟩, ⟨m, args, below, meth, c⟩, ⟨cells, slots, Q⟩, D, A, nL⟩ := X
  obtain ⟨hx, hb, hml, hnL, hown, hts, hA, hK, hfr, hlo, hce, hsl⟩ := C
  obtain ⟨hd, rfl⟩ := d
  intro H locs ls hP hD hS hl
  exact lv_iadd hx hb hd (by rw [iI_add]; exact k H locs ls hP hD hS hl)
theorem j_iaddR (C : jC X cc own n tys fr lo) {a b : Int32} (d : dk cc pc .iadd 1 q) (k : J X ws q lv (.int (a + b) :: st)) : J X ws pc lv (.int b :: .int a :: st) := by
  obtain ⟨⟨p, l, e, R, s⟩, ⟨m, args, below, meth, c⟩, ⟨cells, slots, Q⟩, D, A, nL⟩ := X
  obtain ⟨hx, hb, hml, hnL, hown, hts, hA, hK, hfr, hlo, hce, hsl⟩ := C
  obtain ⟨hd, rfl⟩ := d
  intro H locs ls hP hD hS hl
  exact lv_iadd hx hb hd (k H locs ls hP hD hS hl)
theorem j_isub (C : jC X cc own n tys fr lo) {a b : Int} (d : dk cc pc .isub 1 q) (k : J X ws q lv (.int (iI (a - b)) :: st)) : J X ws pc lv (.int (iI b) :: .int (iI a) :: st) := by
  obtain ⟨⟨p, l, e, R, s⟩, ⟨m, args, below, meth, c⟩, ⟨cells, slots, Q⟩, D, A, nL⟩ := X
  obtain ⟨hx, hb, hml, hnL, hown, hts, hA, hK, hfr, hlo, hce, hsl⟩ := C
  obtain ⟨hd, rfl⟩ := d
  intro H locs ls hP hD hS hl
  exact lv_isub hx hb hd (by rw [iI_sub]; exact k H locs ls hP hD hS hl)
theorem j_isubR (C : jC X cc own n tys fr lo) {a b : Int32} (d : dk cc pc .isub 1 q) (k : J X ws q lv (.int (a - b) :: st)) : J X ws pc lv (.int b :: .int a :: st) := by
  obtain ⟨⟨p, l, e, R, s⟩, ⟨m, args, below, meth, c⟩, ⟨cells, slots, Q⟩, D, A, nL⟩ := X
  obtain ⟨hx, hb, hml, hnL, hown, hts, hA, hK, hfr, hlo, hce, hsl⟩ := C
  obtain ⟨hd, rfl⟩ := d
  intro H locs ls hP hD hS hl
  exact lv_isub hx hb hd (k H locs ls hP hD hS hl)
theorem j_imul (C : jC X cc own n tys fr lo) {a b : Int} (d : dk cc pc .imul 1 q) (k : J X ws q lv (.int (iI (a * b)) :: st)) : J X ws pc lv (.int (iI b) :: .int (iI a) :: st) := by
  obtain ⟨⟨p, l, e, R, s⟩, ⟨m, args, below, meth, c⟩, ⟨cells, slots, Q⟩, D, A, nL⟩ := X
  obtain ⟨hx, hb, hml, hnL, hown, hts, hA, hK, hfr, hlo, hce, hsl⟩ := C
  obtain ⟨hd, rfl⟩ := d
  intro H locs ls hP hD hS hl
  exact lv_imul hx hb hd (by rw [iI_mul]; exact k H locs ls hP hD hS hl)
theorem j_imulR (C : jC X cc own n tys fr lo) {a b : Int32} (d : dk cc pc .imul 1 q) (k : J X ws q lv (.int (a * b) :: st)) : J X ws pc lv (.int b :: .int a :: st) := by
  obtain ⟨⟨p, l, e, R, s⟩, ⟨m, args, below, meth, c⟩, ⟨cells, slots, Q⟩, D, A, nL⟩ := X
  obtain ⟨hx, hb, hml, hnL, hown, hts, hA, hK, hfr, hlo, hce, hsl⟩ := C
  obtain ⟨hd, rfl⟩ := d
  intro H locs ls hP hD hS hl
  exact lv_imul hx hb hd (k H locs ls hP hD hS hl)
theorem j_ineg (C : jC X cc own n tys fr lo) {a : Int} (d : dk cc pc .ineg 1 q) (k : J X ws q lv (.int (iI (-a)) :: st)) : J X ws pc lv (.int (iI a) :: st) := by
  obtain ⟨⟨p, l, e, R, s⟩, ⟨m, args, below, meth, c⟩, ⟨cells, slots, Q⟩, D, A, nL⟩ := X
  obtain ⟨hx, hb, hml, hnL, hown, hts, hA, hK, hfr, hlo, hce, hsl⟩ := C
  obtain ⟨hd, rfl⟩ := d
  intro H locs ls hP hD hS hl
  exact lv_ineg hx hb hd (by rw [iI_neg]; exact k H locs ls hP hD hS hl)
theorem j_idiv (C : jC X cc own n tys fr lo) {a b : Int} (d : dk cc pc .idiv 1 q) (h1 : 0 ≤ a) (h2 : a < 2147483648) (h3 : 0 < b) (h4 : b < 2147483648) (k : J X ws q lv (.int (iI (a / b)) :: st)) : J X ws pc lv (.int (iI b) :: .int (iI a) :: st) := by
  obtain ⟨⟨p, l, e, R, s⟩, ⟨m, args, below, meth, c⟩, ⟨cells, slots, Q⟩, D, A, nL⟩ := X
  obtain ⟨hx, hb, hml, hnL, hown, hts, hA, hK, hfr, hlo, hce, hsl⟩ := C
  obtain ⟨hd, rfl⟩ := d
  intro H locs ls hP hD hS hl
  exact lv_idiv hx hb hd (fun h => by have := (iI_eq (a := b) (b := 0) (by omega) (by omega)).mp h; omega) (by rw [iI_div h1 h2 h3 h4]; exact k H locs ls hP hD hS hl)
theorem j_irem (C : jC X cc own n tys fr lo) {a b : Int} (d : dk cc pc .irem 1 q) (h1 : 0 ≤ a) (h2 : a < 2147483648) (h3 : 0 < b) (h4 : b < 2147483648) (k : J X ws q lv (.int (iI (a % b)) :: st)) : J X ws pc lv (.int (iI b) :: .int (iI a) :: st) := by
  obtain ⟨⟨p, l, e, R, s⟩, ⟨m, args, below, meth, c⟩, ⟨cells, slots, Q⟩, D, A, nL⟩ := X
  obtain ⟨hx, hb, hml, hnL, hown, hts, hA, hK, hfr, hlo, hce, hsl⟩ := C
  obtain ⟨hd, rfl⟩ := d
  intro H locs ls hP hD hS hl
  exact lv_irem hx hb hd (fun h => by have := (iI_eq (a := b) (b := 0) (by omega) (by omega)).mp h; omega) (by rw [iI_rem h1 h2 h3 h4]; exact k H locs ls hP hD hS hl)
theorem j_iand (C : jC X cc own n tys fr lo) {a b : Int32} (d : dk cc pc .iand 1 q) (k : J X ws q lv (.int (a &&& b) :: st)) : J X ws pc lv (.int b :: .int a :: st) := by
  obtain ⟨⟨p, l, e, R, s⟩, ⟨m, args, below, meth, c⟩, ⟨cells, slots, Q⟩, D, A, nL⟩ := X
  obtain ⟨hx, hb, hml, hnL, hown, hts, hA, hK, hfr, hlo, hce, hsl⟩ := C
  obtain ⟨hd, rfl⟩ := d
  intro H locs ls hP hD hS hl
  exact lv_iand hx hb hd (k H locs ls hP hD hS hl)
theorem j_ior (C : jC X cc own n tys fr lo) {a b : Int32} (d : dk cc pc .ior 1 q) (k : J X ws q lv (.int (a ||| b) :: st)) : J X ws pc lv (.int b :: .int a :: st) := by
  obtain ⟨⟨p, l, e, R, s⟩, ⟨m, args, below, meth, c⟩, ⟨cells, slots, Q⟩, D, A, nL⟩ := X
  obtain ⟨hx, hb, hml, hnL, hown, hts, hA, hK, hfr, hlo, hce, hsl⟩ := C
  obtain ⟨hd, rfl⟩ := d
  intro H locs ls hP hD hS hl
  exact lv_ior hx hb hd (k H locs ls hP hD hS hl)
theorem j_ixor (C : jC X cc own n tys fr lo) {a b : Int32} (d : dk cc pc .ixor 1 q) (k : J X ws q lv (.int (a ^^^ b) :: st)) : J X ws pc lv (.int b :: .int a :: st) := by
  obtain ⟨⟨p, l, e, R, s⟩, ⟨m, args, below, meth, c⟩, ⟨cells, slots, Q⟩, D, A, nL⟩ := X
  obtain ⟨hx, hb, hml, hnL, hown, hts, hA, hK, hfr, hlo, hce, hsl⟩ := C
  obtain ⟨hd, rfl⟩ := d
  intro H locs ls hP hD hS hl
  exact lv_ixor hx hb hd (k H locs ls hP hD hS hl)
theorem j_ishl (C : jC X cc own n tys fr lo) {a b : Int32} (d : dk cc pc .ishl 1 q) (k : J X ws q lv (.int (a <<< (b &&& 31)) :: st)) : J X ws pc lv (.int b :: .int a :: st) := by
  obtain ⟨⟨p, l, e, R, s⟩, ⟨m, args, below, meth, c⟩, ⟨cells, slots, Q⟩, D, A, nL⟩ := X
  obtain ⟨hx, hb, hml, hnL, hown, hts, hA, hK, hfr, hlo, hce, hsl⟩ := C
  obtain ⟨hd, rfl⟩ := d
  intro H locs ls hP hD hS hl
  exact lv_ishl hx hb hd (k H locs ls hP hD hS hl)
theorem j_ishr (C : jC X cc own n tys fr lo) {a b : Int32} (d : dk cc pc .ishr 1 q) (k : J X ws q lv (.int (a >>> (b &&& 31)) :: st)) : J X ws pc lv (.int b :: .int a :: st) := by
  obtain ⟨⟨p, l, e, R, s⟩, ⟨m, args, below, meth, c⟩, ⟨cells, slots, Q⟩, D, A, nL⟩ := X
  obtain ⟨hx, hb, hml, hnL, hown, hts, hA, hK, hfr, hlo, hce, hsl⟩ := C
  obtain ⟨hd, rfl⟩ := d
  intro H locs ls hP hD hS hl
  exact lv_ishr hx hb hd (k H locs ls hP hD hS hl)
theorem j_i2b (C : jC X cc own n tys fr lo) {a : Int32} (d : dk cc pc .i2b 1 q) (k : J X ws q lv (.int a.toInt8.toInt32 :: st)) : J X ws pc lv (.int a :: st) := by
  obtain ⟨⟨p, l, e, R, s⟩, ⟨m, args, below, meth, c⟩, ⟨cells, slots, Q⟩, D, A, nL⟩ := X
  obtain ⟨hx, hb, hml, hnL, hown, hts, hA, hK, hfr, hlo, hce, hsl⟩ := C
  obtain ⟨hd, rfl⟩ := d
  intro H locs ls hP hD hS hl
  exact lv_i2b hx hb hd rfl (k H locs ls hP hD hS hl)
theorem j_dupi (C : jC X cc own n tys fr lo) {a : Int32} (d : dk cc pc .dup 1 q) (k : J X ws q lv (.int a :: .int a :: st)) : J X ws pc lv (.int a :: st) := by
  obtain ⟨⟨p, l, e, R, s⟩, ⟨m, args, below, meth, c⟩, ⟨cells, slots, Q⟩, D, A, nL⟩ := X
  obtain ⟨hx, hb, hml, hnL, hown, hts, hA, hK, hfr, hlo, hce, hsl⟩ := C
  obtain ⟨hd, rfl⟩ := d
  intro H locs ls hP hD hS hl
  exact lv_dup hx hb hd rfl (k H locs ls hP hD hS hl)
theorem j_dupr (C : jC X cc own n tys fr lo) {a : Nat} (d : dk cc pc .dup 1 q) (k : J X ws q lv (.ref a :: .ref a :: st)) : J X ws pc lv (.ref a :: st) := by
  obtain ⟨⟨p, l, e, R, s⟩, ⟨m, args, below, meth, c⟩, ⟨cells, slots, Q⟩, D, A, nL⟩ := X
  obtain ⟨hx, hb, hml, hnL, hown, hts, hA, hK, hfr, hlo, hce, hsl⟩ := C
  obtain ⟨hd, rfl⟩ := d
  intro H locs ls hP hD hS hl
  exact lv_dup hx hb hd rfl (k H locs ls hP hD hS hl)
theorem j_dup2 (C : jC X cc own n tys fr lo) {i : Int32} {a : Nat} (d : dk cc pc .dup2 1 q) (k : J X ws q lv (.int i :: .ref a :: .int i :: .ref a :: st)) : J X ws pc lv (.int i :: .ref a :: st) := by
  obtain ⟨⟨p, l, e, R, s⟩, ⟨m, args, below, meth, c⟩, ⟨cells, slots, Q⟩, D, A, nL⟩ := X
  obtain ⟨hx, hb, hml, hnL, hown, hts, hA, hK, hfr, hlo, hce, hsl⟩ := C
  obtain ⟨hd, rfl⟩ := d
  intro H locs ls hP hD hS hl
  exact lv_dup2_11 hx hb hd rfl rfl (k H locs ls hP hD hS hl)
theorem j_goto (C : jC X cc own n tys fr lo) (d : db cc pc .goto q t) (k : J X ws t lv st) : J X ws pc lv st := by
  obtain ⟨⟨p, l, e, R, s⟩, ⟨m, args, below, meth, c⟩, ⟨cells, slots, Q⟩, D, A, nL⟩ := X
  obtain ⟨hx, hb, hml, hnL, hown, hts, hA, hK, hfr, hlo, hce, hsl⟩ := C
  obtain ⟨off, hd, rfl, ht⟩ := d
  intro H locs ls hP hD hS hl
  exact lv_goto hx hb hd ht (k H locs ls hP hD hS hl)
theorem j_ceq (C : jC X cc own n tys fr lo) {a b : Int} (d : db cc pc (.if_icmp .eq) q t) (ha : -2147483648 ≤ a ∧ a < 2147483648) (hb2 : -2147483648 ≤ b ∧ b < 2147483648) (k1 : a = b → J X ws t lv st) (k2 : a ≠ b → J X ws q lv st) : J X ws pc lv (.int (iI b) :: .int (iI a) :: st) := by
  obtain ⟨⟨p, l, e, R, s⟩, ⟨m, args, below, meth, c⟩, ⟨cells, slots, Q⟩, D, A, nL⟩ := X
  obtain ⟨hx, hb, hml, hnL, hown, hts, hA, hK, hfr, hlo, hce, hsl⟩ := C
  obtain ⟨off, hd, rfl, ht⟩ := d
  intro H locs ls hP hD hS hl
  exact lv_icmp_eq hx hb hd ht (fun h => k1 ((iI_eq ha hb2).mp h) H locs ls hP hD hS hl) (fun h => k2 (fun z => h ((iI_eq ha hb2).mpr z)) H locs ls hP hD hS hl)
theorem j_ifeq (C : jC X cc own n tys fr lo) {a : Int} (d : db cc pc (.ifCond .eq) q t) (ha : -2147483648 ≤ a ∧ a < 2147483648) (k1 : a = 0 → J X ws t lv st) (k2 : a ≠ 0 → J X ws q lv st) : J X ws pc lv (.int (iI a) :: st) := by
  obtain ⟨⟨p, l, e, R, s⟩, ⟨m, args, below, meth, c⟩, ⟨cells, slots, Q⟩, D, A, nL⟩ := X
  obtain ⟨hx, hb, hml, hnL, hown, hts, hA, hK, hfr, hlo, hce, hsl⟩ := C
  obtain ⟨off, hd, rfl, ht⟩ := d
  intro H locs ls hP hD hS hl
  have hb2 : -2147483648 ≤ (0 : Int) ∧ (0 : Int) < 2147483648 := by decide
  exact lv_if_eq hx hb hd ht (fun h => k1 ((iI_eq ha hb2).mp h) H locs ls hP hD hS hl) (fun h => k2 (fun z => h ((iI_eq ha hb2).mpr z)) H locs ls hP hD hS hl)
theorem j_cne (C : jC X cc own n tys fr lo) {a b : Int} (d : db cc pc (.if_icmp .ne) q t) (ha : -2147483648 ≤ a ∧ a < 2147483648) (hb2 : -2147483648 ≤ b ∧ b < 2147483648) (k1 : a ≠ b → J X ws t lv st) (k2 : a = b → J X ws q lv st) : J X ws pc lv (.int (iI b) :: .int (iI a) :: st) := by
  obtain ⟨⟨p, l, e, R, s⟩, ⟨m, args, below, meth, c⟩, ⟨cells, slots, Q⟩, D, A, nL⟩ := X
  obtain ⟨hx, hb, hml, hnL, hown, hts, hA, hK, hfr, hlo, hce, hsl⟩ := C
  obtain ⟨off, hd, rfl, ht⟩ := d
  intro H locs ls hP hD hS hl
  exact lv_icmp_ne hx hb hd ht (fun h => k1 (fun z => h ((iI_eq ha hb2).mpr z)) H locs ls hP hD hS hl) (fun h => k2 ((iI_eq ha hb2).mp h) H locs ls hP hD hS hl)
theorem j_ifne (C : jC X cc own n tys fr lo) {a : Int} (d : db cc pc (.ifCond .ne) q t) (ha : -2147483648 ≤ a ∧ a < 2147483648) (k1 : a ≠ 0 → J X ws t lv st) (k2 : a = 0 → J X ws q lv st) : J X ws pc lv (.int (iI a) :: st) := by
  obtain ⟨⟨p, l, e, R, s⟩, ⟨m, args, below, meth, c⟩, ⟨cells, slots, Q⟩, D, A, nL⟩ := X
  obtain ⟨hx, hb, hml, hnL, hown, hts, hA, hK, hfr, hlo, hce, hsl⟩ := C
  obtain ⟨off, hd, rfl, ht⟩ := d
  intro H locs ls hP hD hS hl
  have hb2 : -2147483648 ≤ (0 : Int) ∧ (0 : Int) < 2147483648 := by decide
  exact lv_if_ne hx hb hd ht (fun h => k1 (fun z => h ((iI_eq ha hb2).mpr z)) H locs ls hP hD hS hl) (fun h => k2 ((iI_eq ha hb2).mp h) H locs ls hP hD hS hl)
theorem j_clt (C : jC X cc own n tys fr lo) {a b : Int} (d : db cc pc (.if_icmp .lt) q t) (ha : -2147483648 ≤ a ∧ a < 2147483648) (hb2 : -2147483648 ≤ b ∧ b < 2147483648) (k1 : a < b → J X ws t lv st) (k2 : b ≤ a → J X ws q lv st) : J X ws pc lv (.int (iI b) :: .int (iI a) :: st) := by
  obtain ⟨⟨p, l, e, R, s⟩, ⟨m, args, below, meth, c⟩, ⟨cells, slots, Q⟩, D, A, nL⟩ := X
  obtain ⟨hx, hb, hml, hnL, hown, hts, hA, hK, hfr, hlo, hce, hsl⟩ := C
  obtain ⟨off, hd, rfl, ht⟩ := d
  intro H locs ls hP hD hS hl
  exact lv_icmp_lt hx hb hd ht (fun h => k1 ((iI_lt ha hb2).mp h) H locs ls hP hD hS hl) (fun h => k2 (Int.not_lt.mp fun z => h ((iI_lt ha hb2).mpr z)) H locs ls hP hD hS hl)
theorem j_iflt (C : jC X cc own n tys fr lo) {a : Int} (d : db cc pc (.ifCond .lt) q t) (ha : -2147483648 ≤ a ∧ a < 2147483648) (k1 : a < 0 → J X ws t lv st) (k2 : 0 ≤ a → J X ws q lv st) : J X ws pc lv (.int (iI a) :: st) := by
  obtain ⟨⟨p, l, e, R, s⟩, ⟨m, args, below, meth, c⟩, ⟨cells, slots, Q⟩, D, A, nL⟩ := X
  obtain ⟨hx, hb, hml, hnL, hown, hts, hA, hK, hfr, hlo, hce, hsl⟩ := C
  obtain ⟨off, hd, rfl, ht⟩ := d
  intro H locs ls hP hD hS hl
  have hb2 : -2147483648 ≤ (0 : Int) ∧ (0 : Int) < 2147483648 := by decide
  exact lv_if_lt hx hb hd ht (fun h => k1 ((iI_lt ha hb2).mp h) H locs ls hP hD hS hl) (fun h => k2 (Int.not_lt.mp fun z => h ((iI_lt ha hb2).mpr z)) H locs ls hP hD hS hl)
theorem j_cge (C : jC X cc own n tys fr lo) {a b : Int} (d : db cc pc (.if_icmp .ge) q t) (ha : -2147483648 ≤ a ∧ a < 2147483648) (hb2 : -2147483648 ≤ b ∧ b < 2147483648) (k1 : b ≤ a → J X ws t lv st) (k2 : a < b → J X ws q lv st) : J X ws pc lv (.int (iI b) :: .int (iI a) :: st) := by
  obtain ⟨⟨p, l, e, R, s⟩, ⟨m, args, below, meth, c⟩, ⟨cells, slots, Q⟩, D, A, nL⟩ := X
  obtain ⟨hx, hb, hml, hnL, hown, hts, hA, hK, hfr, hlo, hce, hsl⟩ := C
  obtain ⟨off, hd, rfl, ht⟩ := d
  intro H locs ls hP hD hS hl
  exact lv_icmp_ge hx hb hd ht (fun h => k1 ((iI_le hb2 ha).mp h) H locs ls hP hD hS hl) (fun h => k2 (Int.not_le.mp fun z => h ((iI_le hb2 ha).mpr z)) H locs ls hP hD hS hl)
theorem j_ifge (C : jC X cc own n tys fr lo) {a : Int} (d : db cc pc (.ifCond .ge) q t) (ha : -2147483648 ≤ a ∧ a < 2147483648) (k1 : 0 ≤ a → J X ws t lv st) (k2 : a < 0 → J X ws q lv st) : J X ws pc lv (.int (iI a) :: st) := by
  obtain ⟨⟨p, l, e, R, s⟩, ⟨m, args, below, meth, c⟩, ⟨cells, slots, Q⟩, D, A, nL⟩ := X
  obtain ⟨hx, hb, hml, hnL, hown, hts, hA, hK, hfr, hlo, hce, hsl⟩ := C
  obtain ⟨off, hd, rfl, ht⟩ := d
  intro H locs ls hP hD hS hl
  have hb2 : -2147483648 ≤ (0 : Int) ∧ (0 : Int) < 2147483648 := by decide
  exact lv_if_ge hx hb hd ht (fun h => k1 ((iI_le hb2 ha).mp h) H locs ls hP hD hS hl) (fun h => k2 (Int.not_le.mp fun z => h ((iI_le hb2 ha).mpr z)) H locs ls hP hD hS hl)
theorem j_cgt (C : jC X cc own n tys fr lo) {a b : Int} (d : db cc pc (.if_icmp .gt) q t) (ha : -2147483648 ≤ a ∧ a < 2147483648) (hb2 : -2147483648 ≤ b ∧ b < 2147483648) (k1 : b < a → J X ws t lv st) (k2 : a ≤ b → J X ws q lv st) : J X ws pc lv (.int (iI b) :: .int (iI a) :: st) := by
  obtain ⟨⟨p, l, e, R, s⟩, ⟨m, args, below, meth, c⟩, ⟨cells, slots, Q⟩, D, A, nL⟩ := X
  obtain ⟨hx, hb, hml, hnL, hown, hts, hA, hK, hfr, hlo, hce, hsl⟩ := C
  obtain ⟨off, hd, rfl, ht⟩ := d
  intro H locs ls hP hD hS hl
  exact lv_icmp_gt hx hb hd ht (fun h => k1 ((iI_lt hb2 ha).mp h) H locs ls hP hD hS hl) (fun h => k2 (Int.not_lt.mp fun z => h ((iI_lt hb2 ha).mpr z)) H locs ls hP hD hS hl)
theorem j_ifgt (C : jC X cc own n tys fr lo) {a : Int} (d : db cc pc (.ifCond .gt) q t) (ha : -2147483648 ≤ a ∧ a < 2147483648) (k1 : 0 < a → J X ws t lv st) (k2 : a ≤ 0 → J X ws q lv st) : J X ws pc lv (.int (iI a) :: st) := by
  obtain ⟨⟨p, l, e, R, s⟩, ⟨m, args, below, meth, c⟩, ⟨cells, slots, Q⟩, D, A, nL⟩ := X
  obtain ⟨hx, hb, hml, hnL, hown, hts, hA, hK, hfr, hlo, hce, hsl⟩ := C
  obtain ⟨off, hd, rfl, ht⟩ := d
  intro H locs ls hP hD hS hl
  have hb2 : -2147483648 ≤ (0 : Int) ∧ (0 : Int) < 2147483648 := by decide
  exact lv_if_gt hx hb hd ht (fun h => k1 ((iI_lt hb2 ha).mp h) H locs ls hP hD hS hl) (fun h => k2 (Int.not_lt.mp fun z => h ((iI_lt hb2 ha).mpr z)) H locs ls hP hD hS hl)
theorem j_cle (C : jC X cc own n tys fr lo) {a b : Int} (d : db cc pc (.if_icmp .le) q t) (ha : -2147483648 ≤ a ∧ a < 2147483648) (hb2 : -2147483648 ≤ b ∧ b < 2147483648) (k1 : a ≤ b → J X ws t lv st) (k2 : b < a → J X ws q lv st) : J X ws pc lv (.int (iI b) :: .int (iI a) :: st) := by
  obtain ⟨⟨p, l, e, R, s⟩, ⟨m, args, below, meth, c⟩, ⟨cells, slots, Q⟩, D, A, nL⟩ := X
  obtain ⟨hx, hb, hml, hnL, hown, hts, hA, hK, hfr, hlo, hce, hsl⟩ := C
  obtain ⟨off, hd, rfl, ht⟩ := d
  intro H locs ls hP hD hS hl
  exact lv_icmp_le hx hb hd ht (fun h => k1 ((iI_le ha hb2).mp h) H locs ls hP hD hS hl) (fun h => k2 (Int.not_le.mp fun z => h ((iI_le ha hb2).mpr z)) H locs ls hP hD hS hl)
theorem j_ifle (C : jC X cc own n tys fr lo) {a : Int} (d : db cc pc (.ifCond .le) q t) (ha : -2147483648 ≤ a ∧ a < 2147483648) (k1 : a ≤ 0 → J X ws t lv st) (k2 : 0 < a → J X ws q lv st) : J X ws pc lv (.int (iI a) :: st) := by
  obtain ⟨⟨p, l, e, R, s⟩, ⟨m, args, below, meth, c⟩, ⟨cells, slots, Q⟩, D, A, nL⟩ := X
  obtain ⟨hx, hb, hml, hnL, hown, hts, hA, hK, hfr, hlo, hce, hsl⟩ := C
  obtain ⟨off, hd, rfl, ht⟩ := d
  intro H locs ls hP hD hS hl
  have hb2 : -2147483648 ≤ (0 : Int) ∧ (0 : Int) < 2147483648 := by decide
  exact lv_if_le hx hb hd ht (fun h => k1 ((iI_le ha hb2).mp h) H locs ls hP hD hS hl) (fun h => k2 (Int.not_le.mp fun z => h ((iI_le ha hb2).mpr z)) H locs ls hP hD hS hl)
theorem j_ceqRT (C : jC X cc own n tys fr lo) {x y : Int32} (d : db cc pc (.if_icmp .eq) q t) (h : x = y) (k : J X ws t lv st) : J X ws pc lv (.int y :: .int x :: st) := by
  obtain ⟨⟨p, l, e, R, s⟩, ⟨m, args, below, meth, c⟩, ⟨cells, slots, Q⟩, D, A, nL⟩ := X
  obtain ⟨hx, hb, hml, hnL, hown, hts, hA, hK, hfr, hlo, hce, hsl⟩ := C
  obtain ⟨off, hd, rfl, ht⟩ := d
  intro H locs ls hP hD hS hl
  exact lv_icmp_eq hx hb hd ht (fun _ => k H locs ls hP hD hS hl) (fun z => absurd h z)
theorem j_cneR (C : jC X cc own n tys fr lo) {x y : Int32} (d : db cc pc (.if_icmp .ne) q t) (k1 : x ≠ y → J X ws t lv st) (k2 : x = y → J X ws q lv st) : J X ws pc lv (.int y :: .int x :: st) := by
  obtain ⟨⟨p, l, e, R, s⟩, ⟨m, args, below, meth, c⟩, ⟨cells, slots, Q⟩, D, A, nL⟩ := X
  obtain ⟨hx, hb, hml, hnL, hown, hts, hA, hK, hfr, hlo, hce, hsl⟩ := C
  obtain ⟨off, hd, rfl, ht⟩ := d
  intro H locs ls hP hD hS hl
  exact lv_icmp_ne hx hb hd ht (fun h => k1 h H locs ls hP hD hS hl) (fun h => k2 h H locs ls hP hD hS hl)
theorem j_ceqR (C : jC X cc own n tys fr lo) {x y : Int32} (d : db cc pc (.if_icmp .eq) q t) (k1 : x = y → J X ws t lv st) (k2 : x ≠ y → J X ws q lv st) : J X ws pc lv (.int y :: .int x :: st) := by
  obtain ⟨⟨p, l, e, R, s⟩, ⟨m, args, below, meth, c⟩, ⟨cells, slots, Q⟩, D, A, nL⟩ := X
  obtain ⟨hx, hb, hml, hnL, hown, hts, hA, hK, hfr, hlo, hce, hsl⟩ := C
  obtain ⟨off, hd, rfl, ht⟩ := d
  intro H locs ls hP hD hS hl
  exact lv_icmp_eq hx hb hd ht (fun h => k1 h H locs ls hP hD hS hl) (fun h => k2 h H locs ls hP hD hS hl)
theorem j_ifeqR (C : jC X cc own n tys fr lo) {x : Int32} (d : db cc pc (.ifCond .eq) q t) (k1 : x = iI 0 → J X ws t lv st) (k2 : x ≠ iI 0 → J X ws q lv st) : J X ws pc lv (.int x :: st) := by
  obtain ⟨⟨p, l, e, R, s⟩, ⟨m, args, below, meth, c⟩, ⟨cells, slots, Q⟩, D, A, nL⟩ := X
  obtain ⟨hx, hb, hml, hnL, hown, hts, hA, hK, hfr, hlo, hce, hsl⟩ := C
  obtain ⟨off, hd, rfl, ht⟩ := d
  intro H locs ls hP hD hS hl
  exact lv_if_eq hx hb hd ht (fun h => k1 h H locs ls hP hD hS hl) (fun h => k2 h H locs ls hP hD hS hl)
theorem j_ifneR (C : jC X cc own n tys fr lo) {x : Int32} (d : db cc pc (.ifCond .ne) q t) (k1 : x ≠ iI 0 → J X ws t lv st) (k2 : x = iI 0 → J X ws q lv st) : J X ws pc lv (.int x :: st) := by
  obtain ⟨⟨p, l, e, R, s⟩, ⟨m, args, below, meth, c⟩, ⟨cells, slots, Q⟩, D, A, nL⟩ := X
  obtain ⟨hx, hb, hml, hnL, hown, hts, hA, hK, hfr, hlo, hce, hsl⟩ := C
  obtain ⟨off, hd, rfl, ht⟩ := d
  intro H locs ls hP hD hS hl
  exact lv_if_ne hx hb hd ht (fun h => k1 h H locs ls hP hD hS hl) (fun h => k2 h H locs ls hP hD hS hl)
theorem j_ifeqB (C : jC X cc own n tys fr lo) {b : Bool} (d : db cc pc (.ifCond .eq) q t) (k1 : b = false → J X ws t lv st) (k2 : b = true → J X ws q lv st) : J X ws pc lv (.int (iI (zI b)) :: st) :=
  j_ifeq C d (by have := zI_r b; omega) (fun h => k1 (by cases b <;> first | rfl | exact absurd h (by decide))) (fun h => k2 (by cases b <;> first | rfl | exact absurd rfl h))
theorem j_ifneB (C : jC X cc own n tys fr lo) {b : Bool} (d : db cc pc (.ifCond .ne) q t) (k1 : b = true → J X ws t lv st) (k2 : b = false → J X ws q lv st) : J X ws pc lv (.int (iI (zI b)) :: st) :=
  j_ifne C d (by have := zI_r b; omega) (fun h => k1 (by cases b <;> first | rfl | exact absurd rfl h)) (fun h => k2 (by cases b <;> first | rfl | exact absurd h (by decide)))
end JR
def cQ (D : va_G) (ws : va_W) (sz : Nat) (post : va_W → Option Value → Prop) : Array Value → State → Outcome → State → Prop := fun _ st oc t => (∃ (w : va_W) (r : Option Value), post w r ∧ oc = .returned r ∧ va_P D cls w t.heap ∧ va_D (va_A ws sz) w) ∧ va_F (va_A ws sz) st t
/-- the contract of a method y (code cc, nL places for its own values, answer ret): from the world ws and the arguments as it comes to a world w and an answer r with post w r; it makes no cell -/
def mG (y : MethodName) (cc : ByteArray) (nL : Nat) (ret : Option FieldType) (fr lo : Nat) (tys : List (ClassId × FieldType)) (as : List Value) (ws : va_W) (post : va_W → Option Value → Prop) : Prop :=
  ∀ (l : Launch) (D : va_G) (sz : Nat), Met l y (ws_ y cc nL ret) ({ frames := fr, cells := 0, slots := 0, locals := lo } : Room) (va_Pc as (fun U => U.heap.size = sz ∧ va_P D cls ws U.heap ∧ va_K D cls tys U ∧ va_D (fun _ => True) ws)) (cQ D ws sz post) 0 0 (va_A ws sz)
def jIn (as : List Value) (nL : Nat) (lv : List (Option Value)) : Prop := (lg_sl as).length ≤ nL ∧ ∀ (i : Nat) (v : Value), lv[i]? = some (some v) → (i, v) ∈ lv_args 0 as ∧ v.category = 1
theorem lva_mem : ∀ (as : List Value) (i : Nat), (∀ v ∈ as, v.category = 1) → ∀ (j : Nat) (v : Value), as[j]? = some v → (i + j, v) ∈ lv_args i as := by
  intro as
  induction as with
  | nil => intro i _ j v h; simp at h
  | cons a as ih =>
    intro i hc j v h
    have ha : a.category = 1 := hc a List.mem_cons_self
    show (i + j, v) ∈ (i, a) :: lv_args (if a.category = 2 then i + 2 else i + 1) as
    rw [if_neg (by rw [ha]; decide)]
    cases j with
    | zero => rw [List.getElem?_cons_zero] at h; cases h; exact List.mem_cons_self
    | succ j =>
      rw [List.getElem?_cons_succ] at h
      have := ih (i + 1) (fun v hv => hc v (List.mem_cons_of_mem _ hv)) j v h
      rw [show i + (j + 1) = i + 1 + j by omega]
      exact List.mem_cons_of_mem _ this
theorem lgsl_len : ∀ as : List Value, (∀ v ∈ as, v.category = 1) → (lg_sl as).length = as.length := by
  intro as
  induction as with
  | nil => intro _; rfl
  | cons a as ih =>
    intro hc
    have ha : a.category = 1 := hc a List.mem_cons_self
    have := ih (fun v hv => hc v (List.mem_cons_of_mem _ hv))
    unfold lg_sl at this ⊢
    rw [List.flatMap_cons, List.length_append, this, if_neg (by rw [ha]; decide)]
    simp
    omega
theorem jIn_of (as : List Value) (k : Nat) (hc : ∀ v ∈ as, v.category = 1) : jIn as (as.length + k) (as.map some ++ List.replicate k none) := by
  refine ⟨by rw [lgsl_len as hc]; omega, fun i v h => ?_⟩
  rcases Nat.lt_or_ge i as.length with hi | hi
  · rw [List.getElem?_append_left (by simpa using hi), List.getElem?_map] at h
    cases h2 : as[i]? with
    | none => rw [h2] at h; cases h
    | some u =>
      rw [h2] at h
      cases h
      have := lva_mem as 0 hc i v h2
      rw [Nat.zero_add] at this
      exact ⟨this, hc v (List.mem_of_getElem? h2)⟩
  · rw [List.getElem?_append_right (by simpa using hi), List.getElem?_replicate] at h
    split at h <;> cases h
def jE (X : jX) (cc : ByteArray) (ret : Option FieldType) (post : va_W → Option Value → Prop) : Prop := match ret with
  | none => ∀ (w : va_W) (pc q : Nat) (lv : List (Option Value)), post w none → dk cc pc .return_ 1 q → J X w pc lv []
  | some ty => ∀ (w : va_W) (v : Int32) (pc q : Nat) (lv : List (Option Value)), post w (some (.int v)) → narrow ty (.int v) = .int v → dk cc pc .ireturn 1 q → J X w pc lv [.int v]
theorem mG_of {y : MethodName} {cc : ByteArray} {nL : Nat} {ret : Option FieldType} {fr lo : Nat} {tys : List (ClassId × FieldType)} {as : List Value} {ws : va_W} {post : va_W → Option Value → Prop} {own : String} {lv : List (Option Value)} (hy : plainName y.cls = true) (ho : y.cls = own) (hlv : jIn as nL lv)
    (h : ∀ X : jX, jC X cc own nL tys fr lo → jE X cc ret post → J X ws 0 lv []) : mG y cc nL ret fr lo tys as ws post := by
  intro l D sz
  refine Met.ofW (cc := cc) (maxL := nL) (ret := ret) hy rfl ?_
  intro p e s m args below meth c s₁ B hml hv
  obtain ⟨rfl, hsz, hP, hK, hD0⟩ := hv
  have hx := B.exec
  have hb := B.bytes
  have hr := B.returns
  have hts0 := atoms_spec (ws := ws_ y cc nL ret) B.pre
  have hts : ∀ w ∈ lw_all, w.before _ s = true := fun w h => hts0 w (List.mem_cons_of_mem _ h)
  have hown : s.vm.findClass own = some m.cls := by rw [← ho]; exact findClass_of_methodNamed B.named
  have hlocks := B.notSynchronized
  subst hsz
  have hD := hD0.self (sz := s.heap.size)
  have hA : ∀ q : Nat, s.heap.size ≤ q → va_A ws s.heap.size q := fun q h => Or.inr h
  have hS : va_S (va_A ws s.heap.size) s.heap s.heap [] := va_S.rf
  have hl := lv_entry as (n := nL) hlv.1
  rw [lg_entry_eq]
  have hl2 : jL ((lg_sl as ++ List.replicate (nL - (lg_sl as).length) Slot.unset).toArray) nL lv := ⟨hl.1, hl.2.1, fun i v hi => ⟨hl.2.2 (i, v) (hlv.2 i v hi).1, (hlv.2 i v hi).2⟩⟩
  refine h ((p, l, e, (headSpec (ws_ y cc nL ret) ({ frames := fr, cells := 0, slots := 0, locals := lo } : Room)).room, s), (m, as.toArray, below, meth, c), (0, 0, MQ below (cQ D ws s.heap.size post) as.toArray s 0 0 (va_A ws s.heap.size)), (D, va_A ws s.heap.size, nL)) ?_ ?_ s.heap [] _ hP hD hS hl2
  · exact ⟨hx, hb, hml, rfl, hown, hts, hA, hK, Nat.le_refl fr, Nat.le_refl lo, Nat.zero_le _, Nat.zero_le _⟩
  · cases ret with
    | none =>
      intro w pc q lv hp d H locs ls hP hD hS hl
      exact W.vret hx hb hr (fun t ht hW => ⟨⟨w, none, hp, rfl, by rw [ht]; exact hP, hD⟩, hS.F ht⟩) hS.2.2 d.1
    | some ty =>
      intro w v pc q lv hp hn d H locs ls hP hD hS hl
      exact W.zret hx hb hr hn (fun t ht hW => ⟨⟨w, some (.int v), hp, rfl, by rw [ht]; exact hP, hD⟩, hS.F ht⟩) hS.2.2 d.1
theorem j_vret {X : jX} {cc : ByteArray} {post : va_W → Option Value → Prop} {w : va_W} {pc q : Nat} {lv : List (Option Value)} (E : jE X cc none post) (d : dk cc pc .return_ 1 q) (hp : post w none) : J X w pc lv [] := E w pc q lv hp d
theorem j_iret {X : jX} {cc : ByteArray} {post : va_W → Option Value → Prop} {w : va_W} {pc q : Nat} {lv : List (Option Value)} {v : Int32} (E : jE X cc (some .int) post) (d : dk cc pc .ireturn 1 q) (hp : post w (some (.int v))) : J X w pc lv [.int v] := E w v pc q lv hp (vp_nar_int v) d
theorem nar_z (b : Bool) : narrow .boolean (.int (iI (zI b))) = .int (iI (zI b)) := by cases b <;> rfl
theorem j_zret {X : jX} {cc : ByteArray} {post : va_W → Option Value → Prop} {w : va_W} {pc q : Nat} {lv : List (Option Value)} {b : Bool} (E : jE X cc (some .boolean) post) (d : dk cc pc .ireturn 1 q) (hp : post w (some (.int (iI (zI b))))) : J X w pc lv [.int (iI (zI b))] := E w _ pc q lv hp (nar_z b) d
/-- what a call through an object asks of the tables -/
def jW (own : String) (idx : Nat) (C : String) (y : MethodName) (b : ByteArray) (L : Nat) (r : Option FieldType) (na : Nat) : Prop := GoodIn lw_all (wsV own idx C y (ws_ y b L r)) ∧ (y.cls = C ∧ y.cls ≠ "java/lang/invoke/MethodHandle" ∧ y.cls ≠ "java/lang/invoke/VarHandle" ∧ (parseMethodDescriptor y.desc).map (fun d => d.parameters.length) = some na)
theorem j_callQ {p : Program} {l : Launch} {e : Env} {R : Room} {s : State} {m : MethodId} {args a : Array Value} {below : List Frame} {meth : Method} {c : Code} {H : Heap} {locs : List Loc} {cells slots pc sz : Nat} {Q : State → Prop} {ls : Array Slot} {st0 rest : List Value} {A : Nat → Prop} {D : va_G} {wc : va_W} {post : va_W → Option Value → Prop} {free : Addr → Prop}
    (hr : va_Run p l e R s m args below meth c H locs cells slots 0 0 (F0 m pc ls st0) rest (cQ D wc sz post a) free) (hS : va_S A s.heap H locs) (hA : ∀ q, q < H.size → va_A wc sz q → A q) (hf : ∀ q, free q → A q)
    (kk : ∀ (w : va_W) (r : Option Value) (H1 : Heap) (locs1 : List Loc), post w r → va_P D cls w H1 → va_D (va_A wc sz) w → (∀ q : Nat, q < H.size → ¬ va_A wc sz q → H1[q]? = H[q]?) → va_S A s.heap H1 locs1 → W p l e R s m args below meth c H1 locs1 cells slots Q (F0 m (pc + 3) ls (r.toList ++ rest))) : W p l e R s m args below meth c H locs cells slots Q (F0 m pc ls st0) := by
  intro T hT X
  obtain ⟨v, st₀, t, T', L, h0, X', hL, e1, e2, ⟨⟨w, r, hp, hv, hP1, hD1⟩, hz, hk⟩, st⟩ := hr T hT X
  cases hv
  rw [h0] at hz hk
  obtain ⟨t2, a1, b1⟩ := kk w v T'.heap (locs ++ L) hp (by rw [e1]; exact hP1) hD1 (fun q h1 h2 => by rw [e1]; exact hk q h1 h2)
    ⟨Nat.le_trans hS.1 (by rw [e1]; exact hz), fun q h1 h2 => by rw [e1, hk q (Nat.lt_of_lt_of_le h1 hS.1) (fun z => h2 (hA q (Nat.lt_of_lt_of_le h1 hS.1) z))]; exact hS.2.1 q h1 h2, fun q hq => by
      rcases List.mem_append.mp hq with h | h
      · exact hS.2.2 q h
      · exact hf _ (hL q h)⟩ T' rfl X'
  exact ⟨t2, st t2 a1, b1⟩
theorem va_A_in {A0 : Nat → Prop} {ws : va_W} {H0 H : Heap} {locs : List Loc} (hD : va_D A0 ws) (hS : va_S A0 H0 H locs) (hA : ∀ q, H0.size ≤ q → A0 q) : ∀ q, va_A ws H.size q → A0 q := by
  intro q h
  rcases h with ⟨k, e, h⟩ | h
  · exact hD.2 k _ h
  · exact hA q (Nat.le_trans hS.1 h)
theorem va_D_wk {A0 : Nat → Prop} {wc w : va_W} {sz : Nat} (h : ∀ q, va_A wc sz q → A0 q) (hD : va_D (va_A wc sz) w) : va_D A0 w := hD.weaken (fun _ q _ hq => h q.1 hq)
/-- a call whose world is the caller's -/
theorem j_call {X : jX} {cc : ByteArray} {own : String} {n : Nat} {tys : List (ClassId × FieldType)} {fr lo : Nat} {ws : va_W} {pc q : Nat} {lv : List (Option Value)} {st : List Value} (C : jC X cc own n tys fr lo) {y : MethodName} {b : ByteArray} {nL : Nat} {ret : Option FieldType} {fr' lo' : Nat} {as rest : List Value} {post : va_W → Option Value → Prop} {idx na ci h : Nat} {fs : List Value} {TN : u_T × Nat}
    (hW : jW own idx own y b nL ret na) (hM : mG y b nL ret fr' lo' tys (.ref h :: as) ws post) (hcl : cls[ci]? = some (own, TN)) (hrec : ws[0]? = some (h, .inr (ci, fs))) (hR : fr' + 1 ≤ fr ∧ 8 + (nL + 11) + lo' ≤ lo) (hna : as.length = na) (hst : st = as.reverse ++ .ref h :: rest) (hrest : (rest.map fun v => v.category).sum ≤ 8) (d : dk cc pc (.invokevirtual idx) 3 q)
    (k : ∀ (w : va_W) (r : Option Value), post w r → J X w q lv (r.toList ++ rest)) : J X ws pc lv st := by
  obtain ⟨⟨p, l, e, R, s⟩, ⟨m, args, below, meth, c⟩, ⟨cells, slots, Q⟩, D, A, nL0⟩ := X
  obtain ⟨hx, hb, hml, hnL, hown, hts, hA, hK, hfr, hlo, hce, hsl⟩ := C
  obtain ⟨hd, rfl⟩ := d
  intro H locs ls hP hD hS hl
  subst hst
  have hFc := va_A_in hD hS hA
  refine j_callQ (va_runV (nL := nL0) (rest := rest) ⟨hx, hb, hml.trans hnL.symm, hown, hts⟩ (hM l D H.size) (cwV na hts hW.1 rfl rfl rfl hW.2 ⟨Nat.le_trans hR.1 hfr, Nat.le_trans hR.2 hlo⟩) ⟨fun a U g mk q => ?_, va_recv hK hP hcl hrec, fun U hU hWu => ⟨rfl, by rw [hU], by rw [hU]; exact hP, va_K.moved hWu.alike hK, hD.weaken (fun _ _ _ _ => trivial)⟩⟩ rfl hna hl.1 rfl (lv_room hrest) hd ⟨hce, hsl⟩) hS (fun q _ h => hFc q h) hFc (fun w r H1 locs1 hp hP1 hD1 _ hS1 => ?_)
  · obtain ⟨q0, q1, qP, qK, qD⟩ := q
    exact ⟨q0, q1, qP, va_K.moved (u := U) (U := U.calling g mk a) (Vm.Alike.refl U.vm) qK, qD⟩
  · exact k w r hp H1 locs1 ls hP1 (va_D_wk hFc hD1) hS1 hl
/-- a call whose world is a part of the caller's -/
theorem j_callL {X : jX} {cc : ByteArray} {own : String} {n : Nat} {tys : List (ClassId × FieldType)} {fr lo : Nat} {ws : va_W} {pc q : Nat} {lv : List (Option Value)} {st : List Value} (C : jC X cc own n tys fr lo) {y : MethodName} {b : ByteArray} {nL : Nat} {ret : Option FieldType} {fr' lo' : Nat} {as rest : List Value} {post : va_W → Option Value → Prop} {idx na ci h : Nat} {fs : List Value} {TN : u_T × Nat} {Cr : String} {tysc : List (ClassId × FieldType)} {wc wr : va_W}
    (hW : jW own idx Cr y b nL ret na) (hM : mG y b nL ret fr' lo' tysc (.ref h :: as) wc post) (isT isC isR : List Nat) (hT : isT.filterMap (fun i => tys[i]?) = tysc) (hC0 : isC.filterMap (fun i => ws[i]?) = wc) (hC : isC.map (fun i => ws[i]?) = wc.map some) (hRr : isR.map (fun i => ws[i]?) = wr.map some) (hnd : va_nd isR = true) (hndC : va_nd isC = true) (hdis : ∀ i ∈ isR, i ∉ isC) (hcl : cls[ci]? = some (Cr, TN)) (hrec : wc[0]? = some (h, .inr (ci, fs))) (hR : fr' + 1 ≤ fr ∧ 8 + (nL + 11) + lo' ≤ lo) (hna : as.length = na) (hst : st = as.reverse ++ .ref h :: rest) (hrest : (rest.map fun v => v.category).sum ≤ 8) (d : dk cc pc (.invokevirtual idx) 3 q)
    (k : ∀ (w : va_W) (r : Option Value), post w r → J X (wr ++ w) q lv (r.toList ++ rest)) : J X ws pc lv st := by
  obtain ⟨⟨p, l, e, R, s⟩, ⟨m, args, below, meth, c⟩, ⟨cells, slots, Q⟩, D, A, nL0⟩ := X
  obtain ⟨hx, hb, hml, hnL, hown, hts, hA, hK, hfr, hlo, hce, hsl⟩ := C
  obtain ⟨hd, rfl⟩ := d
  intro H locs ls hP hD hS hl
  subst hst
  have hPc := hP.sub isC hC0
  have hDc := hD.sub isC hndC hC
  have hKc := hK.sub isT hT
  have hFc := va_A_in hDc hS hA
  refine j_callQ (va_runV (nL := nL0) (rest := rest) ⟨hx, hb, hml.trans hnL.symm, hown, hts⟩ (hM l D H.size) (cwV na hts hW.1 rfl rfl rfl hW.2 ⟨Nat.le_trans hR.1 hfr, Nat.le_trans hR.2 hlo⟩) ⟨fun a U g mk q => ?_, va_recv hKc hPc hcl hrec, fun U hU hWu => ⟨rfl, by rw [hU], by rw [hU]; exact hPc, va_K.moved hWu.alike hKc, hDc.weaken (fun _ _ _ _ => trivial)⟩⟩ rfl hna hl.1 rfl (lv_room hrest) hd ⟨hce, hsl⟩) hS (fun q _ h => hFc q h) hFc (fun w r H1 locs1 hp hP1 hD1 hk1 hS1 => ?_)
  · obtain ⟨q0, q1, qP, qK, qD⟩ := q
    exact ⟨q0, q1, qP, va_K.moved (u := U) (U := U.calling g mk a) (Vm.Alike.refl U.vm) qK, qD⟩
  · obtain ⟨hP2, hD2⟩ := va_join hP hD isC isR hC hRr hnd hdis hk1 hFc hP1 hD1
    exact k w r hp H1 locs1 ls hP2 hD2 hS1 hl
end
section
set_option maxRecDepth 100000
/-! the worlds of the two objects -/
def up {α : Type} (f : Nat → α) (k : Nat) (v : α) : Nat → α := fun j => if j = k then v else f j
theorem up_s {α : Type} (f : Nat → α) (k : Nat) (v : α) : up f k v k = v := if_pos rfl
theorem up_n {α : Type} (f : Nat → α) {k j : Nat} (v : α) (h : j ≠ k) : up f k v j = f j := if_neg h
theorem upd_b (f : Nat → Nat → Bool) (k : Nat) (g : Nat → Bool) : upd (fun y => bI (f y)) k (bI g) = fun y => bI (up f k g y) := by
  funext j
  unfold upd up
  by_cases h : j = k <;> simp [h]
theorem upd_z (f : Nat → Bool) (k : Nat) (g : Bool) : upd (fun y => iI (zI (f y))) k (iI (zI g)) = fun y => iI (zI (up f k g y)) := by
  funext j
  unfold upd up
  by_cases h : j = k <;> simp [h]
theorem upd_i (f : Nat → Int) (k : Nat) (g : Int) : upd (fun y => iI (f y)) k (iI g) = fun y => iI (up f k g y) := by
  funext j
  unfold upd up
  by_cases h : j = k <;> simp [h]
theorem iI_cl (k : Nat) (h : k < 2147483648) : (iI (k : Int)).toNatClampNeg = k := by rw [iI_n]; exact nI_clamp (by omega)
theorem iI_in {k N : Nat} (h : k < N) (hN : N < 2147483648) : vp_in (iI (k : Int)) N := by rw [iI_n]; exact vp_in_nI h (by omega)
theorem nar_bz (b : Bool) : vp_nar .boolean (iI (zI b)) = iI (zI b) := by cases b <;> rfl
theorem nar_by : ∀ k : Nat, k < 128 → vp_nar .byte (iI (k : Int)) = iI (k : Int) := by decide +kernel
theorem i2b_n : ∀ k : Nat, k < 128 → (iI (k : Int)).toInt8.toInt32 = iI (k : Int) := by decide +kernel
def cW (ad : Nat → Nat) (dc : Nat → ClassId) (pen : Int) (P F : Nat → Nat → Bool) (wt : Int) (rr rf rl : Nat → Int) : va_W :=
  [(ad 0, .inr (0, [.int (iI pen), .ref (ad 1), .ref (ad 2), .int (iI wt), .ref (ad 3), .ref (ad 4), .ref (ad 5)])), (ad 1, .inl (dc 1, 24, .inl (fun y => bI (P y)))), (ad 2, .inl (dc 2, 24, .inl (fun y => bI (F y)))), (ad 3, .inl (dc 3, 288, .inl (fun k => iI (rr k)))), (ad 4, .inl (dc 4, 288, .inl (fun k => iI (rf k)))), (ad 5, .inl (dc 5, 288, .inl (fun k => iI (rl k))))]
def cTy (dc : Nat → ClassId) : List (ClassId × FieldType) := [(dc 1, .int), (dc 2, .int), (dc 3, .byte), (dc 4, .byte), (dc 5, .byte)]
def mW (ad : Nat → Nat) (dc : Nat → ClassId) (S G : Nat → Bool) (pen : Int) : va_W :=
  [(ad 0, .inr (1, [.ref (ad 1), .ref (ad 2), .int (iI pen)])), (ad 1, .inl (dc 1, 576, .inl (fun k => iI (zI (S k))))), (ad 2, .inl (dc 2, 576, .inl (fun k => iI (zI (G k)))))]
def mTy (dc : Nat → ClassId) : List (ClassId × FieldType) := [(dc 1, .boolean), (dc 2, .boolean)]
section WR
variable {X : jX} {cc : ByteArray} {n : Nat} {fr lo : Nat} {pc q : Nat} {lv : List (Option Value)} {st : List Value} {ad : Nat → Nat} {dc : Nat → ClassId} {pen wt : Int} {P F : Nat → Nat → Bool} {rr rf rl : Nat → Int} {S G : Nat → Bool}
theorem x_get_pen (C : jC X cc RX0 n (cTy dc) fr lo) (d : dk cc pc (.getfield 26) 3 q) (k : J X (cW ad dc pen P F wt rr rf rl) q lv (.int (iI pen) :: st)) : J X (cW ad dc pen P F wt rr rf rl) pc lv (.ref (ad 0) :: st) := by
  obtain ⟨⟨p, l, e, R, s⟩, ⟨m, args, below, meth, c⟩, ⟨cells, slots, Q⟩, D, A, nL⟩ := X
  obtain ⟨hx, hb, hml, hnL, hown, hts, hA, hK, hfr, hlo, hce, hsl⟩ := C
  obtain ⟨hd, rfl⟩ := d
  intro H locs ls hP hD hS hl
  exact va_get (D := D) (ci := 0) (v := .int (iI pen)) (C := RX0) (T := TX0) (N := 7) hx hb hts in_X0 hown hK hP 0 rfl rfl 0 (by decide) (hts _ q39) (fun _ h9 => h9) rfl hd (k H locs ls hP hD hS hl)
theorem x_get_rows (C : jC X cc RX0 n (cTy dc) fr lo) (d : dk cc pc (.getfield 7) 3 q) (k : J X (cW ad dc pen P F wt rr rf rl) q lv (.ref (ad 1) :: st)) : J X (cW ad dc pen P F wt rr rf rl) pc lv (.ref (ad 0) :: st) := by
  obtain ⟨⟨p, l, e, R, s⟩, ⟨m, args, below, meth, c⟩, ⟨cells, slots, Q⟩, D, A, nL⟩ := X
  obtain ⟨hx, hb, hml, hnL, hown, hts, hA, hK, hfr, hlo, hce, hsl⟩ := C
  obtain ⟨hd, rfl⟩ := d
  intro H locs ls hP hD hS hl
  exact va_get (D := D) (ci := 0) (v := .ref (ad 1)) (C := RX0) (T := TX0) (N := 7) hx hb hts in_X0 hown hK hP 0 rfl rfl 1 (by decide) (hts _ q40) (fun _ h9 => h9) rfl hd (k H locs ls hP hD hS hl)
theorem x_get_fig (C : jC X cc RX0 n (cTy dc) fr lo) (d : dk cc pc (.getfield 13) 3 q) (k : J X (cW ad dc pen P F wt rr rf rl) q lv (.ref (ad 2) :: st)) : J X (cW ad dc pen P F wt rr rf rl) pc lv (.ref (ad 0) :: st) := by
  obtain ⟨⟨p, l, e, R, s⟩, ⟨m, args, below, meth, c⟩, ⟨cells, slots, Q⟩, D, A, nL⟩ := X
  obtain ⟨hx, hb, hml, hnL, hown, hts, hA, hK, hfr, hlo, hce, hsl⟩ := C
  obtain ⟨hd, rfl⟩ := d
  intro H locs ls hP hD hS hl
  exact va_get (D := D) (ci := 0) (v := .ref (ad 2)) (C := RX0) (T := TX0) (N := 7) hx hb hts in_X0 hown hK hP 0 rfl rfl 2 (by decide) (hts _ q41) (fun _ h9 => h9) rfl hd (k H locs ls hP hD hS hl)
theorem x_get_wt (C : jC X cc RX0 n (cTy dc) fr lo) (d : dk cc pc (.getfield 66) 3 q) (k : J X (cW ad dc pen P F wt rr rf rl) q lv (.int (iI wt) :: st)) : J X (cW ad dc pen P F wt rr rf rl) pc lv (.ref (ad 0) :: st) := by
  obtain ⟨⟨p, l, e, R, s⟩, ⟨m, args, below, meth, c⟩, ⟨cells, slots, Q⟩, D, A, nL⟩ := X
  obtain ⟨hx, hb, hml, hnL, hown, hts, hA, hK, hfr, hlo, hce, hsl⟩ := C
  obtain ⟨hd, rfl⟩ := d
  intro H locs ls hP hD hS hl
  exact va_get (D := D) (ci := 0) (v := .int (iI wt)) (C := RX0) (T := TX0) (N := 7) hx hb hts in_X0 hown hK hP 0 rfl rfl 3 (by decide) (hts _ q42) (fun _ h9 => h9) rfl hd (k H locs ls hP hD hS hl)
theorem x_get_rr (C : jC X cc RX0 n (cTy dc) fr lo) (d : dk cc pc (.getfield 16) 3 q) (k : J X (cW ad dc pen P F wt rr rf rl) q lv (.ref (ad 3) :: st)) : J X (cW ad dc pen P F wt rr rf rl) pc lv (.ref (ad 0) :: st) := by
  obtain ⟨⟨p, l, e, R, s⟩, ⟨m, args, below, meth, c⟩, ⟨cells, slots, Q⟩, D, A, nL⟩ := X
  obtain ⟨hx, hb, hml, hnL, hown, hts, hA, hK, hfr, hlo, hce, hsl⟩ := C
  obtain ⟨hd, rfl⟩ := d
  intro H locs ls hP hD hS hl
  exact va_get (D := D) (ci := 0) (v := .ref (ad 3)) (C := RX0) (T := TX0) (N := 7) hx hb hts in_X0 hown hK hP 0 rfl rfl 4 (by decide) (hts _ q43) (fun _ h9 => h9) rfl hd (k H locs ls hP hD hS hl)
theorem x_get_rf (C : jC X cc RX0 n (cTy dc) fr lo) (d : dk cc pc (.getfield 20) 3 q) (k : J X (cW ad dc pen P F wt rr rf rl) q lv (.ref (ad 4) :: st)) : J X (cW ad dc pen P F wt rr rf rl) pc lv (.ref (ad 0) :: st) := by
  obtain ⟨⟨p, l, e, R, s⟩, ⟨m, args, below, meth, c⟩, ⟨cells, slots, Q⟩, D, A, nL⟩ := X
  obtain ⟨hx, hb, hml, hnL, hown, hts, hA, hK, hfr, hlo, hce, hsl⟩ := C
  obtain ⟨hd, rfl⟩ := d
  intro H locs ls hP hD hS hl
  exact va_get (D := D) (ci := 0) (v := .ref (ad 4)) (C := RX0) (T := TX0) (N := 7) hx hb hts in_X0 hown hK hP 0 rfl rfl 5 (by decide) (hts _ q44) (fun _ h9 => h9) rfl hd (k H locs ls hP hD hS hl)
theorem x_get_rl (C : jC X cc RX0 n (cTy dc) fr lo) (d : dk cc pc (.getfield 23) 3 q) (k : J X (cW ad dc pen P F wt rr rf rl) q lv (.ref (ad 5) :: st)) : J X (cW ad dc pen P F wt rr rf rl) pc lv (.ref (ad 0) :: st) := by
  obtain ⟨⟨p, l, e, R, s⟩, ⟨m, args, below, meth, c⟩, ⟨cells, slots, Q⟩, D, A, nL⟩ := X
  obtain ⟨hx, hb, hml, hnL, hown, hts, hA, hK, hfr, hlo, hce, hsl⟩ := C
  obtain ⟨hd, rfl⟩ := d
  intro H locs ls hP hD hS hl
  exact va_get (D := D) (ci := 0) (v := .ref (ad 5)) (C := RX0) (T := TX0) (N := 7) hx hb hts in_X0 hown hK hP 0 rfl rfl 6 (by decide) (hts _ q45) (fun _ h9 => h9) rfl hd (k H locs ls hP hD hS hl)
theorem x_put_pen (C : jC X cc RX0 n (cTy dc) fr lo) {v : Int} (d : dk cc pc (.putfield 26) 3 q) (k : J X (cW ad dc v P F wt rr rf rl) q lv st) : J X (cW ad dc pen P F wt rr rf rl) pc lv (.int (iI v) :: .ref (ad 0) :: st) := by
  obtain ⟨⟨p, l, e, R, s⟩, ⟨m, args, below, meth, c⟩, ⟨cells, slots, Q⟩, D, A, nL⟩ := X
  obtain ⟨hx, hb, hml, hnL, hown, hts, hA, hK, hfr, hlo, hce, hsl⟩ := C
  obtain ⟨hd, rfl⟩ := d
  intro H locs ls hP hD hS hl
  exact va_put (D := D) (ci := 0) (v := .int (iI v)) (ty := .int) (C := RX0) (T := TX0) (N := 7) hx hb hts in_X0 tyX0 tyX0_ok nmX0 hown hK hP hD hS 0 rfl rfl 0 (by decide) (hts _ q39) (fun _ h9 => h9) rfl (by decide +kernel) rfl rfl (Nat.le_of_ble_eq_true rfl) hd (fun H1 locs1 hP1 hD1 hS1 => k H1 locs1 ls hP1 hD1 hS1 hl)
theorem x_put_wt (C : jC X cc RX0 n (cTy dc) fr lo) {v : Int} (d : dk cc pc (.putfield 66) 3 q) (k : J X (cW ad dc pen P F v rr rf rl) q lv st) : J X (cW ad dc pen P F wt rr rf rl) pc lv (.int (iI v) :: .ref (ad 0) :: st) := by
  obtain ⟨⟨p, l, e, R, s⟩, ⟨m, args, below, meth, c⟩, ⟨cells, slots, Q⟩, D, A, nL⟩ := X
  obtain ⟨hx, hb, hml, hnL, hown, hts, hA, hK, hfr, hlo, hce, hsl⟩ := C
  obtain ⟨hd, rfl⟩ := d
  intro H locs ls hP hD hS hl
  exact va_put (D := D) (ci := 0) (v := .int (iI v)) (ty := .int) (C := RX0) (T := TX0) (N := 7) hx hb hts in_X0 tyX0 tyX0_ok nmX0 hown hK hP hD hS 0 rfl rfl 3 (by decide) (hts _ q42) (fun _ h9 => h9) rfl (by decide +kernel) rfl rfl (Nat.le_of_ble_eq_true rfl) hd (fun H1 locs1 hP1 hD1 hS1 => k H1 locs1 ls hP1 hD1 hS1 hl)
theorem m_get_set (C : jC X cc RX1 n (mTy dc) fr lo) (d : dk cc pc (.getfield 7) 3 q) (k : J X (mW ad dc S G pen) q lv (.ref (ad 1) :: st)) : J X (mW ad dc S G pen) pc lv (.ref (ad 0) :: st) := by
  obtain ⟨⟨p, l, e, R, s⟩, ⟨m, args, below, meth, c⟩, ⟨cells, slots, Q⟩, D, A, nL⟩ := X
  obtain ⟨hx, hb, hml, hnL, hown, hts, hA, hK, hfr, hlo, hce, hsl⟩ := C
  obtain ⟨hd, rfl⟩ := d
  intro H locs ls hP hD hS hl
  exact va_get (D := D) (ci := 1) (v := .ref (ad 1)) (C := RX1) (T := TX1) (N := 3) hx hb hts in_X1 hown hK hP 0 rfl rfl 0 (by decide) (hts _ q184) (fun _ h9 => h9) rfl hd (k H locs ls hP hD hS hl)
theorem m_get_fig (C : jC X cc RX1 n (mTy dc) fr lo) (d : dk cc pc (.getfield 13) 3 q) (k : J X (mW ad dc S G pen) q lv (.ref (ad 2) :: st)) : J X (mW ad dc S G pen) pc lv (.ref (ad 0) :: st) := by
  obtain ⟨⟨p, l, e, R, s⟩, ⟨m, args, below, meth, c⟩, ⟨cells, slots, Q⟩, D, A, nL⟩ := X
  obtain ⟨hx, hb, hml, hnL, hown, hts, hA, hK, hfr, hlo, hce, hsl⟩ := C
  obtain ⟨hd, rfl⟩ := d
  intro H locs ls hP hD hS hl
  exact va_get (D := D) (ci := 1) (v := .ref (ad 2)) (C := RX1) (T := TX1) (N := 3) hx hb hts in_X1 hown hK hP 0 rfl rfl 1 (by decide) (hts _ q185) (fun _ h9 => h9) rfl hd (k H locs ls hP hD hS hl)
theorem m_get_pen (C : jC X cc RX1 n (mTy dc) fr lo) (d : dk cc pc (.getfield 16) 3 q) (k : J X (mW ad dc S G pen) q lv (.int (iI pen) :: st)) : J X (mW ad dc S G pen) pc lv (.ref (ad 0) :: st) := by
  obtain ⟨⟨p, l, e, R, s⟩, ⟨m, args, below, meth, c⟩, ⟨cells, slots, Q⟩, D, A, nL⟩ := X
  obtain ⟨hx, hb, hml, hnL, hown, hts, hA, hK, hfr, hlo, hce, hsl⟩ := C
  obtain ⟨hd, rfl⟩ := d
  intro H locs ls hP hD hS hl
  exact va_get (D := D) (ci := 1) (v := .int (iI pen)) (C := RX1) (T := TX1) (N := 3) hx hb hts in_X1 hown hK hP 0 rfl rfl 2 (by decide) (hts _ q186) (fun _ h9 => h9) rfl hd (k H locs ls hP hD hS hl)
theorem m_put_pen (C : jC X cc RX1 n (mTy dc) fr lo) {v : Int} (d : dk cc pc (.putfield 16) 3 q) (k : J X (mW ad dc S G v) q lv st) : J X (mW ad dc S G pen) pc lv (.int (iI v) :: .ref (ad 0) :: st) := by
  obtain ⟨⟨p, l, e, R, s⟩, ⟨m, args, below, meth, c⟩, ⟨cells, slots, Q⟩, D, A, nL⟩ := X
  obtain ⟨hx, hb, hml, hnL, hown, hts, hA, hK, hfr, hlo, hce, hsl⟩ := C
  obtain ⟨hd, rfl⟩ := d
  intro H locs ls hP hD hS hl
  exact va_put (D := D) (ci := 1) (v := .int (iI v)) (ty := .int) (C := RX1) (T := TX1) (N := 3) hx hb hts in_X1 tyX1 tyX1_ok nmX1 hown hK hP hD hS 0 rfl rfl 2 (by decide) (hts _ q186) (fun _ h9 => h9) rfl (by decide +kernel) rfl rfl (Nat.le_of_ble_eq_true rfl) hd (fun H1 locs1 hP1 hD1 hS1 => k H1 locs1 ls hP1 hD1 hS1 hl)
theorem x_rows_ld (C : jC X cc RX0 n (cTy dc) fr lo) {z : Int} {i : Nat} (d : dk cc pc .iaload 1 q) (hz : z = (i : Int)) (hi : i < 24) (k : J X (cW ad dc pen P F wt rr rf rl) q lv (.int (bI (P i)) :: st)) : J X (cW ad dc pen P F wt rr rf rl) pc lv (.int (iI z) :: .ref (ad 1) :: st) := by
  subst hz
  obtain ⟨⟨p, l, e, R, s⟩, ⟨m, args, below, meth, c⟩, ⟨cells, slots, Q⟩, D, A, nL⟩ := X
  obtain ⟨hx, hb, hml, hnL, hown, hts, hA, hK, hfr, hlo, hce, hsl⟩ := C
  obtain ⟨hd, rfl⟩ := d
  intro H locs ls hP hD hS hl
  refine va_iald (D := D) hx hb hK hP 1 0 rfl rfl (iI_in hi (by decide)) hd ?_
  rw [iI_cl i (by omega)]
  exact k H locs ls hP hD hS hl
theorem x_rows_st (C : jC X cc RX0 n (cTy dc) fr lo) {z : Int} {i : Nat} {g : Nat → Bool} (d : dk cc pc .iastore 1 q) (hz : z = (i : Int)) (hi : i < 24) (k : J X (cW ad dc pen (up P i g) F wt rr rf rl) q lv st) : J X (cW ad dc pen P F wt rr rf rl) pc lv (.int (bI g) :: .int (iI z) :: .ref (ad 1) :: st) := by
  subst hz
  obtain ⟨⟨p, l, e, R, s⟩, ⟨m, args, below, meth, c⟩, ⟨cells, slots, Q⟩, D, A, nL⟩ := X
  obtain ⟨hx, hb, hml, hnL, hown, hts, hA, hK, hfr, hlo, hce, hsl⟩ := C
  obtain ⟨hd, rfl⟩ := d
  intro H locs ls hP hD hS hl
  refine va_iast (D := D) hx hb hK hP hD hS 1 0 rfl rfl (iI_in hi (by decide)) hd (fun H1 locs1 hP1 hD1 hS1 => ?_)
  rw [iI_cl i (by omega), upd_b] at hP1 hD1
  exact k H1 locs1 ls hP1 hD1 hS1 hl
theorem x_fig_ld (C : jC X cc RX0 n (cTy dc) fr lo) {z : Int} {i : Nat} (d : dk cc pc .iaload 1 q) (hz : z = (i : Int)) (hi : i < 24) (k : J X (cW ad dc pen P F wt rr rf rl) q lv (.int (bI (F i)) :: st)) : J X (cW ad dc pen P F wt rr rf rl) pc lv (.int (iI z) :: .ref (ad 2) :: st) := by
  subst hz
  obtain ⟨⟨p, l, e, R, s⟩, ⟨m, args, below, meth, c⟩, ⟨cells, slots, Q⟩, D, A, nL⟩ := X
  obtain ⟨hx, hb, hml, hnL, hown, hts, hA, hK, hfr, hlo, hce, hsl⟩ := C
  obtain ⟨hd, rfl⟩ := d
  intro H locs ls hP hD hS hl
  refine va_iald (D := D) hx hb hK hP 2 1 rfl rfl (iI_in hi (by decide)) hd ?_
  rw [iI_cl i (by omega)]
  exact k H locs ls hP hD hS hl
theorem x_fig_st (C : jC X cc RX0 n (cTy dc) fr lo) {z : Int} {i : Nat} {g : Nat → Bool} (d : dk cc pc .iastore 1 q) (hz : z = (i : Int)) (hi : i < 24) (k : J X (cW ad dc pen P (up F i g) wt rr rf rl) q lv st) : J X (cW ad dc pen P F wt rr rf rl) pc lv (.int (bI g) :: .int (iI z) :: .ref (ad 2) :: st) := by
  subst hz
  obtain ⟨⟨p, l, e, R, s⟩, ⟨m, args, below, meth, c⟩, ⟨cells, slots, Q⟩, D, A, nL⟩ := X
  obtain ⟨hx, hb, hml, hnL, hown, hts, hA, hK, hfr, hlo, hce, hsl⟩ := C
  obtain ⟨hd, rfl⟩ := d
  intro H locs ls hP hD hS hl
  refine va_iast (D := D) hx hb hK hP hD hS 2 1 rfl rfl (iI_in hi (by decide)) hd (fun H1 locs1 hP1 hD1 hS1 => ?_)
  rw [iI_cl i (by omega), upd_b] at hP1 hD1
  exact k H1 locs1 ls hP1 hD1 hS1 hl
theorem x_rr_ld (C : jC X cc RX0 n (cTy dc) fr lo) {z : Int} {i : Nat} (d : dk cc pc .baload 1 q) (hz : z = (i : Int)) (hi : i < 288) (k : J X (cW ad dc pen P F wt rr rf rl) q lv (.int (iI (rr i)) :: st)) : J X (cW ad dc pen P F wt rr rf rl) pc lv (.int (iI z) :: .ref (ad 3) :: st) := by
  subst hz
  obtain ⟨⟨p, l, e, R, s⟩, ⟨m, args, below, meth, c⟩, ⟨cells, slots, Q⟩, D, A, nL⟩ := X
  obtain ⟨hx, hb, hml, hnL, hown, hts, hA, hK, hfr, hlo, hce, hsl⟩ := C
  obtain ⟨hd, rfl⟩ := d
  intro H locs ls hP hD hS hl
  refine va_bald (D := D) hx hb hK hP 3 2 rfl rfl (iI_in hi (by decide)) hd ?_
  rw [iI_cl i (by omega)]
  exact k H locs ls hP hD hS hl
theorem x_rr_st (C : jC X cc RX0 n (cTy dc) fr lo) {z : Int} {i : Nat} {g : Int} (d : dk cc pc .bastore 1 q) (hz : z = (i : Int)) (hi : i < 288) (hg : vp_nar .byte (iI g) = iI g) (k : J X (cW ad dc pen P F wt (up rr i g) rf rl) q lv st) : J X (cW ad dc pen P F wt rr rf rl) pc lv (.int (iI g) :: .int (iI z) :: .ref (ad 3) :: st) := by
  subst hz
  obtain ⟨⟨p, l, e, R, s⟩, ⟨m, args, below, meth, c⟩, ⟨cells, slots, Q⟩, D, A, nL⟩ := X
  obtain ⟨hx, hb, hml, hnL, hown, hts, hA, hK, hfr, hlo, hce, hsl⟩ := C
  obtain ⟨hd, rfl⟩ := d
  intro H locs ls hP hD hS hl
  refine va_bast (D := D) hx hb hK hP hD hS 3 2 rfl rfl (iI_in hi (by decide)) hd (fun H1 locs1 hP1 hD1 hS1 => ?_)
  rw [iI_cl i (by omega), hg, upd_i] at hP1 hD1
  exact k H1 locs1 ls hP1 hD1 hS1 hl
theorem x_rf_ld (C : jC X cc RX0 n (cTy dc) fr lo) {z : Int} {i : Nat} (d : dk cc pc .baload 1 q) (hz : z = (i : Int)) (hi : i < 288) (k : J X (cW ad dc pen P F wt rr rf rl) q lv (.int (iI (rf i)) :: st)) : J X (cW ad dc pen P F wt rr rf rl) pc lv (.int (iI z) :: .ref (ad 4) :: st) := by
  subst hz
  obtain ⟨⟨p, l, e, R, s⟩, ⟨m, args, below, meth, c⟩, ⟨cells, slots, Q⟩, D, A, nL⟩ := X
  obtain ⟨hx, hb, hml, hnL, hown, hts, hA, hK, hfr, hlo, hce, hsl⟩ := C
  obtain ⟨hd, rfl⟩ := d
  intro H locs ls hP hD hS hl
  refine va_bald (D := D) hx hb hK hP 4 3 rfl rfl (iI_in hi (by decide)) hd ?_
  rw [iI_cl i (by omega)]
  exact k H locs ls hP hD hS hl
theorem x_rf_st (C : jC X cc RX0 n (cTy dc) fr lo) {z : Int} {i : Nat} {g : Int} (d : dk cc pc .bastore 1 q) (hz : z = (i : Int)) (hi : i < 288) (hg : vp_nar .byte (iI g) = iI g) (k : J X (cW ad dc pen P F wt rr (up rf i g) rl) q lv st) : J X (cW ad dc pen P F wt rr rf rl) pc lv (.int (iI g) :: .int (iI z) :: .ref (ad 4) :: st) := by
  subst hz
  obtain ⟨⟨p, l, e, R, s⟩, ⟨m, args, below, meth, c⟩, ⟨cells, slots, Q⟩, D, A, nL⟩ := X
  obtain ⟨hx, hb, hml, hnL, hown, hts, hA, hK, hfr, hlo, hce, hsl⟩ := C
  obtain ⟨hd, rfl⟩ := d
  intro H locs ls hP hD hS hl
  refine va_bast (D := D) hx hb hK hP hD hS 4 3 rfl rfl (iI_in hi (by decide)) hd (fun H1 locs1 hP1 hD1 hS1 => ?_)
  rw [iI_cl i (by omega), hg, upd_i] at hP1 hD1
  exact k H1 locs1 ls hP1 hD1 hS1 hl
theorem x_rl_ld (C : jC X cc RX0 n (cTy dc) fr lo) {z : Int} {i : Nat} (d : dk cc pc .baload 1 q) (hz : z = (i : Int)) (hi : i < 288) (k : J X (cW ad dc pen P F wt rr rf rl) q lv (.int (iI (rl i)) :: st)) : J X (cW ad dc pen P F wt rr rf rl) pc lv (.int (iI z) :: .ref (ad 5) :: st) := by
  subst hz
  obtain ⟨⟨p, l, e, R, s⟩, ⟨m, args, below, meth, c⟩, ⟨cells, slots, Q⟩, D, A, nL⟩ := X
  obtain ⟨hx, hb, hml, hnL, hown, hts, hA, hK, hfr, hlo, hce, hsl⟩ := C
  obtain ⟨hd, rfl⟩ := d
  intro H locs ls hP hD hS hl
  refine va_bald (D := D) hx hb hK hP 5 4 rfl rfl (iI_in hi (by decide)) hd ?_
  rw [iI_cl i (by omega)]
  exact k H locs ls hP hD hS hl
theorem x_rl_st (C : jC X cc RX0 n (cTy dc) fr lo) {z : Int} {i : Nat} {g : Int} (d : dk cc pc .bastore 1 q) (hz : z = (i : Int)) (hi : i < 288) (hg : vp_nar .byte (iI g) = iI g) (k : J X (cW ad dc pen P F wt rr rf (up rl i g)) q lv st) : J X (cW ad dc pen P F wt rr rf rl) pc lv (.int (iI g) :: .int (iI z) :: .ref (ad 5) :: st) := by
  subst hz
  obtain ⟨⟨p, l, e, R, s⟩, ⟨m, args, below, meth, c⟩, ⟨cells, slots, Q⟩, D, A, nL⟩ := X
  obtain ⟨hx, hb, hml, hnL, hown, hts, hA, hK, hfr, hlo, hce, hsl⟩ := C
  obtain ⟨hd, rfl⟩ := d
  intro H locs ls hP hD hS hl
  refine va_bast (D := D) hx hb hK hP hD hS 5 4 rfl rfl (iI_in hi (by decide)) hd (fun H1 locs1 hP1 hD1 hS1 => ?_)
  rw [iI_cl i (by omega), hg, upd_i] at hP1 hD1
  exact k H1 locs1 ls hP1 hD1 hS1 hl
theorem m_set_ld (C : jC X cc RX1 n (mTy dc) fr lo) {z : Int} {i : Nat} (d : dk cc pc .baload 1 q) (hz : z = (i : Int)) (hi : i < 576) (k : J X (mW ad dc S G pen) q lv (.int (iI (zI (S i))) :: st)) : J X (mW ad dc S G pen) pc lv (.int (iI z) :: .ref (ad 1) :: st) := by
  subst hz
  obtain ⟨⟨p, l, e, R, s⟩, ⟨m, args, below, meth, c⟩, ⟨cells, slots, Q⟩, D, A, nL⟩ := X
  obtain ⟨hx, hb, hml, hnL, hown, hts, hA, hK, hfr, hlo, hce, hsl⟩ := C
  obtain ⟨hd, rfl⟩ := d
  intro H locs ls hP hD hS hl
  refine va_zald (D := D) hx hb hK hP 1 0 rfl rfl (iI_in hi (by decide)) hd ?_
  rw [iI_cl i (by omega)]
  exact k H locs ls hP hD hS hl
theorem m_set_st (C : jC X cc RX1 n (mTy dc) fr lo) {z : Int} {i : Nat} {g : Bool} (d : dk cc pc .bastore 1 q) (hz : z = (i : Int)) (hi : i < 576) (k : J X (mW ad dc (up S i g) G pen) q lv st) : J X (mW ad dc S G pen) pc lv (.int (iI (zI g)) :: .int (iI z) :: .ref (ad 1) :: st) := by
  subst hz
  obtain ⟨⟨p, l, e, R, s⟩, ⟨m, args, below, meth, c⟩, ⟨cells, slots, Q⟩, D, A, nL⟩ := X
  obtain ⟨hx, hb, hml, hnL, hown, hts, hA, hK, hfr, hlo, hce, hsl⟩ := C
  obtain ⟨hd, rfl⟩ := d
  intro H locs ls hP hD hS hl
  refine va_zast (D := D) hx hb hK hP hD hS 1 0 rfl rfl (iI_in hi (by decide)) hd (fun H1 locs1 hP1 hD1 hS1 => ?_)
  rw [iI_cl i (by omega), nar_bz, upd_z] at hP1 hD1
  exact k H1 locs1 ls hP1 hD1 hS1 hl
theorem m_fig_ld (C : jC X cc RX1 n (mTy dc) fr lo) {z : Int} {i : Nat} (d : dk cc pc .baload 1 q) (hz : z = (i : Int)) (hi : i < 576) (k : J X (mW ad dc S G pen) q lv (.int (iI (zI (G i))) :: st)) : J X (mW ad dc S G pen) pc lv (.int (iI z) :: .ref (ad 2) :: st) := by
  subst hz
  obtain ⟨⟨p, l, e, R, s⟩, ⟨m, args, below, meth, c⟩, ⟨cells, slots, Q⟩, D, A, nL⟩ := X
  obtain ⟨hx, hb, hml, hnL, hown, hts, hA, hK, hfr, hlo, hce, hsl⟩ := C
  obtain ⟨hd, rfl⟩ := d
  intro H locs ls hP hD hS hl
  refine va_zald (D := D) hx hb hK hP 2 1 rfl rfl (iI_in hi (by decide)) hd ?_
  rw [iI_cl i (by omega)]
  exact k H locs ls hP hD hS hl
theorem m_fig_st (C : jC X cc RX1 n (mTy dc) fr lo) {z : Int} {i : Nat} {g : Bool} (d : dk cc pc .bastore 1 q) (hz : z = (i : Int)) (hi : i < 576) (k : J X (mW ad dc S (up G i g) pen) q lv st) : J X (mW ad dc S G pen) pc lv (.int (iI (zI g)) :: .int (iI z) :: .ref (ad 2) :: st) := by
  subst hz
  obtain ⟨⟨p, l, e, R, s⟩, ⟨m, args, below, meth, c⟩, ⟨cells, slots, Q⟩, D, A, nL⟩ := X
  obtain ⟨hx, hb, hml, hnL, hown, hts, hA, hK, hfr, hlo, hce, hsl⟩ := C
  obtain ⟨hd, rfl⟩ := d
  intro H locs ls hP hD hS hl
  refine va_zast (D := D) hx hb hK hP hD hS 2 1 rfl rfl (iI_in hi (by decide)) hd (fun H1 locs1 hP1 hD1 hS1 => ?_)
  rw [iI_cl i (by omega), nar_bz, upd_z] at hP1 hD1
  exact k H1 locs1 ls hP1 hD1 hS1 hl
end WR
theorem kX0_30 : jW RX0 30 RX0 yX0_isPixel cX0_isPixel 2 (some .boolean) 1 := ⟨lw_V q71 q73 qs0 q29 q74, by decide +kernel⟩
theorem kX0_34 : jW RX0 34 RX0 yX0_clearFigure cX0_clearFigure 2 none 0 := ⟨lw_V q75 q77 qs1 q29 q78, by decide +kernel⟩
theorem kX0_37 : jW RX0 37 RX0 yX0_distance cX0_distance 3 (some .int) 2 := ⟨lw_V q79 q81 qs2 q29 q82, by decide +kernel⟩
theorem kX0_41 : jW RX0 41 RX0 yX0_walkLine cX0_walkLine 13 none 5 := ⟨lw_V q83 q85 qs3 q29 q86, by decide +kernel⟩
theorem kX0_45 : jW RX0 45 RX0 yX0_ink cX0_ink 4 (some .int) 0 := ⟨lw_V q91 q93 qs5 q29 q94, by decide +kernel⟩
theorem kX0_49 : jW RX0 49 RX0 yX0_drawBlot cX0_drawBlot 8 none 3 := ⟨lw_V q103 q105 qs7 q29 q106, by decide +kernel⟩
theorem kX0_53 : jW RX0 53 RX0 yX0_drawRing cX0_drawRing 6 none 3 := ⟨lw_V q115 q117 qs9 q29 q118, by decide +kernel⟩
theorem kX0_56 : jW RX0 56 RX0 yX0_drawCross cX0_drawCross 7 none 3 := ⟨lw_V q127 q129 qs11 q29 q130, by decide +kernel⟩
theorem kX0_59 : jW RX0 59 RX0 yX0_drawTriangle cX0_drawTriangle 15 none 3 := ⟨lw_V q135 q137 qs12 q29 q138, by decide +kernel⟩
theorem kX0_62 : jW RX0 62 RX0 yX0_get cX0_get 2 (some .int) 1 := ⟨lw_V q155 q156 q157 q29 q158, by decide +kernel⟩
theorem kX0_69 : jW RX0 69 RX0 yX0_addRun cX0_addRun 6 none 3 := ⟨lw_V q159 q161 qs16 q29 q162, by decide +kernel⟩
theorem kX0_72 : jW RX0 72 RX0 yX0_bitsIn cX0_bitsIn 4 (some .int) 1 := ⟨lw_V q95 q97 qs6 q29 q98, by decide +kernel⟩
theorem kX0_75 : jW RX0 75 RX0 yX0_count cX0_count 3 (some .int) 0 := ⟨lw_V q176 q165 q166 q29 q167, by decide +kernel⟩
theorem kX0_79 : jW RX0 79 RX0 yX0_dot cX0_dot 3 none 2 := ⟨lw_V q87 q89 qs4 q29 q90, by decide +kernel⟩
theorem kX0_83 : jW RX0 83 RX0 yX0_eightDots cX0_eightDots 6 none 4 := ⟨lw_V q119 q121 qs10 q29 q122, by decide +kernel⟩
theorem kX0_87 : jW RX0 87 RX0 yX0_run cX0_run 6 none 3 := ⟨lw_V q107 q109 qs8 q29 q110, by decide +kernel⟩
theorem kX0_90 : jW RX0 90 RX0 yX0_smallest cX0_smallest 5 (some .int) 3 := ⟨lw_V q139 q141 qs13 q29 q142, by decide +kernel⟩
theorem kX0_94 : jW RX0 94 RX0 yX0_greatest cX0_greatest 5 (some .int) 3 := ⟨lw_V q143 q145 qs14 q29 q146, by decide +kernel⟩
theorem kX0_97 : jW RX0 97 RX0 yX0_side cX0_side 7 (some .int) 4 := ⟨lw_V q147 q149 qs15 q29 q150, by decide +kernel⟩
theorem kL_13 : jW "RasterRulesLaw" 13 RX0 yX0_pen cX0_pen 2 (some .boolean) 1 := ⟨lw_V q63 q64 q65 q29 q66, by decide +kernel⟩
theorem kL_17 : jW "RasterRulesLaw" 17 RX1 yX1_pen cX1_pen 2 (some .boolean) 1 := ⟨lw_V q195 q196 q197 q30 q198, by decide +kernel⟩
theorem kL_18 : jW "RasterRulesLaw" 18 RX0 yX0_line cX0_line 5 (some .int) 2 := ⟨lw_V q67 q68 q69 q29 q70, by decide +kernel⟩
theorem kL_22 : jW "RasterRulesLaw" 22 RX1 yX1_line cX1_line 4 (some .int) 2 := ⟨lw_V q199 q200 q201 q30 q202, by decide +kernel⟩
theorem kL_23 : jW "RasterRulesLaw" 23 RX0 yX0_disc cX0_disc 3 (some .int) 2 := ⟨lw_V q99 q100 q101 q29 q102, by decide +kernel⟩
theorem kL_26 : jW "RasterRulesLaw" 26 RX1 yX1_disc cX1_disc 6 (some .int) 2 := ⟨lw_V q223 q224 q225 q30 q226, by decide +kernel⟩
theorem kL_27 : jW "RasterRulesLaw" 27 RX0 yX0_ring cX0_ring 3 (some .int) 2 := ⟨lw_V q111 q112 q113 q29 q114, by decide +kernel⟩
theorem kL_30 : jW "RasterRulesLaw" 30 RX1 yX1_ring cX1_ring 6 (some .int) 2 := ⟨lw_V q231 q232 q233 q30 q234, by decide +kernel⟩
theorem kL_31 : jW "RasterRulesLaw" 31 RX0 yX0_blot cX0_blot 4 (some .int) 3 := ⟨lw_V q123 q124 q125 q29 q126, by decide +kernel⟩
theorem kL_35 : jW "RasterRulesLaw" 35 RX1 yX1_blot cX1_blot 7 (some .int) 3 := ⟨lw_V q239 q240 q241 q30 q242, by decide +kernel⟩
theorem kL_36 : jW "RasterRulesLaw" 36 RX0 yX0_triangle cX0_triangle 4 (some .int) 3 := ⟨lw_V q131 q132 q133 q29 q134, by decide +kernel⟩
theorem kL_39 : jW "RasterRulesLaw" 39 RX1 yX1_triangle cX1_triangle 5 (some .int) 3 := ⟨lw_V q243 q244 q245 q30 q246, by decide +kernel⟩
theorem kL_40 : jW "RasterRulesLaw" 40 RX0 yX0_flood cX0_flood 8 (some .int) 1 := ⟨lw_V q151 q152 q153 q29 q154, by decide +kernel⟩
theorem kL_44 : jW "RasterRulesLaw" 44 RX1 yX1_flood cX1_flood 6 (some .int) 1 := ⟨lw_V q259 q260 q261 q30 q262, by decide +kernel⟩
theorem kL_45 : jW "RasterRulesLaw" 45 RX0 yX0_get cX0_get 2 (some .int) 1 := ⟨lw_V q163 q156 q157 q29 q158, by decide +kernel⟩
theorem kL_48 : jW "RasterRulesLaw" 48 RX1 yX1_get cX1_get 2 (some .int) 1 := ⟨lw_V q267 q268 q269 q30 q270, by decide +kernel⟩
theorem kL_49 : jW "RasterRulesLaw" 49 RX0 yX0_count cX0_count 3 (some .int) 0 := ⟨lw_V q164 q165 q166 q29 q167, by decide +kernel⟩
theorem kL_53 : jW "RasterRulesLaw" 53 RX1 yX1_count cX1_count 3 (some .int) 0 := ⟨lw_V q271 q272 q273 q30 q274, by decide +kernel⟩
theorem kL_54 : jW "RasterRulesLaw" 54 RX0 yX0_row cX0_row 2 (some .int) 1 := ⟨lw_V q168 q169 q170 q29 q171, by decide +kernel⟩
theorem kL_57 : jW "RasterRulesLaw" 57 RX1 yX1_row cX1_row 4 (some .int) 1 := ⟨lw_V q275 q276 q277 q30 q278, by decide +kernel⟩
theorem kL_58 : jW "RasterRulesLaw" 58 RX0 yX0_move cX0_move 5 (some .int) 2 := ⟨lw_V q172 q173 q174 q29 q175, by decide +kernel⟩
theorem kL_61 : jW "RasterRulesLaw" 61 RX1 yX1_move cX1_move 8 (some .int) 2 := ⟨lw_V q279 q280 q281 q30 q282, by decide +kernel⟩
theorem kX1_20 : jW RX1 20 RX1 yX1_size cX1_size 2 (some .int) 1 := ⟨lw_V q211 q213 qs19 q30 q214, by decide +kernel⟩
theorem kX1_24 : jW RX1 24 RX1 yX1_nearest cX1_nearest 9 (some .boolean) 6 := ⟨lw_V q215 q217 qs20 q30 q218, by decide +kernel⟩
theorem kX1_28 : jW RX1 28 RX1 yX1_isPixel cX1_isPixel 2 (some .boolean) 1 := ⟨lw_V q203 q205 qs17 q30 q206, by decide +kernel⟩
theorem kX1_32 : jW RX1 32 RX1 yX1_onLine cX1_onLine 7 (some .boolean) 6 := ⟨lw_V q207 q209 qs18 q30 q210, by decide +kernel⟩
theorem kX1_35 : jW RX1 35 RX1 yX1_ink cX1_ink 4 (some .int) 0 := ⟨lw_V q219 q221 qs21 q30 q222, by decide +kernel⟩
theorem kX1_39 : jW RX1 39 RX1 yX1_isRound cX1_isRound 3 (some .boolean) 2 := ⟨lw_V q227 q229 qs22 q30 q230, by decide +kernel⟩
theorem kX1_43 : jW RX1 43 RX1 yX1_onArc cX1_onArc 6 (some .boolean) 3 := ⟨lw_V q235 q237 qs23 q30 q238, by decide +kernel⟩
theorem kX1_47 : jW RX1 47 RX1 yX1_side cX1_side 5 (some .int) 4 := ⟨lw_V q251 q253 qs25 q30 q254, by decide +kernel⟩
theorem kX1_51 : jW RX1 51 RX1 yX1_between cX1_between 5 (some .boolean) 4 := ⟨lw_V q255 q257 qs26 q30 q258, by decide +kernel⟩
theorem kX1_55 : jW RX1 55 RX1 yX1_inTriangle cX1_inTriangle 10 (some .boolean) 5 := ⟨lw_V q247 q249 qs24 q30 q250, by decide +kernel⟩
theorem kX1_59 : jW RX1 59 RX1 yX1_besideFigure cX1_besideFigure 2 (some .boolean) 1 := ⟨lw_V q263 q265 qs27 q30 q266, by decide +kernel⟩
theorem kX1_62 : jW RX1 62 RX1 yX1_count cX1_count 3 (some .int) 0 := ⟨lw_V q283 q272 q273 q30 q274, by decide +kernel⟩
end
section
section BR
variable {X : jX} {cc : ByteArray} {own : String} {n : Nat} {tys : List (ClassId × FieldType)} {fr lo : Nat} {ws : va_W} {pc q t : Nat} {lv : List (Option Value)} {st : List Value}
theorem j_ceqT (C : jC X cc own n tys fr lo) {a b : Int} (d : db cc pc (.if_icmp .eq) q t) (ha : -2147483648 ≤ a ∧ a < 2147483648) (hb2 : -2147483648 ≤ b ∧ b < 2147483648) (h : a = b) (k : J X ws t lv st) : J X ws pc lv (.int (iI b) :: .int (iI a) :: st) := j_ceq C d ha hb2 (fun _ => k) (fun z => absurd z (by omega))
theorem j_ceqF (C : jC X cc own n tys fr lo) {a b : Int} (d : db cc pc (.if_icmp .eq) q t) (ha : -2147483648 ≤ a ∧ a < 2147483648) (hb2 : -2147483648 ≤ b ∧ b < 2147483648) (h : a ≠ b) (k : J X ws q lv st) : J X ws pc lv (.int (iI b) :: .int (iI a) :: st) := j_ceq C d ha hb2 (fun z => absurd z (by omega)) (fun _ => k)
theorem j_ifeqT (C : jC X cc own n tys fr lo) {a : Int} (d : db cc pc (.ifCond .eq) q t) (ha : -2147483648 ≤ a ∧ a < 2147483648) (h : a = 0) (k : J X ws t lv st) : J X ws pc lv (.int (iI a) :: st) := j_ifeq C d ha (fun _ => k) (fun z => absurd z (by omega))
theorem j_ifeqF (C : jC X cc own n tys fr lo) {a : Int} (d : db cc pc (.ifCond .eq) q t) (ha : -2147483648 ≤ a ∧ a < 2147483648) (h : a ≠ 0) (k : J X ws q lv st) : J X ws pc lv (.int (iI a) :: st) := j_ifeq C d ha (fun z => absurd z (by omega)) (fun _ => k)
theorem j_cneT (C : jC X cc own n tys fr lo) {a b : Int} (d : db cc pc (.if_icmp .ne) q t) (ha : -2147483648 ≤ a ∧ a < 2147483648) (hb2 : -2147483648 ≤ b ∧ b < 2147483648) (h : a ≠ b) (k : J X ws t lv st) : J X ws pc lv (.int (iI b) :: .int (iI a) :: st) := j_cne C d ha hb2 (fun _ => k) (fun z => absurd z (by omega))
theorem j_cneF (C : jC X cc own n tys fr lo) {a b : Int} (d : db cc pc (.if_icmp .ne) q t) (ha : -2147483648 ≤ a ∧ a < 2147483648) (hb2 : -2147483648 ≤ b ∧ b < 2147483648) (h : a = b) (k : J X ws q lv st) : J X ws pc lv (.int (iI b) :: .int (iI a) :: st) := j_cne C d ha hb2 (fun z => absurd z (by omega)) (fun _ => k)
theorem j_ifneT (C : jC X cc own n tys fr lo) {a : Int} (d : db cc pc (.ifCond .ne) q t) (ha : -2147483648 ≤ a ∧ a < 2147483648) (h : a ≠ 0) (k : J X ws t lv st) : J X ws pc lv (.int (iI a) :: st) := j_ifne C d ha (fun _ => k) (fun z => absurd z (by omega))
theorem j_ifneF (C : jC X cc own n tys fr lo) {a : Int} (d : db cc pc (.ifCond .ne) q t) (ha : -2147483648 ≤ a ∧ a < 2147483648) (h : a = 0) (k : J X ws q lv st) : J X ws pc lv (.int (iI a) :: st) := j_ifne C d ha (fun z => absurd z (by omega)) (fun _ => k)
theorem j_cltT (C : jC X cc own n tys fr lo) {a b : Int} (d : db cc pc (.if_icmp .lt) q t) (ha : -2147483648 ≤ a ∧ a < 2147483648) (hb2 : -2147483648 ≤ b ∧ b < 2147483648) (h : a < b) (k : J X ws t lv st) : J X ws pc lv (.int (iI b) :: .int (iI a) :: st) := j_clt C d ha hb2 (fun _ => k) (fun z => absurd z (by omega))
theorem j_cltF (C : jC X cc own n tys fr lo) {a b : Int} (d : db cc pc (.if_icmp .lt) q t) (ha : -2147483648 ≤ a ∧ a < 2147483648) (hb2 : -2147483648 ≤ b ∧ b < 2147483648) (h : b ≤ a) (k : J X ws q lv st) : J X ws pc lv (.int (iI b) :: .int (iI a) :: st) := j_clt C d ha hb2 (fun z => absurd z (by omega)) (fun _ => k)
theorem j_ifltT (C : jC X cc own n tys fr lo) {a : Int} (d : db cc pc (.ifCond .lt) q t) (ha : -2147483648 ≤ a ∧ a < 2147483648) (h : a < 0) (k : J X ws t lv st) : J X ws pc lv (.int (iI a) :: st) := j_iflt C d ha (fun _ => k) (fun z => absurd z (by omega))
theorem j_ifltF (C : jC X cc own n tys fr lo) {a : Int} (d : db cc pc (.ifCond .lt) q t) (ha : -2147483648 ≤ a ∧ a < 2147483648) (h : 0 ≤ a) (k : J X ws q lv st) : J X ws pc lv (.int (iI a) :: st) := j_iflt C d ha (fun z => absurd z (by omega)) (fun _ => k)
theorem j_cgeT (C : jC X cc own n tys fr lo) {a b : Int} (d : db cc pc (.if_icmp .ge) q t) (ha : -2147483648 ≤ a ∧ a < 2147483648) (hb2 : -2147483648 ≤ b ∧ b < 2147483648) (h : b ≤ a) (k : J X ws t lv st) : J X ws pc lv (.int (iI b) :: .int (iI a) :: st) := j_cge C d ha hb2 (fun _ => k) (fun z => absurd z (by omega))
theorem j_cgeF (C : jC X cc own n tys fr lo) {a b : Int} (d : db cc pc (.if_icmp .ge) q t) (ha : -2147483648 ≤ a ∧ a < 2147483648) (hb2 : -2147483648 ≤ b ∧ b < 2147483648) (h : a < b) (k : J X ws q lv st) : J X ws pc lv (.int (iI b) :: .int (iI a) :: st) := j_cge C d ha hb2 (fun z => absurd z (by omega)) (fun _ => k)
theorem j_ifgeT (C : jC X cc own n tys fr lo) {a : Int} (d : db cc pc (.ifCond .ge) q t) (ha : -2147483648 ≤ a ∧ a < 2147483648) (h : 0 ≤ a) (k : J X ws t lv st) : J X ws pc lv (.int (iI a) :: st) := j_ifge C d ha (fun _ => k) (fun z => absurd z (by omega))
theorem j_ifgeF (C : jC X cc own n tys fr lo) {a : Int} (d : db cc pc (.ifCond .ge) q t) (ha : -2147483648 ≤ a ∧ a < 2147483648) (h : a < 0) (k : J X ws q lv st) : J X ws pc lv (.int (iI a) :: st) := j_ifge C d ha (fun z => absurd z (by omega)) (fun _ => k)
theorem j_cgtT (C : jC X cc own n tys fr lo) {a b : Int} (d : db cc pc (.if_icmp .gt) q t) (ha : -2147483648 ≤ a ∧ a < 2147483648) (hb2 : -2147483648 ≤ b ∧ b < 2147483648) (h : b < a) (k : J X ws t lv st) : J X ws pc lv (.int (iI b) :: .int (iI a) :: st) := j_cgt C d ha hb2 (fun _ => k) (fun z => absurd z (by omega))
theorem j_cgtF (C : jC X cc own n tys fr lo) {a b : Int} (d : db cc pc (.if_icmp .gt) q t) (ha : -2147483648 ≤ a ∧ a < 2147483648) (hb2 : -2147483648 ≤ b ∧ b < 2147483648) (h : a ≤ b) (k : J X ws q lv st) : J X ws pc lv (.int (iI b) :: .int (iI a) :: st) := j_cgt C d ha hb2 (fun z => absurd z (by omega)) (fun _ => k)
theorem j_ifgtT (C : jC X cc own n tys fr lo) {a : Int} (d : db cc pc (.ifCond .gt) q t) (ha : -2147483648 ≤ a ∧ a < 2147483648) (h : 0 < a) (k : J X ws t lv st) : J X ws pc lv (.int (iI a) :: st) := j_ifgt C d ha (fun _ => k) (fun z => absurd z (by omega))
theorem j_ifgtF (C : jC X cc own n tys fr lo) {a : Int} (d : db cc pc (.ifCond .gt) q t) (ha : -2147483648 ≤ a ∧ a < 2147483648) (h : a ≤ 0) (k : J X ws q lv st) : J X ws pc lv (.int (iI a) :: st) := j_ifgt C d ha (fun z => absurd z (by omega)) (fun _ => k)
theorem j_cleT (C : jC X cc own n tys fr lo) {a b : Int} (d : db cc pc (.if_icmp .le) q t) (ha : -2147483648 ≤ a ∧ a < 2147483648) (hb2 : -2147483648 ≤ b ∧ b < 2147483648) (h : a ≤ b) (k : J X ws t lv st) : J X ws pc lv (.int (iI b) :: .int (iI a) :: st) := j_cle C d ha hb2 (fun _ => k) (fun z => absurd z (by omega))
theorem j_cleF (C : jC X cc own n tys fr lo) {a b : Int} (d : db cc pc (.if_icmp .le) q t) (ha : -2147483648 ≤ a ∧ a < 2147483648) (hb2 : -2147483648 ≤ b ∧ b < 2147483648) (h : b < a) (k : J X ws q lv st) : J X ws pc lv (.int (iI b) :: .int (iI a) :: st) := j_cle C d ha hb2 (fun z => absurd z (by omega)) (fun _ => k)
theorem j_ifleT (C : jC X cc own n tys fr lo) {a : Int} (d : db cc pc (.ifCond .le) q t) (ha : -2147483648 ≤ a ∧ a < 2147483648) (h : a ≤ 0) (k : J X ws t lv st) : J X ws pc lv (.int (iI a) :: st) := j_ifle C d ha (fun _ => k) (fun z => absurd z (by omega))
theorem j_ifleF (C : jC X cc own n tys fr lo) {a : Int} (d : db cc pc (.ifCond .le) q t) (ha : -2147483648 ≤ a ∧ a < 2147483648) (h : 0 < a) (k : J X ws q lv st) : J X ws pc lv (.int (iI a) :: st) := j_ifle C d ha (fun z => absurd z (by omega)) (fun _ => k)
theorem j_ifeqBT (C : jC X cc own n tys fr lo) {b : Bool} (d : db cc pc (.ifCond .eq) q t) (h : b = false) (k : J X ws t lv st) : J X ws pc lv (.int (iI (zI b)) :: st) := j_ifeqB C d (fun _ => k) (fun z => absurd (h.symm.trans z) (by decide))
theorem j_ifeqBF (C : jC X cc own n tys fr lo) {b : Bool} (d : db cc pc (.ifCond .eq) q t) (h : b = true) (k : J X ws q lv st) : J X ws pc lv (.int (iI (zI b)) :: st) := j_ifeqB C d (fun z => absurd (h.symm.trans z) (by decide)) (fun _ => k)
theorem j_ifneBT (C : jC X cc own n tys fr lo) {b : Bool} (d : db cc pc (.ifCond .ne) q t) (h : b = true) (k : J X ws t lv st) : J X ws pc lv (.int (iI (zI b)) :: st) := j_ifneB C d (fun _ => k) (fun z => absurd (h.symm.trans z) (by decide))
theorem j_ifneBF (C : jC X cc own n tys fr lo) {b : Bool} (d : db cc pc (.ifCond .ne) q t) (h : b = false) (k : J X ws q lv st) : J X ws pc lv (.int (iI (zI b)) :: st) := j_ifneB C d (fun z => absurd (h.symm.trans z) (by decide)) (fun _ => k)
end BR
theorem jIn_b (as : List Value) (k : Nat) (hc : as.all (fun v => v.category == 1) = true) : jIn as (as.length + k) (as.map some ++ List.replicate k none) := jIn_of as k (fun v hv => by
  have := List.all_eq_true.mp hc v hv
  simpa using this)
def pI (ws' : va_W) (v : Int32) : va_W → Option Value → Prop := fun w r => w = ws' ∧ r = some (.int v)
def pV (ws' : va_W) : va_W → Option Value → Prop := fun w r => w = ws' ∧ r = none
theorem x_callG {X : jX} {cc : ByteArray} {n : Nat} {fr lo : Nat} {pc q : Nat} {lv : List (Option Value)} {st : List Value} {ad : Nat → Nat} {dc : Nat → ClassId} {pen wt : Int} {P F : Nat → Nat → Bool} {rr rf rl : Nat → Int} (C : jC X cc RX0 n (cTy dc) fr lo) {y : MethodName} {b : ByteArray} {nL : Nat} {ret : Option FieldType} {fr' lo' : Nat} {as rest : List Value} {idx na : Nat} {post : va_W → Option Value → Prop} (hW : jW RX0 idx RX0 y b nL ret na) (hM : mG y b nL ret fr' lo' (cTy dc) (.ref (ad 0) :: as) (cW ad dc pen P F wt rr rf rl) post) (hR : fr' + 1 ≤ fr ∧ 8 + (nL + 11) + lo' ≤ lo) (hna : as.length = na) (hst : st = as.reverse ++ .ref (ad 0) :: rest) (hrest : (rest.map fun v => v.category).sum ≤ 8) (d : dk cc pc (.invokevirtual idx) 3 q) (k : ∀ (w : va_W) (r : Option Value), post w r → J X w q lv (r.toList ++ rest)) : J X (cW ad dc pen P F wt rr rf rl) pc lv st := j_call C hW hM (ci := 0) rfl rfl hR hna hst hrest d k
theorem x_callI {X : jX} {cc : ByteArray} {n : Nat} {fr lo : Nat} {pc q : Nat} {lv : List (Option Value)} {st : List Value} {ad : Nat → Nat} {dc : Nat → ClassId} {pen wt : Int} {P F : Nat → Nat → Bool} {rr rf rl : Nat → Int} (C : jC X cc RX0 n (cTy dc) fr lo) {y : MethodName} {b : ByteArray} {nL : Nat} {ret : Option FieldType} {fr' lo' : Nat} {as rest : List Value} {idx na : Nat} {ws' : va_W} {v : Int32} (hW : jW RX0 idx RX0 y b nL ret na) (hM : mG y b nL ret fr' lo' (cTy dc) (.ref (ad 0) :: as) (cW ad dc pen P F wt rr rf rl) (pI ws' v)) (hR : fr' + 1 ≤ fr ∧ 8 + (nL + 11) + lo' ≤ lo) (hna : as.length = na) (hst : st = as.reverse ++ .ref (ad 0) :: rest) (hrest : (rest.map fun v => v.category).sum ≤ 8) (d : dk cc pc (.invokevirtual idx) 3 q) (k : J X ws' q lv (.int v :: rest)) : J X (cW ad dc pen P F wt rr rf rl) pc lv st := j_call C hW hM (ci := 0) rfl rfl hR hna hst hrest d (fun w r h => by obtain ⟨rfl, rfl⟩ := h; exact k)
theorem x_callV {X : jX} {cc : ByteArray} {n : Nat} {fr lo : Nat} {pc q : Nat} {lv : List (Option Value)} {st : List Value} {ad : Nat → Nat} {dc : Nat → ClassId} {pen wt : Int} {P F : Nat → Nat → Bool} {rr rf rl : Nat → Int} (C : jC X cc RX0 n (cTy dc) fr lo) {y : MethodName} {b : ByteArray} {nL : Nat} {ret : Option FieldType} {fr' lo' : Nat} {as rest : List Value} {idx na : Nat} {ws' : va_W} (hW : jW RX0 idx RX0 y b nL ret na) (hM : mG y b nL ret fr' lo' (cTy dc) (.ref (ad 0) :: as) (cW ad dc pen P F wt rr rf rl) (pV ws')) (hR : fr' + 1 ≤ fr ∧ 8 + (nL + 11) + lo' ≤ lo) (hna : as.length = na) (hst : st = as.reverse ++ .ref (ad 0) :: rest) (hrest : (rest.map fun v => v.category).sum ≤ 8) (d : dk cc pc (.invokevirtual idx) 3 q) (k : J X ws' q lv rest) : J X (cW ad dc pen P F wt rr rf rl) pc lv st := j_call C hW hM (ci := 0) rfl rfl hR hna hst hrest d (fun w r h => by obtain ⟨rfl, rfl⟩ := h; exact k)
theorem m_callG {X : jX} {cc : ByteArray} {n : Nat} {fr lo : Nat} {pc q : Nat} {lv : List (Option Value)} {st : List Value} {ad : Nat → Nat} {dc : Nat → ClassId} {pen : Int} {S G : Nat → Bool} (C : jC X cc RX1 n (mTy dc) fr lo) {y : MethodName} {b : ByteArray} {nL : Nat} {ret : Option FieldType} {fr' lo' : Nat} {as rest : List Value} {idx na : Nat} {post : va_W → Option Value → Prop} (hW : jW RX1 idx RX1 y b nL ret na) (hM : mG y b nL ret fr' lo' (mTy dc) (.ref (ad 0) :: as) (mW ad dc S G pen) post) (hR : fr' + 1 ≤ fr ∧ 8 + (nL + 11) + lo' ≤ lo) (hna : as.length = na) (hst : st = as.reverse ++ .ref (ad 0) :: rest) (hrest : (rest.map fun v => v.category).sum ≤ 8) (d : dk cc pc (.invokevirtual idx) 3 q) (k : ∀ (w : va_W) (r : Option Value), post w r → J X w q lv (r.toList ++ rest)) : J X (mW ad dc S G pen) pc lv st := j_call C hW hM (ci := 1) rfl rfl hR hna hst hrest d k
theorem m_callI {X : jX} {cc : ByteArray} {n : Nat} {fr lo : Nat} {pc q : Nat} {lv : List (Option Value)} {st : List Value} {ad : Nat → Nat} {dc : Nat → ClassId} {pen : Int} {S G : Nat → Bool} (C : jC X cc RX1 n (mTy dc) fr lo) {y : MethodName} {b : ByteArray} {nL : Nat} {ret : Option FieldType} {fr' lo' : Nat} {as rest : List Value} {idx na : Nat} {ws' : va_W} {v : Int32} (hW : jW RX1 idx RX1 y b nL ret na) (hM : mG y b nL ret fr' lo' (mTy dc) (.ref (ad 0) :: as) (mW ad dc S G pen) (pI ws' v)) (hR : fr' + 1 ≤ fr ∧ 8 + (nL + 11) + lo' ≤ lo) (hna : as.length = na) (hst : st = as.reverse ++ .ref (ad 0) :: rest) (hrest : (rest.map fun v => v.category).sum ≤ 8) (d : dk cc pc (.invokevirtual idx) 3 q) (k : J X ws' q lv (.int v :: rest)) : J X (mW ad dc S G pen) pc lv st := j_call C hW hM (ci := 1) rfl rfl hR hna hst hrest d (fun w r h => by obtain ⟨rfl, rfl⟩ := h; exact k)
theorem m_callV {X : jX} {cc : ByteArray} {n : Nat} {fr lo : Nat} {pc q : Nat} {lv : List (Option Value)} {st : List Value} {ad : Nat → Nat} {dc : Nat → ClassId} {pen : Int} {S G : Nat → Bool} (C : jC X cc RX1 n (mTy dc) fr lo) {y : MethodName} {b : ByteArray} {nL : Nat} {ret : Option FieldType} {fr' lo' : Nat} {as rest : List Value} {idx na : Nat} {ws' : va_W} (hW : jW RX1 idx RX1 y b nL ret na) (hM : mG y b nL ret fr' lo' (mTy dc) (.ref (ad 0) :: as) (mW ad dc S G pen) (pV ws')) (hR : fr' + 1 ≤ fr ∧ 8 + (nL + 11) + lo' ≤ lo) (hna : as.length = na) (hst : st = as.reverse ++ .ref (ad 0) :: rest) (hrest : (rest.map fun v => v.category).sum ≤ 8) (d : dk cc pc (.invokevirtual idx) 3 q) (k : J X ws' q lv rest) : J X (mW ad dc S G pen) pc lv st := j_call C hW hM (ci := 1) rfl rfl hR hna hst hrest d (fun w r h => by obtain ⟨rfl, rfl⟩ := h; exact k)
abbrev gX0_pen (dc : Nat → ClassId) := mG yX0_pen cX0_pen 2 (some .boolean) 0 0 (cTy dc)
abbrev gX0_line (dc : Nat → ClassId) := mG yX0_line cX0_line 5 (some .int) 2 54 (cTy dc)
abbrev gX0_isPixel (dc : Nat → ClassId) := mG yX0_isPixel cX0_isPixel 2 (some .boolean) 0 0 (cTy dc)
abbrev gX0_clearFigure (dc : Nat → ClassId) := mG yX0_clearFigure cX0_clearFigure 2 none 0 0 (cTy dc)
abbrev gX0_distance (dc : Nat → ClassId) := mG yX0_distance cX0_distance 3 (some .int) 0 0 (cTy dc)
abbrev gX0_walkLine (dc : Nat → ClassId) := mG yX0_walkLine cX0_walkLine 13 none 1 22 (cTy dc)
abbrev gX0_dot (dc : Nat → ClassId) := mG yX0_dot cX0_dot 3 none 0 0 (cTy dc)
abbrev gX0_ink (dc : Nat → ClassId) := mG yX0_ink cX0_ink 4 (some .int) 1 23 (cTy dc)
abbrev gX0_bitsIn (dc : Nat → ClassId) := mG yX0_bitsIn cX0_bitsIn 4 (some .int) 0 0 (cTy dc)
abbrev gX0_disc (dc : Nat → ClassId) := mG yX0_disc cX0_disc 3 (some .int) 2 52 (cTy dc)
abbrev gX0_drawBlot (dc : Nat → ClassId) := mG yX0_drawBlot cX0_drawBlot 8 none 1 25 (cTy dc)
abbrev gX0_run (dc : Nat → ClassId) := mG yX0_run cX0_run 6 none 0 0 (cTy dc)
abbrev gX0_ring (dc : Nat → ClassId) := mG yX0_ring cX0_ring 3 (some .int) 3 72 (cTy dc)
abbrev gX0_drawRing (dc : Nat → ClassId) := mG yX0_drawRing cX0_drawRing 6 none 2 47 (cTy dc)
abbrev gX0_eightDots (dc : Nat → ClassId) := mG yX0_eightDots cX0_eightDots 6 none 1 22 (cTy dc)
abbrev gX0_blot (dc : Nat → ClassId) := mG yX0_blot cX0_blot 4 (some .int) 2 52 (cTy dc)
abbrev gX0_drawCross (dc : Nat → ClassId) := mG yX0_drawCross cX0_drawCross 7 none 1 25 (cTy dc)
abbrev gX0_triangle (dc : Nat → ClassId) := mG yX0_triangle cX0_triangle 4 (some .int) 2 60 (cTy dc)
abbrev gX0_drawTriangle (dc : Nat → ClassId) := mG yX0_drawTriangle cX0_drawTriangle 15 none 1 26 (cTy dc)
abbrev gX0_smallest (dc : Nat → ClassId) := mG yX0_smallest cX0_smallest 5 (some .int) 0 0 (cTy dc)
abbrev gX0_greatest (dc : Nat → ClassId) := mG yX0_greatest cX0_greatest 5 (some .int) 0 0 (cTy dc)
abbrev gX0_side (dc : Nat → ClassId) := mG yX0_side cX0_side 7 (some .int) 0 0 (cTy dc)
abbrev gX0_flood (dc : Nat → ClassId) := mG yX0_flood cX0_flood 8 (some .int) 2 42 (cTy dc)
abbrev gX0_get (dc : Nat → ClassId) := mG yX0_get cX0_get 2 (some .int) 1 21 (cTy dc)
abbrev gX0_addRun (dc : Nat → ClassId) := mG yX0_addRun cX0_addRun 6 none 0 0 (cTy dc)
abbrev gX0_count (dc : Nat → ClassId) := mG yX0_count cX0_count 3 (some .int) 1 23 (cTy dc)
abbrev gX0_row (dc : Nat → ClassId) := mG yX0_row cX0_row 2 (some .int) 0 0 (cTy dc)
abbrev gX0_move (dc : Nat → ClassId) := mG yX0_move cX0_move 5 (some .int) 2 45 (cTy dc)
abbrev gX1_pen (dc : Nat → ClassId) := mG yX1_pen cX1_pen 2 (some .boolean) 0 0 (mTy dc)
abbrev gX1_line (dc : Nat → ClassId) := mG yX1_line cX1_line 4 (some .int) 2 54 (mTy dc)
abbrev gX1_isPixel (dc : Nat → ClassId) := mG yX1_isPixel cX1_isPixel 2 (some .boolean) 0 0 (mTy dc)
abbrev gX1_onLine (dc : Nat → ClassId) := mG yX1_onLine cX1_onLine 7 (some .boolean) 1 28 (mTy dc)
abbrev gX1_size (dc : Nat → ClassId) := mG yX1_size cX1_size 2 (some .int) 0 0 (mTy dc)
abbrev gX1_nearest (dc : Nat → ClassId) := mG yX1_nearest cX1_nearest 9 (some .boolean) 0 0 (mTy dc)
abbrev gX1_ink (dc : Nat → ClassId) := mG yX1_ink cX1_ink 4 (some .int) 0 0 (mTy dc)
abbrev gX1_disc (dc : Nat → ClassId) := mG yX1_disc cX1_disc 6 (some .int) 2 43 (mTy dc)
abbrev gX1_isRound (dc : Nat → ClassId) := mG yX1_isRound cX1_isRound 3 (some .boolean) 1 21 (mTy dc)
abbrev gX1_ring (dc : Nat → ClassId) := mG yX1_ring cX1_ring 6 (some .int) 2 46 (mTy dc)
abbrev gX1_onArc (dc : Nat → ClassId) := mG yX1_onArc cX1_onArc 6 (some .boolean) 1 21 (mTy dc)
abbrev gX1_blot (dc : Nat → ClassId) := mG yX1_blot cX1_blot 7 (some .int) 2 43 (mTy dc)
abbrev gX1_triangle (dc : Nat → ClassId) := mG yX1_triangle cX1_triangle 5 (some .int) 2 53 (mTy dc)
abbrev gX1_inTriangle (dc : Nat → ClassId) := mG yX1_inTriangle cX1_inTriangle 10 (some .boolean) 1 24 (mTy dc)
abbrev gX1_side (dc : Nat → ClassId) := mG yX1_side cX1_side 5 (some .int) 0 0 (mTy dc)
abbrev gX1_between (dc : Nat → ClassId) := mG yX1_between cX1_between 5 (some .boolean) 0 0 (mTy dc)
abbrev gX1_flood (dc : Nat → ClassId) := mG yX1_flood cX1_flood 6 (some .int) 1 21 (mTy dc)
abbrev gX1_besideFigure (dc : Nat → ClassId) := mG yX1_besideFigure cX1_besideFigure 2 (some .boolean) 0 0 (mTy dc)
abbrev gX1_get (dc : Nat → ClassId) := mG yX1_get cX1_get 2 (some .int) 1 21 (mTy dc)
abbrev gX1_count (dc : Nat → ClassId) := mG yX1_count cX1_count 3 (some .int) 0 0 (mTy dc)
abbrev gX1_row (dc : Nat → ClassId) := mG yX1_row cX1_row 4 (some .int) 0 0 (mTy dc)
abbrev gX1_move (dc : Nat → ClassId) := mG yX1_move cX1_move 8 (some .int) 1 22 (mTy dc)
end
section
theorem zI_of_t {b : Bool} (h : b = true) : iI 1 = iI (zI b) := by rw [h]; rfl
theorem zI_of_f {b : Bool} (h : b = false) : iI 0 = iI (zI b) := by rw [h]; rfl
theorem j_zretv {X : jX} {cc : ByteArray} {post : va_W → Option Value → Prop} {w : va_W} {pc q : Nat} {lv : List (Option Value)} {v : Int32} {b : Bool} (E : jE X cc (some .boolean) post) (d : dk cc pc .ireturn 1 q) (hv : v = iI (zI b)) (hp : post w (some (.int (iI (zI b))))) : J X w pc lv [.int v] := by subst hv; exact j_zret E d hp
theorem j_iretv {X : jX} {cc : ByteArray} {post : va_W → Option Value → Prop} {w : va_W} {pc q : Nat} {lv : List (Option Value)} {v v' : Int32} (E : jE X cc (some .int) post) (d : dk cc pc .ireturn 1 q) (hv : v = v') (hp : post w (some (.int v'))) : J X w pc lv [.int v] := by subst hv; exact j_iret E d hp
def isPx (z : Int) : Bool := decide (0 ≤ z ∧ z % 32 < 24 ∧ z / 32 < 24)
theorem cx_isPixel (ad : Nat → Nat) (dc : Nat → ClassId) (pen : Int) (P F : Nat → Nat → Bool) (wt : Int) (rr rf rl : Nat → Int) (z : Int) (h1 : -2147483648 ≤ z) (h2 : z < 2147483648) : gX0_isPixel dc [.ref (ad 0), .int (iI z)] (cW ad dc pen P F wt rr rf rl) (pI (cW ad dc pen P F wt rr rf rl) (iI (zI (isPx z)))) := by
  refine mG_of (own := RX0) (lv := [some (.ref (ad 0)), some (.int (iI z))]) (by decide) rfl (jIn_b [.ref (ad 0), .int (iI z)] 0 rfl) ?_
  intro X C E
  refine j_il1 C eX0_isPixel_0 ?_
  refine j_iflt C eX0_isPixel_1 (by omega) (fun c1 => ?_) (fun c1 => ?_)
  · refine j_iconst C eX0_isPixel_25 ?_
    exact j_zretv E eX0_isPixel_26 (by first | exact zI_of_t (decide_eq_true (by omega)) | exact zI_of_f (decide_eq_false (by omega))) ⟨rfl, rfl⟩
  · refine j_il1 C eX0_isPixel_4 ?_
    refine j_bipush C eX0_isPixel_5 (by decide) ?_
    refine j_iand C eX0_isPixel_7 ?_
    refine j_val (iI_and31 _) ?_
    refine j_bipush C eX0_isPixel_8 (by decide) ?_
    refine j_cge C eX0_isPixel_10 (by omega) (by omega) (fun c10 => ?_) (fun c10 => ?_)
    · refine j_iconst C eX0_isPixel_25 ?_
      exact j_zretv E eX0_isPixel_26 (by first | exact zI_of_t (decide_eq_true (by omega)) | exact zI_of_f (decide_eq_false (by omega))) ⟨rfl, rfl⟩
    · refine j_il1 C eX0_isPixel_13 ?_
      refine j_iconst C eX0_isPixel_14 ?_
      refine j_ishr C eX0_isPixel_15 ?_
      refine j_val (iI_shr5 h1 h2) ?_
      refine j_bipush C eX0_isPixel_16 (by decide) ?_
      refine j_cge C eX0_isPixel_18 (by omega) (by omega) (fun c18 => ?_) (fun c18 => ?_)
      · refine j_iconst C eX0_isPixel_25 ?_
        exact j_zretv E eX0_isPixel_26 (by first | exact zI_of_t (decide_eq_true (by omega)) | exact zI_of_f (decide_eq_false (by omega))) ⟨rfl, rfl⟩
      · refine j_iconst C eX0_isPixel_21 ?_
        refine j_goto C eX0_isPixel_22 ?_
        exact j_zretv E eX0_isPixel_26 (by first | exact zI_of_t (decide_eq_true (by omega)) | exact zI_of_f (decide_eq_false (by omega))) ⟨rfl, rfl⟩
theorem cx_distance (ad : Nat → Nat) (dc : Nat → ClassId) (pen : Int) (P F : Nat → Nat → Bool) (wt : Int) (rr rf rl : Nat → Int) (a b : Int) (ha : -100000 ≤ a ∧ a ≤ 100000) (hb : -100000 ≤ b ∧ b ≤ 100000) : gX0_distance dc [.ref (ad 0), .int (iI a), .int (iI b)] (cW ad dc pen P F wt rr rf rl) (pI (cW ad dc pen P F wt rr rf rl) (iI ((a - b).natAbs : Int))) := by
  refine mG_of (own := RX0) (lv := [some (.ref (ad 0)), some (.int (iI a)), some (.int (iI b))]) (by decide) rfl (jIn_b [.ref (ad 0), .int (iI a), .int (iI b)] 0 rfl) ?_
  intro X C E
  refine j_il1 C eX0_distance_0 ?_
  refine j_il2 C eX0_distance_1 ?_
  refine j_cge C eX0_distance_2 (by omega) (by omega) (fun c2 => ?_) (fun c2 => ?_)
  · refine j_il1 C eX0_distance_11 ?_
    refine j_il2 C eX0_distance_12 ?_
    refine j_isub C eX0_distance_13 ?_
    exact j_iretv E eX0_distance_14 (by congr 1; omega) ⟨rfl, rfl⟩
  · refine j_il2 C eX0_distance_5 ?_
    refine j_il1 C eX0_distance_6 ?_
    refine j_isub C eX0_distance_7 ?_
    refine j_goto C eX0_distance_8 ?_
    exact j_iretv E eX0_distance_14 (by congr 1; omega) ⟨rfl, rfl⟩
theorem cx_smallest (ad : Nat → Nat) (dc : Nat → ClassId) (pen : Int) (P F : Nat → Nat → Bool) (wt : Int) (rr rf rl : Nat → Int) (a b c : Int) (ha : -100000 ≤ a ∧ a ≤ 100000) (hb : -100000 ≤ b ∧ b ≤ 100000) (hc : -100000 ≤ c ∧ c ≤ 100000) : gX0_smallest dc [.ref (ad 0), .int (iI a), .int (iI b), .int (iI c)] (cW ad dc pen P F wt rr rf rl) (pI (cW ad dc pen P F wt rr rf rl) (iI (min (min a b) c))) := by
  refine mG_of (own := RX0) (lv := [some (.ref (ad 0)), some (.int (iI a)), some (.int (iI b)), some (.int (iI c)), none]) (by decide) rfl (jIn_b [.ref (ad 0), .int (iI a), .int (iI b), .int (iI c)] 1 rfl) ?_
  intro X C E
  refine j_il1 C eX0_smallest_0 ?_
  refine j_il2 C eX0_smallest_1 ?_
  refine j_cge C eX0_smallest_2 (by omega) (by omega) (fun c2 => ?_) (fun c2 => ?_)
  · refine j_il2 C eX0_smallest_9 ?_
    refine j_is4 C eX0_smallest_10 (by decide) ?_
    refine j_il3 C eX0_smallest_12 ?_
    refine j_il4 C eX0_smallest_13 ?_
    refine j_cge C eX0_smallest_15 (by omega) (by omega) (fun c15 => ?_) (fun c15 => ?_)
    · refine j_il4 C eX0_smallest_22 ?_
      exact j_iretv E eX0_smallest_24 (by congr 1; omega) ⟨rfl, rfl⟩
    · refine j_il3 C eX0_smallest_18 ?_
      refine j_goto C eX0_smallest_19 ?_
      exact j_iretv E eX0_smallest_24 (by congr 1; omega) ⟨rfl, rfl⟩
  · refine j_il1 C eX0_smallest_5 ?_
    refine j_goto C eX0_smallest_6 ?_
    refine j_is4 C eX0_smallest_10 (by decide) ?_
    refine j_il3 C eX0_smallest_12 ?_
    refine j_il4 C eX0_smallest_13 ?_
    refine j_cge C eX0_smallest_15 (by omega) (by omega) (fun c15 => ?_) (fun c15 => ?_)
    · refine j_il4 C eX0_smallest_22 ?_
      exact j_iretv E eX0_smallest_24 (by congr 1; omega) ⟨rfl, rfl⟩
    · refine j_il3 C eX0_smallest_18 ?_
      refine j_goto C eX0_smallest_19 ?_
      exact j_iretv E eX0_smallest_24 (by congr 1; omega) ⟨rfl, rfl⟩
theorem cx_greatest (ad : Nat → Nat) (dc : Nat → ClassId) (pen : Int) (P F : Nat → Nat → Bool) (wt : Int) (rr rf rl : Nat → Int) (a b c : Int) (ha : -100000 ≤ a ∧ a ≤ 100000) (hb : -100000 ≤ b ∧ b ≤ 100000) (hc : -100000 ≤ c ∧ c ≤ 100000) : gX0_greatest dc [.ref (ad 0), .int (iI a), .int (iI b), .int (iI c)] (cW ad dc pen P F wt rr rf rl) (pI (cW ad dc pen P F wt rr rf rl) (iI (max (max a b) c))) := by
  refine mG_of (own := RX0) (lv := [some (.ref (ad 0)), some (.int (iI a)), some (.int (iI b)), some (.int (iI c)), none]) (by decide) rfl (jIn_b [.ref (ad 0), .int (iI a), .int (iI b), .int (iI c)] 1 rfl) ?_
  intro X C E
  refine j_il1 C eX0_greatest_0 ?_
  refine j_il2 C eX0_greatest_1 ?_
  refine j_cle C eX0_greatest_2 (by omega) (by omega) (fun c2 => ?_) (fun c2 => ?_)
  · refine j_il2 C eX0_greatest_9 ?_
    refine j_is4 C eX0_greatest_10 (by decide) ?_
    refine j_il3 C eX0_greatest_12 ?_
    refine j_il4 C eX0_greatest_13 ?_
    refine j_cle C eX0_greatest_15 (by omega) (by omega) (fun c15 => ?_) (fun c15 => ?_)
    · refine j_il4 C eX0_greatest_22 ?_
      exact j_iretv E eX0_greatest_24 (by congr 1; omega) ⟨rfl, rfl⟩
    · refine j_il3 C eX0_greatest_18 ?_
      refine j_goto C eX0_greatest_19 ?_
      exact j_iretv E eX0_greatest_24 (by congr 1; omega) ⟨rfl, rfl⟩
  · refine j_il1 C eX0_greatest_5 ?_
    refine j_goto C eX0_greatest_6 ?_
    refine j_is4 C eX0_greatest_10 (by decide) ?_
    refine j_il3 C eX0_greatest_12 ?_
    refine j_il4 C eX0_greatest_13 ?_
    refine j_cle C eX0_greatest_15 (by omega) (by omega) (fun c15 => ?_) (fun c15 => ?_)
    · refine j_il4 C eX0_greatest_22 ?_
      exact j_iretv E eX0_greatest_24 (by congr 1; omega) ⟨rfl, rfl⟩
    · refine j_il3 C eX0_greatest_18 ?_
      refine j_goto C eX0_greatest_19 ?_
      exact j_iretv E eX0_greatest_24 (by congr 1; omega) ⟨rfl, rfl⟩
def sideV (f t x y : Int) : Int := (t % 32 - f % 32) * (y - f / 32) - (t / 32 - f / 32) * (x - f % 32)
theorem cx_side (ad : Nat → Nat) (dc : Nat → ClassId) (pen : Int) (P F : Nat → Nat → Bool) (wt : Int) (rr rf rl : Nat → Int) (f t x y : Int) (hf : 0 ≤ f ∧ f < 2147483648) (ht : 0 ≤ t ∧ t < 2147483648) : gX0_side dc [.ref (ad 0), .int (iI f), .int (iI t), .int (iI x), .int (iI y)] (cW ad dc pen P F wt rr rf rl) (pI (cW ad dc pen P F wt rr rf rl) (iI (sideV f t x y))) := by
  refine mG_of (own := RX0) (lv := [some (.ref (ad 0)), some (.int (iI f)), some (.int (iI t)), some (.int (iI x)), some (.int (iI y)), none, none]) (by decide) rfl (jIn_b [.ref (ad 0), .int (iI f), .int (iI t), .int (iI x), .int (iI y)] 2 rfl) ?_
  intro X C E
  refine j_il2 C eX0_side_0 ?_
  refine j_bipush C eX0_side_1 (by decide) ?_
  refine j_iand C eX0_side_3 ?_
  refine j_val (iI_and31 _) ?_
  refine j_il1 C eX0_side_4 ?_
  refine j_bipush C eX0_side_5 (by decide) ?_
  refine j_iand C eX0_side_7 ?_
  refine j_val (iI_and31 _) ?_
  refine j_isub C eX0_side_8 ?_
  refine j_is5 C eX0_side_9 (by decide) ?_
  refine j_il2 C eX0_side_11 ?_
  refine j_iconst C eX0_side_12 ?_
  refine j_ishr C eX0_side_13 ?_
  refine j_val (iI_shr5 (by omega) (by omega)) ?_
  refine j_il1 C eX0_side_14 ?_
  refine j_iconst C eX0_side_15 ?_
  refine j_ishr C eX0_side_16 ?_
  refine j_val (iI_shr5 (by omega) (by omega)) ?_
  refine j_isub C eX0_side_17 ?_
  refine j_is6 C eX0_side_18 (by decide) ?_
  refine j_il5 C eX0_side_20 ?_
  refine j_il4 C eX0_side_22 ?_
  refine j_il1 C eX0_side_24 ?_
  refine j_iconst C eX0_side_25 ?_
  refine j_ishr C eX0_side_26 ?_
  refine j_val (iI_shr5 (by omega) (by omega)) ?_
  refine j_isub C eX0_side_27 ?_
  refine j_imul C eX0_side_28 ?_
  refine j_il6 C eX0_side_29 ?_
  refine j_il3 C eX0_side_31 ?_
  refine j_il1 C eX0_side_32 ?_
  refine j_bipush C eX0_side_33 (by decide) ?_
  refine j_iand C eX0_side_35 ?_
  refine j_val (iI_and31 _) ?_
  refine j_isub C eX0_side_36 ?_
  refine j_imul C eX0_side_37 ?_
  refine j_isub C eX0_side_38 ?_
  exact j_iret E eX0_side_39 ⟨rfl, rfl⟩
theorem bitsIn_loop {X : jX} (ad : Nat → Nat) (dc : Nat → ClassId) (pen : Int) (P F : Nat → Nat → Bool) (wt : Int) (rr rf rl : Nat → Int) (x0 : Int32) (N : Nat) (C : jC X cX0_bitsIn RX0 4 (cTy dc) 0 0) (E : jE X cX0_bitsIn (some .int) (pI (cW ad dc pen P F wt rr rf rl) (iI (N : Int)))) : ∀ (n : Nat) (r : Int32) (k : Nat), cnb r < n → k + cnb r = N → J X (cW ad dc pen P F wt rr rf rl) 4 [some (.ref (ad 0)), some (.int x0), some (.int (iI (k : Int))), some (.int r)] [] := by
  intro n
  induction n with
  | zero => intro r k h; omega
  | succ n ih =>
    intro r k hn hk
    refine j_il3 C eX0_bitsIn_4 ?_
    refine j_ifeqR C eX0_bitsIn_5 (fun c5 => ?_) (fun c5 => ?_)
    · have e0 : cnb r = 0 := by rw [c5]; exact cnb_0
      refine j_il2 C eX0_bitsIn_20 ?_
      exact j_iretv E eX0_bitsIn_21 (by congr 1; omega) ⟨rfl, rfl⟩
    · have e1 := cnb_low c5
      refine j_il3 C eX0_bitsIn_8 ?_
      refine j_il3 C eX0_bitsIn_9 ?_
      refine j_iconst C eX0_bitsIn_10 ?_
      refine j_isubR C eX0_bitsIn_11 ?_
      refine j_iand C eX0_bitsIn_12 ?_
      refine j_is3 C eX0_bitsIn_13 (by decide) ?_
      refine j_inc2 C eX0_bitsIn_14 (by decide) ?_
      refine j_goto C eX0_bitsIn_17 ?_
      exact ih _ (k + 1) (by omega) (by omega)
theorem cx_bitsIn (ad : Nat → Nat) (dc : Nat → ClassId) (pen : Int) (P F : Nat → Nat → Bool) (wt : Int) (rr rf rl : Nat → Int) (x : Int32) : gX0_bitsIn dc [.ref (ad 0), .int x] (cW ad dc pen P F wt rr rf rl) (pI (cW ad dc pen P F wt rr rf rl) (iI (cnb x : Int))) := by
  refine mG_of (own := RX0) (lv := [some (.ref (ad 0)), some (.int x), none, none]) (by decide) rfl (jIn_b [.ref (ad 0), .int x] 2 rfl) ?_
  intro X C E
  refine j_iconst C eX0_bitsIn_0 ?_
  refine j_is2 C eX0_bitsIn_1 (by decide) ?_
  refine j_il1 C eX0_bitsIn_2 ?_
  refine j_is3 C eX0_bitsIn_3 (by decide) ?_
  exact bitsIn_loop ad dc pen P F wt rr rf rl x (cnb x) C E (cnb x + 1) x 0 (by omega) (by omega)
def clr (F : Nat → Nat → Bool) (j : Nat) : Nat → Nat → Bool := fun y i => if y < j then false else F y i
theorem clr_0 (F : Nat → Nat → Bool) : clr F 0 = F := by funext y i; simp [clr]
theorem clr_s (F : Nat → Nat → Bool) (j : Nat) : up (clr F j) j (fun _ => false) = clr F (j + 1) := by
  funext y i
  unfold up clr
  by_cases h : y = j
  · subst h; simp
  · by_cases h2 : y < j
    · simp [h, h2, Nat.lt_succ_of_lt h2]
    · have h3 : ¬ y < j + 1 := by omega
      simp [h, h2, h3]
theorem clear_loop {X : jX} (ad : Nat → Nat) (dc : Nat → ClassId) (pen : Int) (P F : Nat → Nat → Bool) (wt : Int) (rr rf rl : Nat → Int) (C : jC X cX0_clearFigure RX0 2 (cTy dc) 0 0) (E : jE X cX0_clearFigure none (pV (cW ad dc pen P (clr F 24) wt rr rf rl))) : ∀ (n j : Nat), 24 ≤ j + n → j ≤ 24 → J X (cW ad dc pen P (clr F j) wt rr rf rl) 2 [some (.ref (ad 0)), some (.int (iI (j : Int)))] [] := by
  intro n
  induction n with
  | zero =>
    intro j h1 h2
    obtain rfl : j = 24 := by omega
    refine j_il1 C eX0_clearFigure_2 ?_
    refine j_bipush C eX0_clearFigure_3 (by decide) ?_
    refine j_cgeT C eX0_clearFigure_5 (by omega) (by omega) (by omega) ?_
    exact j_vret E eX0_clearFigure_21 ⟨rfl, rfl⟩
  | succ n ih =>
    intro j h1 h2
    refine j_il1 C eX0_clearFigure_2 ?_
    refine j_bipush C eX0_clearFigure_3 (by decide) ?_
    refine j_cge C eX0_clearFigure_5 (by omega) (by omega) (fun c5 => ?_) (fun c5 => ?_)
    · obtain rfl : j = 24 := by omega
      exact j_vret E eX0_clearFigure_21 ⟨rfl, rfl⟩
    · refine j_al0 C eX0_clearFigure_8 ?_
      refine x_get_fig C eX0_clearFigure_9 ?_
      refine j_il1 C eX0_clearFigure_12 ?_
      refine j_iconst C eX0_clearFigure_13 ?_
      refine j_val bI_0.symm ?_
      refine x_fig_st C (i := j) eX0_clearFigure_14 rfl (by omega) ?_
      rw [clr_s]
      refine j_inc1 C eX0_clearFigure_15 (by decide) ?_
      refine j_goto C eX0_clearFigure_18 ?_
      exact ih (j + 1) (by omega) (by omega)
theorem cx_clear (ad : Nat → Nat) (dc : Nat → ClassId) (pen : Int) (P F : Nat → Nat → Bool) (wt : Int) (rr rf rl : Nat → Int)  : gX0_clearFigure dc [.ref (ad 0)] (cW ad dc pen P F wt rr rf rl) (pV (cW ad dc pen P (clr F 24) wt rr rf rl)) := by
  refine mG_of (own := RX0) (lv := [some (.ref (ad 0)), none]) (by decide) rfl (jIn_b [.ref (ad 0)] 1 rfl) ?_
  intro X C E
  refine j_iconst C eX0_clearFigure_0 ?_
  refine j_is1 C eX0_clearFigure_1 (by decide) ?_
  have k := clear_loop ad dc pen P F wt rr rf rl C E 24 0 (by omega) (by omega)
  rw [clr_0] at k
  exact k
def dotF (F : Nat → Nat → Bool) (x y : Int) : Nat → Nat → Bool := fun j i => F j i || decide ((j : Int) = y ∧ (i : Int) = x ∧ i < 24 ∧ j < 24)
theorem dotF_out (F : Nat → Nat → Bool) {x y : Int} (h : x < 0 ∨ 24 ≤ x ∨ y < 0 ∨ 24 ≤ y) : dotF F x y = F := by
  funext j i
  unfold dotF
  rw [decide_eq_false (by omega), Bool.or_false]
theorem dotF_in (F : Nat → Nat → Bool) {a b : Nat} (ha : a < 24) (hb : b < 24) : up F b (fun i => F b i || decide (i = a)) = dotF F (a : Int) (b : Int) := by
  funext j i
  unfold up dotF
  by_cases h : j = b
  · subst h
    rw [if_pos rfl]
    congr 1
    exact decide_eq_decide.mpr (by omega)
  · rw [if_neg h, decide_eq_false (by omega), Bool.or_false]
theorem cx_dot (ad : Nat → Nat) (dc : Nat → ClassId) (pen : Int) (P F : Nat → Nat → Bool) (wt : Int) (rr rf rl : Nat → Int) (x y : Int) (hx : -100000 ≤ x ∧ x ≤ 100000) (hy : -100000 ≤ y ∧ y ≤ 100000) : gX0_dot dc [.ref (ad 0), .int (iI x), .int (iI y)] (cW ad dc pen P F wt rr rf rl) (pV (cW ad dc pen P (dotF F x y) wt rr rf rl)) := by
  refine mG_of (own := RX0) (lv := [some (.ref (ad 0)), some (.int (iI x)), some (.int (iI y))]) (by decide) rfl (jIn_b [.ref (ad 0), .int (iI x), .int (iI y)] 0 rfl) ?_
  intro X C E
  refine j_il1 C eX0_dot_0 ?_
  refine j_iflt C eX0_dot_1 (by omega) (fun c1 => ?_) (fun c1 => ?_)
  · exact j_vret E eX0_dot_32 ⟨by rw [dotF_out F (by omega)], rfl⟩
  · refine j_il1 C eX0_dot_4 ?_
    refine j_bipush C eX0_dot_5 (by decide) ?_
    refine j_cge C eX0_dot_7 (by omega) (by omega) (fun c7 => ?_) (fun c7 => ?_)
    · exact j_vret E eX0_dot_32 ⟨by rw [dotF_out F (by omega)], rfl⟩
    · refine j_il2 C eX0_dot_10 ?_
      refine j_iflt C eX0_dot_11 (by omega) (fun c11 => ?_) (fun c11 => ?_)
      · exact j_vret E eX0_dot_32 ⟨by rw [dotF_out F (by omega)], rfl⟩
      · refine j_il2 C eX0_dot_14 ?_
        refine j_bipush C eX0_dot_15 (by decide) ?_
        refine j_cge C eX0_dot_17 (by omega) (by omega) (fun c17 => ?_) (fun c17 => ?_)
        · exact j_vret E eX0_dot_32 ⟨by rw [dotF_out F (by omega)], rfl⟩
        · obtain ⟨a, rfl⟩ := Int.eq_ofNat_of_zero_le c1
          obtain ⟨b, rfl⟩ := Int.eq_ofNat_of_zero_le c11
          refine j_al0 C eX0_dot_20 ?_
          refine x_get_fig C eX0_dot_21 ?_
          refine j_il2 C eX0_dot_24 ?_
          refine j_dup2 C eX0_dot_25 ?_
          refine x_fig_ld C (i := b) eX0_dot_26 rfl (by omega) ?_
          refine j_iconst C eX0_dot_27 ?_
          refine j_il1 C eX0_dot_28 ?_
          refine j_ishl C eX0_dot_29 ?_
          refine j_val (bI_one a (by omega)) ?_
          refine j_ior C eX0_dot_30 ?_
          refine j_val (bI_or _ _) ?_
          refine x_fig_st C (i := b) eX0_dot_31 rfl (by omega) ?_
          rw [dotF_in F (by omega) (by omega)]
          exact j_vret E eX0_dot_32 ⟨rfl, rfl⟩
end
section
def runF (F : Nat → Nat → Bool) (y a b : Int) : Nat → Nat → Bool := fun j i => F j i || decide ((j : Int) = y ∧ a ≤ (i : Int) ∧ (i : Int) ≤ b ∧ i < 24 ∧ j < 24)
theorem runF_out (F : Nat → Nat → Bool) {y a b : Int} (h : y < 0 ∨ 24 ≤ y ∨ (∀ i : Nat, i < 24 → ¬ (a ≤ (i : Int) ∧ (i : Int) ≤ b))) : runF F y a b = F := by
  funext j i
  unfold runF
  rw [decide_eq_false (fun h2 => by
    rcases h with h | h | h
    · omega
    · omega
    · exact h i h2.2.2.2.1 ⟨h2.2.1, h2.2.2.1⟩), Bool.or_false]
theorem runF_in (F : Nat → Nat → Bool) {y a b : Nat} {c d : Int} (hy : y < 24) (hb : b < 24) (h1 : ∀ i : Nat, i < 24 → ((c ≤ (i : Int) ∧ (i : Int) ≤ d) ↔ (a ≤ i ∧ i ≤ b))) : up F y (fun i => F y i || (decide (a ≤ i) && decide (i ≤ b))) = runF F (y : Int) c d := by
  funext j i
  unfold up runF
  by_cases h : j = y
  · subst h
    rw [if_pos rfl]
    congr 1
    rw [← Bool.decide_and]
    refine decide_eq_decide.mpr ⟨fun h2 => ?_, fun h2 => ?_⟩
    · have h3 : i < 24 := by omega
      exact ⟨rfl, ((h1 i h3).mpr h2).1, ((h1 i h3).mpr h2).2, h3, hy⟩
    · exact (h1 i h2.2.2.2.1).mp ⟨h2.2.1, h2.2.2.1⟩
  · rw [if_neg h, decide_eq_false (by omega), Bool.or_false]
theorem cx_run (ad : Nat → Nat) (dc : Nat → ClassId) (pen : Int) (P F : Nat → Nat → Bool) (wt : Int) (rr rf rl : Nat → Int) (y a b : Int) (hy : -100000 ≤ y ∧ y ≤ 100000) (ha : -100000 ≤ a ∧ a ≤ 100000) (hb : -100000 ≤ b ∧ b ≤ 100000) : gX0_run dc [.ref (ad 0), .int (iI y), .int (iI a), .int (iI b)] (cW ad dc pen P F wt rr rf rl) (pV (cW ad dc pen P (runF F y a b) wt rr rf rl)) := by
  refine mG_of (own := RX0) (lv := [some (.ref (ad 0)), some (.int (iI y)), some (.int (iI a)), some (.int (iI b)), none, none]) (by decide) rfl (jIn_b [.ref (ad 0), .int (iI y), .int (iI a), .int (iI b)] 2 rfl) ?_
  intro X C E
  rcases Int.lt_or_le a 0 with h1 | h1 <;> rcases Int.lt_or_le b 24 with h2 | h2
  · refine j_il2 C eX0_run_0 ?_
    refine j_ifgeF C eX0_run_1 (by omega) h1 ?_
    refine j_iconst C eX0_run_4 ?_
    refine j_goto C eX0_run_5 ?_
    refine j_is4 C eX0_run_9 (by decide) ?_
    refine j_il3 C eX0_run_11 ?_
    refine j_bipush C eX0_run_12 (by decide) ?_
    refine j_cltT C eX0_run_14 (by omega) (by omega) h2 ?_
    refine j_il3 C eX0_run_22 ?_
    refine j_is5 C eX0_run_23 (by decide) ?_
    refine j_il1 C eX0_run_25 ?_
    refine j_iflt C eX0_run_26 (by omega) (fun c26 => ?_) (fun c26 => ?_)
    · exact j_vret E eX0_run_42 ⟨by rw [runF_out F (by first | (left; omega) | (right; left; omega) | (right; right; intro i _; omega))], rfl⟩
    · refine j_il1 C eX0_run_29 ?_
      refine j_bipush C eX0_run_30 (by decide) ?_
      refine j_cge C eX0_run_32 (by omega) (by omega) (fun c32 => ?_) (fun c32 => ?_)
      · exact j_vret E eX0_run_42 ⟨by rw [runF_out F (by first | (left; omega) | (right; left; omega) | (right; right; intro i _; omega))], rfl⟩
      · refine j_il4 C eX0_run_35 ?_
        refine j_il5 C eX0_run_37 ?_
        refine j_cle C eX0_run_39 (by omega) (by omega) (fun c39 => ?_) (fun c39 => ?_)
        · obtain ⟨y, rfl⟩ := Int.eq_ofNat_of_zero_le c26
          obtain ⟨b, rfl⟩ := Int.eq_ofNat_of_zero_le (show 0 ≤ b by omega)
          refine j_al0 C eX0_run_43 ?_
          refine x_get_fig C eX0_run_44 ?_
          refine j_il1 C eX0_run_47 ?_
          refine j_dup2 C eX0_run_48 ?_
          refine x_fig_ld C (i := y) eX0_run_49 rfl (by omega) ?_
          refine j_iconst C eX0_run_50 ?_
          refine j_il5 C eX0_run_51 ?_
          refine j_iconst C eX0_run_53 ?_
          refine j_iadd C eX0_run_54 ?_
          refine j_ishl C eX0_run_55 ?_
          refine j_iconst C eX0_run_56 ?_
          refine j_il4 C eX0_run_57 ?_
          refine j_ishl C eX0_run_59 ?_
          refine j_isubR C eX0_run_60 ?_
          refine j_val (bI_run b (by omega) 0 (by omega) (by omega)) ?_
          refine j_ior C eX0_run_61 ?_
          refine j_val (bI_or _ _) ?_
          refine x_fig_st C (i := y) eX0_run_62 rfl (by omega) ?_
          rw [runF_in (a := 0) (b := b) (c := a) (d := (b : Int)) F (by omega) (by omega) (fun i hi => by omega)]
          exact j_vret E eX0_run_63 ⟨rfl, rfl⟩
        · exact j_vret E eX0_run_42 ⟨by rw [runF_out F (by first | (left; omega) | (right; left; omega) | (right; right; intro i _; omega))], rfl⟩
  · refine j_il2 C eX0_run_0 ?_
    refine j_ifgeF C eX0_run_1 (by omega) h1 ?_
    refine j_iconst C eX0_run_4 ?_
    refine j_goto C eX0_run_5 ?_
    refine j_is4 C eX0_run_9 (by decide) ?_
    refine j_il3 C eX0_run_11 ?_
    refine j_bipush C eX0_run_12 (by decide) ?_
    refine j_cltF C eX0_run_14 (by omega) (by omega) h2 ?_
    refine j_bipush C eX0_run_17 (by decide) ?_
    refine j_goto C eX0_run_19 ?_
    refine j_is5 C eX0_run_23 (by decide) ?_
    refine j_il1 C eX0_run_25 ?_
    refine j_iflt C eX0_run_26 (by omega) (fun c26 => ?_) (fun c26 => ?_)
    · exact j_vret E eX0_run_42 ⟨by rw [runF_out F (by first | (left; omega) | (right; left; omega) | (right; right; intro i _; omega))], rfl⟩
    · refine j_il1 C eX0_run_29 ?_
      refine j_bipush C eX0_run_30 (by decide) ?_
      refine j_cge C eX0_run_32 (by omega) (by omega) (fun c32 => ?_) (fun c32 => ?_)
      · exact j_vret E eX0_run_42 ⟨by rw [runF_out F (by first | (left; omega) | (right; left; omega) | (right; right; intro i _; omega))], rfl⟩
      · refine j_il4 C eX0_run_35 ?_
        refine j_il5 C eX0_run_37 ?_
        refine j_cle C eX0_run_39 (by omega) (by omega) (fun c39 => ?_) (fun c39 => ?_)
        · obtain ⟨y, rfl⟩ := Int.eq_ofNat_of_zero_le c26
          refine j_al0 C eX0_run_43 ?_
          refine x_get_fig C eX0_run_44 ?_
          refine j_il1 C eX0_run_47 ?_
          refine j_dup2 C eX0_run_48 ?_
          refine x_fig_ld C (i := y) eX0_run_49 rfl (by omega) ?_
          refine j_iconst C eX0_run_50 ?_
          refine j_il5 C eX0_run_51 ?_
          refine j_iconst C eX0_run_53 ?_
          refine j_iadd C eX0_run_54 ?_
          refine j_ishl C eX0_run_55 ?_
          refine j_iconst C eX0_run_56 ?_
          refine j_il4 C eX0_run_57 ?_
          refine j_ishl C eX0_run_59 ?_
          refine j_isubR C eX0_run_60 ?_
          refine j_val (bI_run 23 (by omega) 0 (by omega) (by omega)) ?_
          refine j_ior C eX0_run_61 ?_
          refine j_val (bI_or _ _) ?_
          refine x_fig_st C (i := y) eX0_run_62 rfl (by omega) ?_
          rw [runF_in (a := 0) (b := 23) (c := a) (d := b) F (by omega) (by omega) (fun i hi => by omega)]
          exact j_vret E eX0_run_63 ⟨rfl, rfl⟩
        · exact j_vret E eX0_run_42 ⟨by rw [runF_out F (by first | (left; omega) | (right; left; omega) | (right; right; intro i _; omega))], rfl⟩
  · refine j_il2 C eX0_run_0 ?_
    refine j_ifgeT C eX0_run_1 (by omega) h1 ?_
    refine j_il2 C eX0_run_8 ?_
    refine j_is4 C eX0_run_9 (by decide) ?_
    refine j_il3 C eX0_run_11 ?_
    refine j_bipush C eX0_run_12 (by decide) ?_
    refine j_cltT C eX0_run_14 (by omega) (by omega) h2 ?_
    refine j_il3 C eX0_run_22 ?_
    refine j_is5 C eX0_run_23 (by decide) ?_
    refine j_il1 C eX0_run_25 ?_
    refine j_iflt C eX0_run_26 (by omega) (fun c26 => ?_) (fun c26 => ?_)
    · exact j_vret E eX0_run_42 ⟨by rw [runF_out F (by first | (left; omega) | (right; left; omega) | (right; right; intro i _; omega))], rfl⟩
    · refine j_il1 C eX0_run_29 ?_
      refine j_bipush C eX0_run_30 (by decide) ?_
      refine j_cge C eX0_run_32 (by omega) (by omega) (fun c32 => ?_) (fun c32 => ?_)
      · exact j_vret E eX0_run_42 ⟨by rw [runF_out F (by first | (left; omega) | (right; left; omega) | (right; right; intro i _; omega))], rfl⟩
      · refine j_il4 C eX0_run_35 ?_
        refine j_il5 C eX0_run_37 ?_
        refine j_cle C eX0_run_39 (by omega) (by omega) (fun c39 => ?_) (fun c39 => ?_)
        · obtain ⟨y, rfl⟩ := Int.eq_ofNat_of_zero_le c26
          obtain ⟨a, rfl⟩ := Int.eq_ofNat_of_zero_le h1
          obtain ⟨b, rfl⟩ := Int.eq_ofNat_of_zero_le (show 0 ≤ b by omega)
          refine j_al0 C eX0_run_43 ?_
          refine x_get_fig C eX0_run_44 ?_
          refine j_il1 C eX0_run_47 ?_
          refine j_dup2 C eX0_run_48 ?_
          refine x_fig_ld C (i := y) eX0_run_49 rfl (by omega) ?_
          refine j_iconst C eX0_run_50 ?_
          refine j_il5 C eX0_run_51 ?_
          refine j_iconst C eX0_run_53 ?_
          refine j_iadd C eX0_run_54 ?_
          refine j_ishl C eX0_run_55 ?_
          refine j_iconst C eX0_run_56 ?_
          refine j_il4 C eX0_run_57 ?_
          refine j_ishl C eX0_run_59 ?_
          refine j_isubR C eX0_run_60 ?_
          refine j_val (bI_run b (by omega) a (by omega) (by omega)) ?_
          refine j_ior C eX0_run_61 ?_
          refine j_val (bI_or _ _) ?_
          refine x_fig_st C (i := y) eX0_run_62 rfl (by omega) ?_
          rw [runF_in (a := a) (b := b) (c := (a : Int)) (d := (b : Int)) F (by omega) (by omega) (fun i hi => by omega)]
          exact j_vret E eX0_run_63 ⟨rfl, rfl⟩
        · exact j_vret E eX0_run_42 ⟨by rw [runF_out F (by first | (left; omega) | (right; left; omega) | (right; right; intro i _; omega))], rfl⟩
  · refine j_il2 C eX0_run_0 ?_
    refine j_ifgeT C eX0_run_1 (by omega) h1 ?_
    refine j_il2 C eX0_run_8 ?_
    refine j_is4 C eX0_run_9 (by decide) ?_
    refine j_il3 C eX0_run_11 ?_
    refine j_bipush C eX0_run_12 (by decide) ?_
    refine j_cltF C eX0_run_14 (by omega) (by omega) h2 ?_
    refine j_bipush C eX0_run_17 (by decide) ?_
    refine j_goto C eX0_run_19 ?_
    refine j_is5 C eX0_run_23 (by decide) ?_
    refine j_il1 C eX0_run_25 ?_
    refine j_iflt C eX0_run_26 (by omega) (fun c26 => ?_) (fun c26 => ?_)
    · exact j_vret E eX0_run_42 ⟨by rw [runF_out F (by first | (left; omega) | (right; left; omega) | (right; right; intro i _; omega))], rfl⟩
    · refine j_il1 C eX0_run_29 ?_
      refine j_bipush C eX0_run_30 (by decide) ?_
      refine j_cge C eX0_run_32 (by omega) (by omega) (fun c32 => ?_) (fun c32 => ?_)
      · exact j_vret E eX0_run_42 ⟨by rw [runF_out F (by first | (left; omega) | (right; left; omega) | (right; right; intro i _; omega))], rfl⟩
      · refine j_il4 C eX0_run_35 ?_
        refine j_il5 C eX0_run_37 ?_
        refine j_cle C eX0_run_39 (by omega) (by omega) (fun c39 => ?_) (fun c39 => ?_)
        · obtain ⟨y, rfl⟩ := Int.eq_ofNat_of_zero_le c26
          obtain ⟨a, rfl⟩ := Int.eq_ofNat_of_zero_le h1
          refine j_al0 C eX0_run_43 ?_
          refine x_get_fig C eX0_run_44 ?_
          refine j_il1 C eX0_run_47 ?_
          refine j_dup2 C eX0_run_48 ?_
          refine x_fig_ld C (i := y) eX0_run_49 rfl (by omega) ?_
          refine j_iconst C eX0_run_50 ?_
          refine j_il5 C eX0_run_51 ?_
          refine j_iconst C eX0_run_53 ?_
          refine j_iadd C eX0_run_54 ?_
          refine j_ishl C eX0_run_55 ?_
          refine j_iconst C eX0_run_56 ?_
          refine j_il4 C eX0_run_57 ?_
          refine j_ishl C eX0_run_59 ?_
          refine j_isubR C eX0_run_60 ?_
          refine j_val (bI_run 23 (by omega) a (by omega) (by omega)) ?_
          refine j_ior C eX0_run_61 ?_
          refine j_val (bI_or _ _) ?_
          refine x_fig_st C (i := y) eX0_run_62 rfl (by omega) ?_
          rw [runF_in (a := a) (b := 23) (c := (a : Int)) (d := b) F (by omega) (by omega) (fun i hi => by omega)]
          exact j_vret E eX0_run_63 ⟨rfl, rfl⟩
        · exact j_vret E eX0_run_42 ⟨by rw [runF_out F (by first | (left; omega) | (right; left; omega) | (right; right; intro i _; omega))], rfl⟩
theorem cx_pen (ad : Nat → Nat) (dc : Nat → ClassId) (pen : Int) (P F : Nat → Nat → Bool) (wt : Int) (rr rf rl : Nat → Int) (z : Int) (h1 : -2147483648 ≤ z) (h2 : z < 2147483648) : gX0_pen dc [.ref (ad 0), .int (iI z)] (cW ad dc pen P F wt rr rf rl) (pI (cW ad dc (if 0 ≤ z ∧ z ≤ 2 then z else pen) P F wt rr rf rl) (iI (zI (decide (0 ≤ z ∧ z ≤ 2))))) := by
  refine mG_of (own := RX0) (lv := [some (.ref (ad 0)), some (.int (iI z))]) (by decide) rfl (jIn_b [.ref (ad 0), .int (iI z)] 0 rfl) ?_
  intro X C E
  refine j_il1 C eX0_pen_0 ?_
  refine j_iflt C eX0_pen_1 (by omega) (fun c1 => ?_) (fun c1 => ?_)
  · refine j_iconst C eX0_pen_9 ?_
    exact j_zretv E eX0_pen_10 (zI_of_f (b := decide (0 ≤ z ∧ z ≤ 2)) (decide_eq_false (by omega))) ⟨by rw [if_neg (by omega)], rfl⟩
  · refine j_il1 C eX0_pen_4 ?_
    refine j_iconst C eX0_pen_5 ?_
    refine j_cle C eX0_pen_6 (by omega) (by omega) (fun c6 => ?_) (fun c6 => ?_)
    · refine j_al0 C eX0_pen_11 ?_
      refine j_il1 C eX0_pen_12 ?_
      refine x_put_pen C eX0_pen_13 ?_
      refine j_iconst C eX0_pen_16 ?_
      exact j_zretv E eX0_pen_17 (zI_of_t (b := decide (0 ≤ z ∧ z ≤ 2)) (decide_eq_true (by omega))) ⟨by rw [if_pos (by omega)], rfl⟩
    · refine j_iconst C eX0_pen_9 ?_
      exact j_zretv E eX0_pen_10 (zI_of_f (b := decide (0 ≤ z ∧ z ≤ 2)) (decide_eq_false (by omega))) ⟨by rw [if_neg (by omega)], rfl⟩
def getV (P : Nat → Nat → Bool) (z : Int) : Int := if isPx z = true then zI (P (z / 32).toNat (z % 32).toNat) else -1
theorem cx_get (ad : Nat → Nat) (dc : Nat → ClassId) (pen : Int) (P F : Nat → Nat → Bool) (wt : Int) (rr rf rl : Nat → Int) (z : Int) (h1 : -2147483648 ≤ z) (h2 : z < 2147483648) : gX0_get dc [.ref (ad 0), .int (iI z)] (cW ad dc pen P F wt rr rf rl) (pI (cW ad dc pen P F wt rr rf rl) (iI (getV P z))) := by
  refine mG_of (own := RX0) (lv := [some (.ref (ad 0)), some (.int (iI z))]) (by decide) rfl (jIn_b [.ref (ad 0), .int (iI z)] 0 rfl) ?_
  intro X C E
  refine j_al0 C eX0_get_0 ?_
  refine j_il1 C eX0_get_1 ?_
  refine x_callI C kX0_30 (cx_isPixel _ _ _ _ _ _ _ _ _ _ h1 h2) (by decide) rfl rfl (Nat.le_of_ble_eq_true rfl) eX0_get_2 ?_
  refine j_ifeqB C eX0_get_5 (fun c5 => ?_) (fun c5 => ?_)
  · refine j_iconst C eX0_get_26 ?_
    first | exact j_iretv E eX0_get_27 (by unfold getV; rw [if_neg (by rw [c5]; decide)]) ⟨rfl, rfl⟩ | exact j_iretv E eX0_get_27 (by unfold getV; rw [if_pos c5, ha, hb]; rfl) ⟨rfl, rfl⟩
  · have hp : 0 ≤ z ∧ z % 32 < 24 ∧ z / 32 < 24 := of_decide_eq_true c5
    obtain ⟨a, ha⟩ := Int.eq_ofNat_of_zero_le (show 0 ≤ z % 32 by omega)
    obtain ⟨b, hb⟩ := Int.eq_ofNat_of_zero_le (show 0 ≤ z / 32 by omega)
    refine j_al0 C eX0_get_8 ?_
    refine x_get_rows C eX0_get_9 ?_
    refine j_il1 C eX0_get_12 ?_
    refine j_iconst C eX0_get_13 ?_
    refine j_ishr C eX0_get_14 ?_
    refine j_val (iI_shr5 h1 h2) ?_
    refine x_rows_ld C (i := b) eX0_get_15 hb (by omega) ?_
    refine j_il1 C eX0_get_16 ?_
    refine j_bipush C eX0_get_17 (by decide) ?_
    refine j_iand C eX0_get_19 ?_
    refine j_val (iI_and31 _) ?_
    rw [ha]
    refine j_ishr C eX0_get_20 ?_
    refine j_iconst C eX0_get_21 ?_
    refine j_iand C eX0_get_22 ?_
    refine j_val (bI_bit _ (show a < 32 by omega)) ?_
    refine j_goto C eX0_get_23 ?_
    first | exact j_iretv E eX0_get_27 (by unfold getV; rw [if_neg (by rw [c5]; decide)]) ⟨rfl, rfl⟩ | exact j_iretv E eX0_get_27 (by unfold getV; rw [if_pos c5, ha, hb]; rfl) ⟨rfl, rfl⟩
def rowV (P : Nat → Nat → Bool) (z : Int) : Int32 := if 0 ≤ z ∧ z < 24 then bI (P z.toNat) else iI (-1)
theorem cx_row (ad : Nat → Nat) (dc : Nat → ClassId) (pen : Int) (P F : Nat → Nat → Bool) (wt : Int) (rr rf rl : Nat → Int) (z : Int) (h1 : -2147483648 ≤ z) (h2 : z < 2147483648) : gX0_row dc [.ref (ad 0), .int (iI z)] (cW ad dc pen P F wt rr rf rl) (pI (cW ad dc pen P F wt rr rf rl) (rowV P z)) := by
  refine mG_of (own := RX0) (lv := [some (.ref (ad 0)), some (.int (iI z))]) (by decide) rfl (jIn_b [.ref (ad 0), .int (iI z)] 0 rfl) ?_
  intro X C E
  refine j_il1 C eX0_row_0 ?_
  refine j_iflt C eX0_row_1 (by omega) (fun c1 => ?_) (fun c1 => ?_)
  · refine j_iconst C eX0_row_10 ?_
    refine j_goto C eX0_row_11 ?_
    first | exact j_iretv E eX0_row_20 (by unfold rowV; rw [if_neg (by omega)]) ⟨rfl, rfl⟩ | exact j_iretv E eX0_row_20 (by unfold rowV; rw [if_pos (by omega)]; rfl) ⟨rfl, rfl⟩
  · refine j_il1 C eX0_row_4 ?_
    refine j_bipush C eX0_row_5 (by decide) ?_
    refine j_clt C eX0_row_7 (by omega) (by omega) (fun c7 => ?_) (fun c7 => ?_)
    · obtain ⟨b, rfl⟩ := Int.eq_ofNat_of_zero_le c1
      refine j_al0 C eX0_row_14 ?_
      refine x_get_rows C eX0_row_15 ?_
      refine j_il1 C eX0_row_18 ?_
      refine x_rows_ld C (i := b) eX0_row_19 rfl (by omega) ?_
      first | exact j_iretv E eX0_row_20 (by unfold rowV; rw [if_neg (by omega)]) ⟨rfl, rfl⟩ | exact j_iretv E eX0_row_20 (by unfold rowV; rw [if_pos (by omega)]; rfl) ⟨rfl, rfl⟩
    · refine j_iconst C eX0_row_10 ?_
      refine j_goto C eX0_row_11 ?_
      first | exact j_iretv E eX0_row_20 (by unfold rowV; rw [if_neg (by omega)]) ⟨rfl, rfl⟩ | exact j_iretv E eX0_row_20 (by unfold rowV; rw [if_pos (by omega)]; rfl) ⟨rfl, rfl⟩
def sumN (f : Nat → Nat) : Nat → Nat
  | 0 => 0
  | n + 1 => sumN f n + f n
theorem sumN_ext {f g : Nat → Nat} {n : Nat} (h : ∀ i, i < n → f i = g i) : sumN f n = sumN g n := by
  induction n with
  | zero => rfl
  | succ n ih => rw [sumN, sumN, ih (fun i hi => h i (by omega)), h n (by omega)]
theorem sumN_s (f : Nat → Nat) (n : Nat) : ((sumN f n : Nat) : Int) + (f n : Nat) = (sumN f (n + 1) : Nat) := by rw [sumN]; omega
def cntR (P : Nat → Nat → Bool) (n : Nat) : Nat := sumN (fun y => cnt (P y) 32) n
theorem count_loop {X : jX} (ad : Nat → Nat) (dc : Nat → ClassId) (pen : Int) (P F : Nat → Nat → Bool) (wt : Int) (rr rf rl : Nat → Int) (C : jC X cX0_count RX0 3 (cTy dc) 1 23) (E : jE X cX0_count (some .int) (pI (cW ad dc pen P F wt rr rf rl) (iI (cntR P 24 : Int)))) : ∀ (n j : Nat), 24 < j + n → j ≤ 24 → J X (cW ad dc pen P F wt rr rf rl) 4 [some (.ref (ad 0)), some (.int (iI (cntR P j : Int))), some (.int (iI (j : Int)))] [] := by
  intro n
  induction n with
  | zero => intro j h1 h2; omega
  | succ n ih =>
    intro j h1 h2
    refine j_il2 C eX0_count_4 ?_
    refine j_bipush C eX0_count_5 (by decide) ?_
    refine j_cge C eX0_count_7 (by omega) (by omega) (fun c7 => ?_) (fun c7 => ?_)
    · obtain rfl : j = 24 := by omega
      refine j_il1 C eX0_count_29 ?_
      exact j_iret E eX0_count_30 ⟨rfl, rfl⟩
    · refine j_il1 C eX0_count_10 ?_
      refine j_al0 C eX0_count_11 ?_
      refine j_al0 C eX0_count_12 ?_
      refine x_get_rows C eX0_count_13 ?_
      refine j_il2 C eX0_count_16 ?_
      refine x_rows_ld C (i := j) eX0_count_17 rfl (by omega) ?_
      refine x_callI C kX0_72 (cx_bitsIn _ _ _ _ _ _ _ _ _ _) (by decide) rfl rfl (Nat.le_of_ble_eq_true rfl) eX0_count_18 ?_
      rw [cnb_bI]
      refine j_iadd C eX0_count_21 ?_
      rw [show ((cntR P j : Nat) : Int) + (cnt (P j) 32 : Nat) = (cntR P (j + 1) : Nat) from sumN_s _ j]
      refine j_is1 C eX0_count_22 (by decide) ?_
      refine j_inc2 C eX0_count_23 (by decide) ?_
      refine j_goto C eX0_count_26 ?_
      exact ih (j + 1) (by omega) (by omega)
theorem cx_count (ad : Nat → Nat) (dc : Nat → ClassId) (pen : Int) (P F : Nat → Nat → Bool) (wt : Int) (rr rf rl : Nat → Int)  : gX0_count dc [.ref (ad 0)] (cW ad dc pen P F wt rr rf rl) (pI (cW ad dc pen P F wt rr rf rl) (iI (cntR P 24 : Int))) := by
  refine mG_of (own := RX0) (lv := [some (.ref (ad 0)), none, none]) (by decide) rfl (jIn_b [.ref (ad 0)] 2 rfl) ?_
  intro X C E
  refine j_iconst C eX0_count_0 ?_
  refine j_is1 C eX0_count_1 (by decide) ?_
  refine j_iconst C eX0_count_2 ?_
  refine j_is2 C eX0_count_3 (by decide) ?_
  exact count_loop ad dc pen P F wt rr rf rl C E 25 0 (by omega) (by omega)
def penOp (pen : Int) (a b : Bool) : Bool := if pen = 0 then a || b else if pen = 1 then a && !b else a ^^ b
def inkP (pen : Int) (P F : Nat → Nat → Bool) (j : Nat) : Nat → Nat → Bool := fun y i => if y < j then penOp pen (P y i) (F y i) else P y i
def inkC (pen : Int) (P F : Nat → Nat → Bool) (j : Nat) : Nat := sumN (fun y => cnt (fun i => P y i ^^ penOp pen (P y i) (F y i)) 32) j
theorem inkP_0 (pen : Int) (P F : Nat → Nat → Bool) : inkP pen P F 0 = P := by funext y i; simp [inkP]
theorem inkP_j (pen : Int) (P F : Nat → Nat → Bool) (j : Nat) : inkP pen P F j j = P j := by funext i; simp [inkP]
theorem inkP_s (pen : Int) (P F : Nat → Nat → Bool) (j : Nat) : up (inkP pen P F j) j (fun i => penOp pen (P j i) (F j i)) = inkP pen P F (j + 1) := by
  funext y i
  unfold up inkP
  by_cases h : y = j
  · subst h; simp
  · by_cases h2 : y < j
    · simp [h, h2, Nat.lt_succ_of_lt h2]
    · have h3 : ¬ y < j + 1 := by omega
      simp [h, h2, h3]
theorem ink_loop {X : jX} (ad : Nat → Nat) (dc : Nat → ClassId) (pen : Int) (P F : Nat → Nat → Bool) (wt : Int) (rr rf rl : Nat → Int) (hp : 0 ≤ pen ∧ pen ≤ 2) (C : jC X cX0_ink RX0 4 (cTy dc) 1 23) (E : jE X cX0_ink (some .int) (pI (cW ad dc pen (inkP pen P F 24) F wt rr rf rl) (iI (inkC pen P F 24 : Int)))) : ∀ (n j : Nat) (v3 : Option Value), 24 < j + n → j ≤ 24 → J X (cW ad dc pen (inkP pen P F j) F wt rr rf rl) 4 [some (.ref (ad 0)), some (.int (iI (inkC pen P F j : Int))), some (.int (iI (j : Int))), v3] [] := by
  intro n
  induction n with
  | zero => intro j v3 h1 h2; omega
  | succ n ih =>
    intro j v3 h1 h2
    refine j_il2 C eX0_ink_4 ?_
    refine j_bipush C eX0_ink_5 (by decide) ?_
    refine j_cge C eX0_ink_7 (by omega) (by omega) (fun c7 => ?_) (fun c7 => ?_)
    · obtain rfl : j = 24 := by omega
      refine j_il1 C eX0_ink_101 ?_
      exact j_iret E eX0_ink_102 ⟨rfl, rfl⟩
    · have tail : ∀ u : Option Value, J X (cW ad dc pen (inkP pen P F j) F wt rr rf rl) 72 [some (.ref (ad 0)), some (.int (iI (inkC pen P F j : Int))), some (.int (iI (j : Int))), u] [.int (bI (fun i => penOp pen (P j i) (F j i)))] := by
        intro u
        refine j_is3 C eX0_ink_72 (by decide) ?_
        refine j_il1 C eX0_ink_73 ?_
        refine j_al0 C eX0_ink_74 ?_
        refine j_al0 C eX0_ink_75 ?_
        refine x_get_rows C eX0_ink_76 ?_
        refine j_il2 C eX0_ink_79 ?_
        refine x_rows_ld C (i := j) eX0_ink_80 rfl (by omega) ?_
        rw [inkP_j]
        refine j_il3 C eX0_ink_81 ?_
        refine j_ixor C eX0_ink_82 ?_
        refine j_val (bI_xor _ _) ?_
        refine x_callI C kX0_72 (cx_bitsIn _ _ _ _ _ _ _ _ _ _) (by decide) rfl rfl (Nat.le_of_ble_eq_true rfl) eX0_ink_83 ?_
        rw [cnb_bI]
        refine j_iadd C eX0_ink_86 ?_
        rw [show ((inkC pen P F j : Nat) : Int) + (cnt (fun i => P j i ^^ penOp pen (P j i) (F j i)) 32 : Nat) = (inkC pen P F (j + 1) : Nat) from sumN_s _ j]
        refine j_is1 C eX0_ink_87 (by decide) ?_
        refine j_al0 C eX0_ink_88 ?_
        refine x_get_rows C eX0_ink_89 ?_
        refine j_il2 C eX0_ink_92 ?_
        refine j_il3 C eX0_ink_93 ?_
        refine x_rows_st C (i := j) eX0_ink_94 rfl (by omega) ?_
        rw [inkP_s]
        refine j_inc2 C eX0_ink_95 (by decide) ?_
        refine j_goto C eX0_ink_98 ?_
        exact ih (j + 1) _ (by omega) (by omega)
      rcases (show pen = 0 ∨ pen = 1 ∨ pen = 2 by omega) with rfl | rfl | rfl
      · refine j_al0 C eX0_ink_10 ?_
        refine x_get_pen C eX0_ink_11 ?_
        refine j_ifneF C eX0_ink_14 (by omega) rfl ?_
        refine j_al0 C eX0_ink_17 ?_
        refine x_get_rows C eX0_ink_18 ?_
        refine j_il2 C eX0_ink_21 ?_
        refine x_rows_ld C (i := j) eX0_ink_22 rfl (by omega) ?_
        rw [inkP_j]
        refine j_al0 C eX0_ink_23 ?_
        refine x_get_fig C eX0_ink_24 ?_
        refine j_il2 C eX0_ink_27 ?_
        refine x_fig_ld C (i := j) eX0_ink_28 rfl (by omega) ?_
        refine j_ior C eX0_ink_29 ?_
        refine j_val (bI_or _ _) ?_
        refine j_goto C eX0_ink_30 ?_
        exact tail _
      · refine j_al0 C eX0_ink_10 ?_
        refine x_get_pen C eX0_ink_11 ?_
        refine j_ifneT C eX0_ink_14 (by omega) (by decide) ?_
        refine j_al0 C eX0_ink_33 ?_
        refine x_get_pen C eX0_ink_34 ?_
        refine j_iconst C eX0_ink_37 ?_
        refine j_cneF C eX0_ink_38 (by omega) (by omega) rfl ?_
        refine j_al0 C eX0_ink_41 ?_
        refine x_get_rows C eX0_ink_42 ?_
        refine j_il2 C eX0_ink_45 ?_
        refine x_rows_ld C (i := j) eX0_ink_46 rfl (by omega) ?_
        rw [inkP_j]
        refine j_al0 C eX0_ink_47 ?_
        refine x_get_fig C eX0_ink_48 ?_
        refine j_il2 C eX0_ink_51 ?_
        refine x_fig_ld C (i := j) eX0_ink_52 rfl (by omega) ?_
        refine j_iconst C eX0_ink_53 ?_
        refine j_ixor C eX0_ink_54 ?_
        refine j_val (bI_not _) ?_
        refine j_iand C eX0_ink_55 ?_
        refine j_val (bI_and _ _) ?_
        refine j_goto C eX0_ink_56 ?_
        exact tail _
      · refine j_al0 C eX0_ink_10 ?_
        refine x_get_pen C eX0_ink_11 ?_
        refine j_ifneT C eX0_ink_14 (by omega) (by decide) ?_
        refine j_al0 C eX0_ink_33 ?_
        refine x_get_pen C eX0_ink_34 ?_
        refine j_iconst C eX0_ink_37 ?_
        refine j_cneT C eX0_ink_38 (by omega) (by omega) (by decide) ?_
        refine j_al0 C eX0_ink_59 ?_
        refine x_get_rows C eX0_ink_60 ?_
        refine j_il2 C eX0_ink_63 ?_
        refine x_rows_ld C (i := j) eX0_ink_64 rfl (by omega) ?_
        rw [inkP_j]
        refine j_al0 C eX0_ink_65 ?_
        refine x_get_fig C eX0_ink_66 ?_
        refine j_il2 C eX0_ink_69 ?_
        refine x_fig_ld C (i := j) eX0_ink_70 rfl (by omega) ?_
        refine j_ixor C eX0_ink_71 ?_
        refine j_val (bI_xor _ _) ?_
        exact tail _
theorem cx_ink (ad : Nat → Nat) (dc : Nat → ClassId) (pen : Int) (P F : Nat → Nat → Bool) (wt : Int) (rr rf rl : Nat → Int) (hp : 0 ≤ pen ∧ pen ≤ 2) : gX0_ink dc [.ref (ad 0)] (cW ad dc pen P F wt rr rf rl) (pI (cW ad dc pen (inkP pen P F 24) F wt rr rf rl) (iI (inkC pen P F 24 : Int))) := by
  refine mG_of (own := RX0) (lv := [some (.ref (ad 0)), none, none, none]) (by decide) rfl (jIn_b [.ref (ad 0)] 3 rfl) ?_
  intro X C E
  refine j_iconst C eX0_ink_0 ?_
  refine j_is1 C eX0_ink_1 (by decide) ?_
  refine j_iconst C eX0_ink_2 ?_
  refine j_is2 C eX0_ink_3 (by decide) ?_
  have k := ink_loop ad dc pen P F wt rr rf rl hp C E 25 0 none (by omega) (by omega)
  rw [inkP_0] at k
  exact k
end
section
def mvF (P F : Nat → Nat → Bool) (dy : Int) (j : Nat) : Nat → Nat → Bool := fun y i => if y < j then (if 0 ≤ (y : Int) - dy ∧ (y : Int) - dy < 24 then P ((y : Int) - dy).toNat i else false) else F y i
theorem mvF_0 (P F : Nat → Nat → Bool) (dy : Int) : mvF P F dy 0 = F := by funext y i; simp [mvF]
theorem mvF_s (P F : Nat → Nat → Bool) (dy : Int) (j : Nat) {g : Nat → Bool} (hg : ∀ i, g i = if 0 ≤ (j : Int) - dy ∧ (j : Int) - dy < 24 then P ((j : Int) - dy).toNat i else false) : up (mvF P F dy j) j g = mvF P F dy (j + 1) := by
  funext y i
  unfold up mvF
  by_cases h : y = j
  · subst h
    rw [if_pos rfl, hg i, if_pos (show y < y + 1 by omega)]
  · by_cases h2 : y < j
    · rw [if_neg h, if_pos h2, if_pos (show y < j + 1 by omega)]
    · rw [if_neg h, if_neg h2, if_neg (show ¬ y < j + 1 by omega)]
def mvS (f : Nat → Bool) (dx : Int) : Nat → Bool := fun i => decide (i < 24) && (if 0 ≤ dx then decide (dx.toNat ≤ i) && f (i - dx.toNat) else decide ((-dx).toNat + i < 32) && f ((-dx).toNat + i))
def mvP (P Q : Nat → Nat → Bool) (dx : Int) (j : Nat) : Nat → Nat → Bool := fun y => if y < j then mvS (Q y) dx else P y
theorem mvP_0 (P Q : Nat → Nat → Bool) (dx : Int) : mvP P Q dx 0 = P := by funext y; simp [mvP]
theorem mvP_s (P Q : Nat → Nat → Bool) (dx : Int) (j : Nat) : up (mvP P Q dx j) j (mvS (Q j) dx) = mvP P Q dx (j + 1) := by
  funext y
  unfold up mvP
  by_cases h : y = j
  · subst h
    rw [if_pos rfl, if_pos (show y < y + 1 by omega)]
  · by_cases h2 : y < j
    · rw [if_neg h, if_pos h2, if_pos (show y < j + 1 by omega)]
    · rw [if_neg h, if_neg h2, if_neg (show ¬ y < j + 1 by omega)]
theorem mvS_p (f : Nat → Bool) (a : Nat) : (fun i => decide (i < 24) && (decide (a ≤ i) && f (i - a))) = mvS f (a : Int) := by
  funext i
  unfold mvS
  rw [if_pos (by omega)]
  rfl
theorem mvS_n (f : Nat → Bool) (a : Nat) (h : 0 < a) : (fun i => decide (i < 24) && (decide (a + i < 32) && f (a + i))) = mvS f (-(a : Int)) := by
  funext i
  unfold mvS
  rw [if_neg (by omega), Int.neg_neg]
  rfl
theorem move_loop1 {X : jX} (ad : Nat → Nat) (dc : Nat → ClassId) (pen : Int) (P F : Nat → Nat → Bool) (wt : Int) (rr rf rl : Nat → Int) (dx dy b0 : Int) (hdy : -24 ≤ dy ∧ dy ≤ 24) (C : jC X cX0_move RX0 5 (cTy dc) 2 45) (K : J X (cW ad dc pen P (mvF P F dy 24) wt rr rf rl) 83 [some (.ref (ad 0)), some (.int (iI dx)), some (.int (iI dy)), some (.int (iI b0)), some (.int (iI ((24 : Nat) : Int)))] []) : ∀ (n j : Nat), 24 < j + n → j ≤ 24 → J X (cW ad dc pen P (mvF P F dy j) wt rr rf rl) 34 [some (.ref (ad 0)), some (.int (iI dx)), some (.int (iI dy)), some (.int (iI b0)), some (.int (iI (j : Int)))] [] := by
  intro n
  induction n with
  | zero => intro j h1 h2; omega
  | succ n ih =>
    intro j h1 h2
    refine j_il4 C eX0_move_34 ?_
    refine j_bipush C eX0_move_36 (by decide) ?_
    refine j_cge C eX0_move_38 (by omega) (by omega) (fun c38 => ?_) (fun c38 => ?_)
    · obtain rfl : j = 24 := by omega
      exact K
    · refine j_al0 C eX0_move_41 ?_
      refine x_get_fig C eX0_move_42 ?_
      refine j_il4 C eX0_move_45 ?_
      refine j_il4 C eX0_move_47 ?_
      refine j_il2 C eX0_move_49 ?_
      refine j_isub C eX0_move_50 ?_
      refine j_iflt C eX0_move_51 (by omega) (fun c51 => ?_) (fun c51 => ?_)
      · refine j_iconst C eX0_move_75 ?_
        refine j_val bI_0.symm ?_
        refine x_fig_st C (i := j) eX0_move_76 rfl (by omega) ?_
        rw [mvF_s P F dy j (fun i => by first | (rw [if_neg (by omega)]) | (rw [if_pos (by omega), hb]; rfl))]
        refine j_inc4 C eX0_move_77 (by decide) ?_
        refine j_goto C eX0_move_80 ?_
        exact ih (j + 1) (by omega) (by omega)
      · refine j_il4 C eX0_move_54 ?_
        refine j_il2 C eX0_move_56 ?_
        refine j_isub C eX0_move_57 ?_
        refine j_bipush C eX0_move_58 (by decide) ?_
        refine j_cge C eX0_move_60 (by omega) (by omega) (fun c60 => ?_) (fun c60 => ?_)
        · refine j_iconst C eX0_move_75 ?_
          refine j_val bI_0.symm ?_
          refine x_fig_st C (i := j) eX0_move_76 rfl (by omega) ?_
          rw [mvF_s P F dy j (fun i => by first | (rw [if_neg (by omega)]) | (rw [if_pos (by omega), hb]; rfl))]
          refine j_inc4 C eX0_move_77 (by decide) ?_
          refine j_goto C eX0_move_80 ?_
          exact ih (j + 1) (by omega) (by omega)
        · obtain ⟨b, hb⟩ := Int.eq_ofNat_of_zero_le c51
          refine j_al0 C eX0_move_63 ?_
          refine x_get_rows C eX0_move_64 ?_
          refine j_il4 C eX0_move_67 ?_
          refine j_il2 C eX0_move_69 ?_
          refine j_isub C eX0_move_70 ?_
          refine x_rows_ld C (i := b) eX0_move_71 hb (by omega) ?_
          refine j_goto C eX0_move_72 ?_
          refine x_fig_st C (i := j) eX0_move_76 rfl (by omega) ?_
          rw [mvF_s P F dy j (fun i => by first | (rw [if_neg (by omega)]) | (rw [if_pos (by omega), hb]; rfl))]
          refine j_inc4 C eX0_move_77 (by decide) ?_
          refine j_goto C eX0_move_80 ?_
          exact ih (j + 1) (by omega) (by omega)
theorem move_loop2 {X : jX} (ad : Nat → Nat) (dc : Nat → ClassId) (pen : Int) (P Q : Nat → Nat → Bool) (wt : Int) (rr rf rl : Nat → Int) (hQ : ∀ y i, y < 24 → 24 ≤ i → Q y i = false) (dx dy b0 : Int) (hdx : -24 ≤ dx ∧ dx ≤ 24) (C : jC X cX0_move RX0 5 (cTy dc) 2 45) (E : jE X cX0_move (some .int) (pI (cW ad dc pen (mvP P Q dx 24) Q wt rr rf rl) (iI (b0 - (cntR (mvP P Q dx 24) 24 : Int))))) : ∀ (n j : Nat), 24 < j + n → j ≤ 24 → J X (cW ad dc pen (mvP P Q dx j) Q wt rr rf rl) 86 [some (.ref (ad 0)), some (.int (iI dx)), some (.int (iI dy)), some (.int (iI b0)), some (.int (iI (j : Int)))] [] := by
  intro n
  induction n with
  | zero => intro j h1 h2; omega
  | succ n ih =>
    intro j h1 h2
    refine j_il4 C eX0_move_86 ?_
    refine j_bipush C eX0_move_88 (by decide) ?_
    refine j_cge C eX0_move_90 (by omega) (by omega) (fun c90 => ?_) (fun c90 => ?_)
    · obtain rfl : j = 24 := by omega
      refine j_il3 C eX0_move_135 ?_
      refine j_al0 C eX0_move_136 ?_
      refine x_callI C kX0_75 (cx_count _ _ _ _ _ _ _ _ _) (by decide) rfl rfl (Nat.le_of_ble_eq_true rfl) eX0_move_137 ?_
      refine j_isub C eX0_move_140 ?_
      exact j_iretv E eX0_move_141 rfl ⟨rfl, rfl⟩
    · refine j_al0 C eX0_move_93 ?_
      refine x_get_rows C eX0_move_94 ?_
      refine j_il4 C eX0_move_97 ?_
      refine j_il1 C eX0_move_99 ?_
      refine j_iflt C eX0_move_100 (by omega) (fun c100 => ?_) (fun c100 => ?_)
      · obtain ⟨a, ha⟩ := Int.eq_ofNat_of_zero_le (show 0 ≤ -dx by omega)
        obtain rfl : dx = -(a : Int) := by omega
        refine j_al0 C eX0_move_115 ?_
        refine x_get_fig C eX0_move_116 ?_
        refine j_il4 C eX0_move_119 ?_
        refine x_fig_ld C (i := j) eX0_move_121 rfl (by omega) ?_
        refine j_il1 C eX0_move_122 ?_
        refine j_ineg C eX0_move_123 ?_
        rw [Int.neg_neg]
        refine j_ishr C eX0_move_124 ?_
        refine j_val (bI_shr _ (hQ j 31 (by omega) (by omega)) (show a < 32 by omega)) ?_
        refine j_ldc C eX0_move_125 q177 ?_
        refine j_iand C eX0_move_127 ?_
        refine j_val (bI_mask _) ?_
        first | rw [mvS_p] | rw [mvS_n _ a (by omega)]
        refine x_rows_st C (i := j) eX0_move_128 rfl (by omega) ?_
        rw [mvP_s]
        refine j_inc4 C eX0_move_129 (by decide) ?_
        refine j_goto C eX0_move_132 ?_
        exact ih (j + 1) (by omega) (by omega)
      · obtain ⟨a, rfl⟩ := Int.eq_ofNat_of_zero_le c100
        refine j_al0 C eX0_move_103 ?_
        refine x_get_fig C eX0_move_104 ?_
        refine j_il4 C eX0_move_107 ?_
        refine x_fig_ld C (i := j) eX0_move_109 rfl (by omega) ?_
        refine j_il1 C eX0_move_110 ?_
        refine j_ishl C eX0_move_111 ?_
        refine j_val (bI_shl _ (show a < 32 by omega)) ?_
        refine j_goto C eX0_move_112 ?_
        refine j_ldc C eX0_move_125 q177 ?_
        refine j_iand C eX0_move_127 ?_
        refine j_val (bI_mask _) ?_
        first | rw [mvS_p] | rw [mvS_n _ a (by omega)]
        refine x_rows_st C (i := j) eX0_move_128 rfl (by omega) ?_
        rw [mvP_s]
        refine j_inc4 C eX0_move_129 (by decide) ?_
        refine j_goto C eX0_move_132 ?_
        exact ih (j + 1) (by omega) (by omega)
theorem cx_move (ad : Nat → Nat) (dc : Nat → ClassId) (pen : Int) (P F : Nat → Nat → Bool) (wt : Int) (rr rf rl : Nat → Int) (hP : ∀ y i, y < 24 → 24 ≤ i → P y i = false) (dx dy : Int) (h1 : -2147483648 ≤ dx ∧ dx < 2147483648) (h2 : -2147483648 ≤ dy ∧ dy < 2147483648) : gX0_move dc [.ref (ad 0), .int (iI dx), .int (iI dy)] (cW ad dc pen P F wt rr rf rl) (pI (cW ad dc pen (if -24 ≤ dx ∧ dx ≤ 24 ∧ -24 ≤ dy ∧ dy ≤ 24 then (mvP P (mvF P F dy 24) dx 24) else P) (if -24 ≤ dx ∧ dx ≤ 24 ∧ -24 ≤ dy ∧ dy ≤ 24 then mvF P F dy 24 else F) wt rr rf rl) (iI (if -24 ≤ dx ∧ dx ≤ 24 ∧ -24 ≤ dy ∧ dy ≤ 24 then (cntR P 24 : Int) - (cntR (mvP P (mvF P F dy 24) dx 24) 24 : Int) else -1))) := by
  refine mG_of (own := RX0) (lv := [some (.ref (ad 0)), some (.int (iI dx)), some (.int (iI dy)), none, none]) (by decide) rfl (jIn_b [.ref (ad 0), .int (iI dx), .int (iI dy)] 2 rfl) ?_
  intro X C E
  refine j_il1 C eX0_move_0 ?_
  refine j_bipush C eX0_move_1 (by decide) ?_
  refine j_clt C eX0_move_3 (by omega) (by omega) (fun c3 => ?_) (fun c3 => ?_)
  · refine j_iconst C eX0_move_24 ?_
    exact j_iretv E eX0_move_25 (by rw [if_neg (by omega)]) ⟨by rw [if_neg (by omega), if_neg (by omega)], rfl⟩
  · refine j_il1 C eX0_move_6 ?_
    refine j_bipush C eX0_move_7 (by decide) ?_
    refine j_cgt C eX0_move_9 (by omega) (by omega) (fun c9 => ?_) (fun c9 => ?_)
    · refine j_iconst C eX0_move_24 ?_
      exact j_iretv E eX0_move_25 (by rw [if_neg (by omega)]) ⟨by rw [if_neg (by omega), if_neg (by omega)], rfl⟩
    · refine j_il2 C eX0_move_12 ?_
      refine j_bipush C eX0_move_13 (by decide) ?_
      refine j_clt C eX0_move_15 (by omega) (by omega) (fun c15 => ?_) (fun c15 => ?_)
      · refine j_iconst C eX0_move_24 ?_
        exact j_iretv E eX0_move_25 (by rw [if_neg (by omega)]) ⟨by rw [if_neg (by omega), if_neg (by omega)], rfl⟩
      · refine j_il2 C eX0_move_18 ?_
        refine j_bipush C eX0_move_19 (by decide) ?_
        refine j_cle C eX0_move_21 (by omega) (by omega) (fun c21 => ?_) (fun c21 => ?_)
        · refine j_al0 C eX0_move_26 ?_
          refine x_callI C kX0_75 (cx_count _ _ _ _ _ _ _ _ _) (by decide) rfl rfl (Nat.le_of_ble_eq_true rfl) eX0_move_27 ?_
          refine j_is3 C eX0_move_30 (by decide) ?_
          refine j_iconst C eX0_move_31 ?_
          refine j_is4 C eX0_move_32 (by decide) ?_
          have hE : jE X cX0_move (some .int) (pI (cW ad dc pen (mvP P (mvF P F dy 24) dx 24) (mvF P F dy 24) wt rr rf rl) (iI ((cntR P 24 : Int) - (cntR (mvP P (mvF P F dy 24) dx 24) 24 : Int)))) := by
            rw [if_pos (by omega), if_pos (by omega), if_pos (by omega)] at E
            exact E
          have k := move_loop1 ad dc pen P F wt rr rf rl dx dy (cntR P 24) (by omega) C ?_ 25 0 (by omega) (by omega)
          · rw [mvF_0] at k; exact k
          have k2 := move_loop2 ad dc pen P (mvF P F dy 24) wt rr rf rl (fun y i h3 h4 => by unfold mvF; rw [if_pos h3]; split; exact hP _ i (by omega) h4; rfl) dx dy (cntR P 24) (by omega) C hE 25 0 (by omega) (by omega)
          rw [mvP_0] at k2
          refine j_iconst C eX0_move_83 ?_
          refine j_is4 C eX0_move_84 (by decide) ?_
          exact k2
        · refine j_iconst C eX0_move_24 ?_
          exact j_iretv E eX0_move_25 (by rw [if_neg (by omega)]) ⟨by rw [if_neg (by omega), if_neg (by omega)], rfl⟩
theorem x_F {X : jX} {ad : Nat → Nat} {dc : Nat → ClassId} {pen wt : Int} {P F F' : Nat → Nat → Bool} {rr rf rl : Nat → Int} {pc : Nat} {lv : List (Option Value)} {st : List Value} (h : F = F') (k : J X (cW ad dc pen P F' wt rr rf rl) pc lv st) : J X (cW ad dc pen P F wt rr rf rl) pc lv st := h ▸ k
def eightF (F : Nat → Nat → Bool) (a b u v : Int) : Nat → Nat → Bool := dotF (dotF (dotF (dotF (dotF (dotF (dotF (dotF F (a + u) (b + -1 * v)) (a - u) (b + -1 * v)) (a + -1 * v) (b + u)) (a + -1 * v) (b - u)) (a + u) (b + 1 * v)) (a - u) (b + 1 * v)) (a + 1 * v) (b + u)) (a + 1 * v) (b - u)
theorem cx_eightDots (ad : Nat → Nat) (dc : Nat → ClassId) (pen : Int) (P F : Nat → Nat → Bool) (wt : Int) (rr rf rl : Nat → Int) (a b u v : Int) (ha : 0 ≤ a ∧ a < 24) (hb : 0 ≤ b ∧ b < 24) (hu : 0 ≤ u ∧ u ≤ 30) (hv : 0 ≤ v ∧ v ≤ 30) : gX0_eightDots dc [.ref (ad 0), .int (iI a), .int (iI b), .int (iI u), .int (iI v)] (cW ad dc pen P F wt rr rf rl) (pV (cW ad dc pen P (eightF F a b u v) wt rr rf rl)) := by
  refine mG_of (own := RX0) (lv := [some (.ref (ad 0)), some (.int (iI a)), some (.int (iI b)), some (.int (iI u)), some (.int (iI v)), none]) (by decide) rfl (jIn_b [.ref (ad 0), .int (iI a), .int (iI b), .int (iI u), .int (iI v)] 1 rfl) ?_
  intro X C E
  refine j_iconst C eX0_eightDots_0 ?_
  refine j_is5 C eX0_eightDots_1 (by decide) ?_
  refine j_il5 C eX0_eightDots_3 ?_
  refine j_iconst C eX0_eightDots_5 ?_
  refine j_cgtF C eX0_eightDots_6 (by decide) (by decide) (by decide) ?_
  refine j_al0 C eX0_eightDots_9 ?_
  refine j_il1 C eX0_eightDots_10 ?_
  refine j_il3 C eX0_eightDots_11 ?_
  refine j_iadd C eX0_eightDots_12 ?_
  refine j_il2 C eX0_eightDots_13 ?_
  refine j_il5 C eX0_eightDots_14 ?_
  refine j_il4 C eX0_eightDots_16 ?_
  refine j_imul C eX0_eightDots_18 ?_
  refine j_iadd C eX0_eightDots_19 ?_
  refine x_callV C kX0_79 (cx_dot _ _ _ _ _ _ _ _ _ _ _ (by omega) (by omega)) (by decide) rfl rfl (Nat.le_of_ble_eq_true rfl) eX0_eightDots_20 ?_
  refine j_al0 C eX0_eightDots_23 ?_
  refine j_il1 C eX0_eightDots_24 ?_
  refine j_il3 C eX0_eightDots_25 ?_
  refine j_isub C eX0_eightDots_26 ?_
  refine j_il2 C eX0_eightDots_27 ?_
  refine j_il5 C eX0_eightDots_28 ?_
  refine j_il4 C eX0_eightDots_30 ?_
  refine j_imul C eX0_eightDots_32 ?_
  refine j_iadd C eX0_eightDots_33 ?_
  refine x_callV C kX0_79 (cx_dot _ _ _ _ _ _ _ _ _ _ _ (by omega) (by omega)) (by decide) rfl rfl (Nat.le_of_ble_eq_true rfl) eX0_eightDots_34 ?_
  refine j_al0 C eX0_eightDots_37 ?_
  refine j_il1 C eX0_eightDots_38 ?_
  refine j_il5 C eX0_eightDots_39 ?_
  refine j_il4 C eX0_eightDots_41 ?_
  refine j_imul C eX0_eightDots_43 ?_
  refine j_iadd C eX0_eightDots_44 ?_
  refine j_il2 C eX0_eightDots_45 ?_
  refine j_il3 C eX0_eightDots_46 ?_
  refine j_iadd C eX0_eightDots_47 ?_
  refine x_callV C kX0_79 (cx_dot _ _ _ _ _ _ _ _ _ _ _ (by omega) (by omega)) (by decide) rfl rfl (Nat.le_of_ble_eq_true rfl) eX0_eightDots_48 ?_
  refine j_al0 C eX0_eightDots_51 ?_
  refine j_il1 C eX0_eightDots_52 ?_
  refine j_il5 C eX0_eightDots_53 ?_
  refine j_il4 C eX0_eightDots_55 ?_
  refine j_imul C eX0_eightDots_57 ?_
  refine j_iadd C eX0_eightDots_58 ?_
  refine j_il2 C eX0_eightDots_59 ?_
  refine j_il3 C eX0_eightDots_60 ?_
  refine j_isub C eX0_eightDots_61 ?_
  refine x_callV C kX0_79 (cx_dot _ _ _ _ _ _ _ _ _ _ _ (by omega) (by omega)) (by decide) rfl rfl (Nat.le_of_ble_eq_true rfl) eX0_eightDots_62 ?_
  refine j_inc5 C eX0_eightDots_65 (by decide) ?_
  refine j_goto C eX0_eightDots_68 ?_
  refine j_il5 C eX0_eightDots_3 ?_
  refine j_iconst C eX0_eightDots_5 ?_
  refine j_cgtF C eX0_eightDots_6 (by decide) (by decide) (by decide) ?_
  refine j_al0 C eX0_eightDots_9 ?_
  refine j_il1 C eX0_eightDots_10 ?_
  refine j_il3 C eX0_eightDots_11 ?_
  refine j_iadd C eX0_eightDots_12 ?_
  refine j_il2 C eX0_eightDots_13 ?_
  refine j_il5 C eX0_eightDots_14 ?_
  refine j_il4 C eX0_eightDots_16 ?_
  refine j_imul C eX0_eightDots_18 ?_
  refine j_iadd C eX0_eightDots_19 ?_
  refine x_callV C kX0_79 (cx_dot _ _ _ _ _ _ _ _ _ _ _ (by omega) (by omega)) (by decide) rfl rfl (Nat.le_of_ble_eq_true rfl) eX0_eightDots_20 ?_
  refine j_al0 C eX0_eightDots_23 ?_
  refine j_il1 C eX0_eightDots_24 ?_
  refine j_il3 C eX0_eightDots_25 ?_
  refine j_isub C eX0_eightDots_26 ?_
  refine j_il2 C eX0_eightDots_27 ?_
  refine j_il5 C eX0_eightDots_28 ?_
  refine j_il4 C eX0_eightDots_30 ?_
  refine j_imul C eX0_eightDots_32 ?_
  refine j_iadd C eX0_eightDots_33 ?_
  refine x_callV C kX0_79 (cx_dot _ _ _ _ _ _ _ _ _ _ _ (by omega) (by omega)) (by decide) rfl rfl (Nat.le_of_ble_eq_true rfl) eX0_eightDots_34 ?_
  refine j_al0 C eX0_eightDots_37 ?_
  refine j_il1 C eX0_eightDots_38 ?_
  refine j_il5 C eX0_eightDots_39 ?_
  refine j_il4 C eX0_eightDots_41 ?_
  refine j_imul C eX0_eightDots_43 ?_
  refine j_iadd C eX0_eightDots_44 ?_
  refine j_il2 C eX0_eightDots_45 ?_
  refine j_il3 C eX0_eightDots_46 ?_
  refine j_iadd C eX0_eightDots_47 ?_
  refine x_callV C kX0_79 (cx_dot _ _ _ _ _ _ _ _ _ _ _ (by omega) (by omega)) (by decide) rfl rfl (Nat.le_of_ble_eq_true rfl) eX0_eightDots_48 ?_
  refine j_al0 C eX0_eightDots_51 ?_
  refine j_il1 C eX0_eightDots_52 ?_
  refine j_il5 C eX0_eightDots_53 ?_
  refine j_il4 C eX0_eightDots_55 ?_
  refine j_imul C eX0_eightDots_57 ?_
  refine j_iadd C eX0_eightDots_58 ?_
  refine j_il2 C eX0_eightDots_59 ?_
  refine j_il3 C eX0_eightDots_60 ?_
  refine j_isub C eX0_eightDots_61 ?_
  refine x_callV C kX0_79 (cx_dot _ _ _ _ _ _ _ _ _ _ _ (by omega) (by omega)) (by decide) rfl rfl (Nat.le_of_ble_eq_true rfl) eX0_eightDots_62 ?_
  refine j_inc5 C eX0_eightDots_65 (by decide) ?_
  refine j_goto C eX0_eightDots_68 ?_
  refine j_il5 C eX0_eightDots_3 ?_
  refine j_iconst C eX0_eightDots_5 ?_
  refine j_cgtT C eX0_eightDots_6 (by decide) (by decide) (by decide) ?_
  exact j_vret E eX0_eightDots_71 ⟨rfl, rfl⟩
def crossF (F : Nat → Nat → Bool) (z p q : Int) (n : Nat) : Nat → Nat → Bool := fun j i => F j i || decide (j < n ∧ i < 24 ∧ j < 24 ∧ ((p = 0 ∧ q = 0) ∨ (p = 0 ∧ q ≠ 0 ∧ (i : Int) = z % 32) ∨ (p ≠ 0 ∧ (j : Int) = z / 32)))
theorem crossF_0 (F : Nat → Nat → Bool) (z p q : Int) : crossF F z p q 0 = F := by
  funext j i
  unfold crossF
  rw [decide_eq_false (by omega), Bool.or_false]
theorem crossF_s (F G : Nat → Nat → Bool) (z p q : Int) (n : Nat) (h : ∀ j i : Nat, G j i = (crossF F z p q n j i || decide (j = n ∧ i < 24 ∧ j < 24 ∧ ((p = 0 ∧ q = 0) ∨ (p = 0 ∧ q ≠ 0 ∧ (i : Int) = z % 32) ∨ (p ≠ 0 ∧ (j : Int) = z / 32))))) : G = crossF F z p q (n + 1) := by
  funext j i
  rw [h]
  unfold crossF
  rw [Bool.or_assoc, ← Bool.decide_or]
  congr 1
  exact decide_eq_decide.mpr (by omega)
theorem cross_loop {X : jX} (ad : Nat → Nat) (dc : Nat → ClassId) (pen : Int) (P F : Nat → Nat → Bool) (wt : Int) (rr rf rl : Nat → Int) (z p q : Int) (hz : 0 ≤ z ∧ z % 32 < 24 ∧ z / 32 < 24) (hp : 0 ≤ p ∧ p ≤ 30) (hq : 0 ≤ q ∧ q ≤ 30) (hpq : p = 0 ∨ q = 0) (C : jC X cX0_drawCross RX0 7 (cTy dc) 1 25) (E : jE X cX0_drawCross none (pV (cW ad dc pen P (crossF F z p q 24) wt rr rf rl))) : ∀ (n j : Nat), 24 < j + n → j ≤ 24 → J X (cW ad dc pen P (crossF F z p q j) wt rr rf rl) 14 [some (.ref (ad 0)), some (.int (iI z)), some (.int (iI p)), some (.int (iI q)), some (.int (iI (z % 32))), some (.int (iI (z / 32))), some (.int (iI (j : Int)))] [] := by
  intro n
  induction n with
  | zero => intro j h1 h2; omega
  | succ n ih =>
    intro j h1 h2
    refine j_il6 C eX0_drawCross_14 ?_
    refine j_bipush C eX0_drawCross_16 (by decide) ?_
    refine j_cge C eX0_drawCross_18 (by omega) (by omega) (fun c18 => ?_) (fun c18 => ?_)
    · obtain rfl : j = 24 := by omega
      exact j_vret E eX0_drawCross_78 ⟨rfl, rfl⟩
    · refine j_il2 C eX0_drawCross_21 ?_
      refine j_ifne C eX0_drawCross_22 (by omega) (fun c22 => ?_) (fun c22 => ?_)
      · refine j_il2 C eX0_drawCross_41 ?_
        refine j_ifne C eX0_drawCross_42 (by omega) (fun c42 => ?_) (fun c42 => ?_)
        · refine j_il6 C eX0_drawCross_56 ?_
          refine j_il5 C eX0_drawCross_58 ?_
          refine j_cne C eX0_drawCross_60 (by omega) (by omega) (fun c60 => ?_) (fun c60 => ?_)
          · refine j_inc6 C eX0_drawCross_72 (by decide) ?_
            refine j_goto C eX0_drawCross_75 ?_
            refine x_F (crossF_s F _ z p q j (fun j i => by rw [decide_eq_false (by omega), Bool.or_false])) ?_
            exact ih (j + 1) (by omega) (by omega)
          · refine j_al0 C eX0_drawCross_63 ?_
            refine j_il6 C eX0_drawCross_64 ?_
            refine j_iconst C eX0_drawCross_66 ?_
            refine j_bipush C eX0_drawCross_67 (by decide) ?_
            refine x_callV C kX0_87 (cx_run _ _ _ _ _ _ _ _ _ _ _ _ (by omega) (by omega) (by omega)) (by decide) rfl rfl (Nat.le_of_ble_eq_true rfl) eX0_drawCross_69 ?_
            refine j_inc6 C eX0_drawCross_72 (by decide) ?_
            refine j_goto C eX0_drawCross_75 ?_
            refine x_F (crossF_s F _ z p q j (fun j i => by unfold runF; congr 1; exact decide_eq_decide.mpr (by omega))) ?_
            exact ih (j + 1) (by omega) (by omega)
        · refine j_al0 C eX0_drawCross_45 ?_
          refine j_il4 C eX0_drawCross_46 ?_
          refine j_il6 C eX0_drawCross_48 ?_
          refine x_callV C kX0_79 (cx_dot _ _ _ _ _ _ _ _ _ _ _ (by omega) (by omega)) (by decide) rfl rfl (Nat.le_of_ble_eq_true rfl) eX0_drawCross_50 ?_
          refine j_goto C eX0_drawCross_53 ?_
          refine j_inc6 C eX0_drawCross_72 (by decide) ?_
          refine j_goto C eX0_drawCross_75 ?_
          refine x_F (crossF_s F _ z p q j (fun j i => by unfold dotF; congr 1; exact decide_eq_decide.mpr (by omega))) ?_
          exact ih (j + 1) (by omega) (by omega)
      · refine j_il3 C eX0_drawCross_25 ?_
        refine j_ifne C eX0_drawCross_26 (by omega) (fun c26 => ?_) (fun c26 => ?_)
        · refine j_il2 C eX0_drawCross_41 ?_
          refine j_ifne C eX0_drawCross_42 (by omega) (fun c42 => ?_) (fun c42 => ?_)
          · refine j_il6 C eX0_drawCross_56 ?_
            refine j_il5 C eX0_drawCross_58 ?_
            refine j_cne C eX0_drawCross_60 (by omega) (by omega) (fun c60 => ?_) (fun c60 => ?_)
            · refine j_inc6 C eX0_drawCross_72 (by decide) ?_
              refine j_goto C eX0_drawCross_75 ?_
              refine x_F (crossF_s F _ z p q j (fun j i => by rw [decide_eq_false (by omega), Bool.or_false])) ?_
              exact ih (j + 1) (by omega) (by omega)
            · refine j_al0 C eX0_drawCross_63 ?_
              refine j_il6 C eX0_drawCross_64 ?_
              refine j_iconst C eX0_drawCross_66 ?_
              refine j_bipush C eX0_drawCross_67 (by decide) ?_
              refine x_callV C kX0_87 (cx_run _ _ _ _ _ _ _ _ _ _ _ _ (by omega) (by omega) (by omega)) (by decide) rfl rfl (Nat.le_of_ble_eq_true rfl) eX0_drawCross_69 ?_
              refine j_inc6 C eX0_drawCross_72 (by decide) ?_
              refine j_goto C eX0_drawCross_75 ?_
              refine x_F (crossF_s F _ z p q j (fun j i => by unfold runF; congr 1; exact decide_eq_decide.mpr (by omega))) ?_
              exact ih (j + 1) (by omega) (by omega)
          · refine j_al0 C eX0_drawCross_45 ?_
            refine j_il4 C eX0_drawCross_46 ?_
            refine j_il6 C eX0_drawCross_48 ?_
            refine x_callV C kX0_79 (cx_dot _ _ _ _ _ _ _ _ _ _ _ (by omega) (by omega)) (by decide) rfl rfl (Nat.le_of_ble_eq_true rfl) eX0_drawCross_50 ?_
            refine j_goto C eX0_drawCross_53 ?_
            refine j_inc6 C eX0_drawCross_72 (by decide) ?_
            refine j_goto C eX0_drawCross_75 ?_
            refine x_F (crossF_s F _ z p q j (fun j i => by unfold dotF; congr 1; exact decide_eq_decide.mpr (by omega))) ?_
            exact ih (j + 1) (by omega) (by omega)
        · refine j_al0 C eX0_drawCross_29 ?_
          refine j_il6 C eX0_drawCross_30 ?_
          refine j_iconst C eX0_drawCross_32 ?_
          refine j_bipush C eX0_drawCross_33 (by decide) ?_
          refine x_callV C kX0_87 (cx_run _ _ _ _ _ _ _ _ _ _ _ _ (by omega) (by omega) (by omega)) (by decide) rfl rfl (Nat.le_of_ble_eq_true rfl) eX0_drawCross_35 ?_
          refine j_goto C eX0_drawCross_38 ?_
          refine j_inc6 C eX0_drawCross_72 (by decide) ?_
          refine j_goto C eX0_drawCross_75 ?_
          refine x_F (crossF_s F _ z p q j (fun j i => by unfold runF; congr 1; exact decide_eq_decide.mpr (by omega))) ?_
          exact ih (j + 1) (by omega) (by omega)
theorem cx_cross (ad : Nat → Nat) (dc : Nat → ClassId) (pen : Int) (P F : Nat → Nat → Bool) (wt : Int) (rr rf rl : Nat → Int) (z p q : Int) (hz : 0 ≤ z ∧ z % 32 < 24 ∧ z / 32 < 24) (hp : 0 ≤ p ∧ p ≤ 30) (hq : 0 ≤ q ∧ q ≤ 30) (hpq : p = 0 ∨ q = 0) : gX0_drawCross dc [.ref (ad 0), .int (iI z), .int (iI p), .int (iI q)] (cW ad dc pen P F wt rr rf rl) (pV (cW ad dc pen P (crossF F z p q 24) wt rr rf rl)) := by
  refine mG_of (own := RX0) (lv := [some (.ref (ad 0)), some (.int (iI z)), some (.int (iI p)), some (.int (iI q)), none, none, none]) (by decide) rfl (jIn_b [.ref (ad 0), .int (iI z), .int (iI p), .int (iI q)] 3 rfl) ?_
  intro X C E
  refine j_il1 C eX0_drawCross_0 ?_
  refine j_bipush C eX0_drawCross_1 (by decide) ?_
  refine j_iand C eX0_drawCross_3 ?_
  refine j_val (iI_and31 _) ?_
  refine j_is4 C eX0_drawCross_4 (by decide) ?_
  refine j_il1 C eX0_drawCross_6 ?_
  refine j_iconst C eX0_drawCross_7 ?_
  refine j_ishr C eX0_drawCross_8 ?_
  refine j_val (iI_shr5 (by omega) (by omega)) ?_
  refine j_is5 C eX0_drawCross_9 (by decide) ?_
  refine j_iconst C eX0_drawCross_11 ?_
  refine j_is6 C eX0_drawCross_12 (by decide) ?_
  have k := cross_loop ad dc pen P F wt rr rf rl z p q hz hp hq hpq C E 25 0 (by omega) (by omega)
  rw [crossF_0] at k
  exact k
end
section
abbrev wlHit (fr len rise h0 t w : Int) : Prop := (0 < len ∧ -len < 2 * (rise * (t - fr) - len * (w - h0)) ∧ 2 * (rise * (t - fr) - len * (w - h0)) ≤ len) ∨ (len = 0 ∧ w = h0)
def lineW (F : Nat → Nat → Bool) (ex : Bool) (fr len rise h0 n : Int) : Nat → Nat → Bool := fun j i => F j i || (if ex then decide (i < 24 ∧ j < 24 ∧ fr ≤ (j : Int) ∧ (j : Int) < n ∧ wlHit fr len rise h0 j i) else decide (i < 24 ∧ j < 24 ∧ fr ≤ (i : Int) ∧ (i : Int) < n ∧ wlHit fr len rise h0 i j))
theorem near_uniq {len s h0 h w : Int} (hl : 0 < len) (h1 : -len < 2 * (s - len * (h - h0))) (h2 : 2 * (s - len * (h - h0)) ≤ len) : (-len < 2 * (s - len * (w - h0)) ∧ 2 * (s - len * (w - h0)) ≤ len) ↔ w = h := by
  constructor
  · intro ⟨h3, h4⟩
    rcases Int.lt_trichotomy w h with q | q | q
    · have h5 : 0 ≤ len * (h - w - 1) := Int.mul_nonneg (by omega) (by omega)
      have h6 : len * (h - w - 1) = len * (h - h0) - len * (w - h0) - len := by grind
      omega
    · exact q
    · have h5 : 0 ≤ len * (w - h - 1) := Int.mul_nonneg (by omega) (by omega)
      have h6 : len * (w - h - 1) = len * (w - h0) - len * (h - h0) - len := by grind
      omega
  · intro q
    subst q
    exact ⟨h1, h2⟩
theorem wlHit_iff {fr len rise h0 u h w : Int} (hi : (0 < len ∧ -len < 2 * (rise * (u - fr) - len * (h - h0)) ∧ 2 * (rise * (u - fr) - len * (h - h0)) ≤ len) ∨ (len = 0 ∧ h = h0)) : wlHit fr len rise h0 u w ↔ w = h := by
  rcases hi with ⟨h1, h2, h3⟩ | ⟨h1, h2⟩
  · have := near_uniq (w := w) h1 h2 h3
    constructor
    · intro q
      rcases q with q | q
      · exact this.mp q.2
      · omega
    · intro q
      exact Or.inl ⟨h1, this.mpr q⟩
  · constructor
    · intro q
      rcases q with q | q
      · omega
      · omega
    · intro q
      exact Or.inr ⟨h1, by omega⟩
theorem lineW_0 (F : Nat → Nat → Bool) (ex : Bool) (fr len rise h0 : Int) : lineW F ex fr len rise h0 fr = F := by
  funext j i
  unfold lineW
  split
  · rw [decide_eq_false (fun h => by omega), Bool.or_false]
  · rw [decide_eq_false (fun h => by omega), Bool.or_false]
theorem lineW_s (F : Nat → Nat → Bool) (ex : Bool) (fr len rise h0 u h x y : Int) (hu : fr ≤ u) (hi : (0 < len ∧ -len < 2 * (rise * (u - fr) - len * (h - h0)) ∧ 2 * (rise * (u - fr) - len * (h - h0)) ≤ len) ∨ (len = 0 ∧ h = h0)) (hx : x = if ex then h else u) (hy : y = if ex then u else h) : dotF (lineW F ex fr len rise h0 u) x y = lineW F ex fr len rise h0 (u + 1) := by
  have key := fun w => wlHit_iff (w := w) hi
  funext j i
  unfold dotF lineW
  rw [Bool.or_assoc]
  congr 1
  cases ex
  · simp only [Bool.false_eq_true, if_false] at hx hy ⊢
    subst hx; subst hy
    rw [← Bool.decide_or]
    refine decide_eq_decide.mpr ⟨fun q => ?_, fun q => ?_⟩
    · rcases q with q | q
      · exact ⟨q.1, q.2.1, q.2.2.1, by omega, q.2.2.2.2⟩
      · refine ⟨q.2.2.1, q.2.2.2, by omega, by omega, ?_⟩
        rw [q.2.1]
        exact (key _).mpr q.1
    · by_cases e : (i : Int) = x
      · right
        have := q.2.2.2.2
        rw [e] at this
        exact ⟨(key _).mp this, e, q.1, q.2.1⟩
      · left
        exact ⟨q.1, q.2.1, q.2.2.1, by omega, q.2.2.2.2⟩
  · simp only [if_true] at hx hy ⊢
    subst hx; subst hy
    rw [← Bool.decide_or]
    refine decide_eq_decide.mpr ⟨fun q => ?_, fun q => ?_⟩
    · rcases q with q | q
      · exact ⟨q.1, q.2.1, q.2.2.1, by omega, q.2.2.2.2⟩
      · refine ⟨q.2.2.1, q.2.2.2, by omega, by omega, ?_⟩
        rw [q.1]
        exact (key _).mpr q.2.1
    · by_cases e : (j : Int) = y
      · right
        have := q.2.2.2.2
        rw [e] at this
        exact ⟨e, (key _).mp this, q.1, q.2.1⟩
      · left
        exact ⟨q.1, q.2.1, q.2.2.1, by omega, q.2.2.2.2⟩
theorem wl_up {e r u f l h g : Int} (he : e = 2 * (r * (u - f) - l * (h - g))) : e + 2 * r - 2 * l = 2 * (r * (u + 1 - f) - l * (h + 1 - g)) := by subst he; grind
theorem wl_dn {e r u f l h g : Int} (he : e = 2 * (r * (u - f) - l * (h - g))) : e + 2 * r + 2 * l = 2 * (r * (u + 1 - f) - l * (h + -1 - g)) := by subst he; grind
theorem wl_eq {e r u f l h g : Int} (he : e = 2 * (r * (u - f) - l * (h - g))) : e + 2 * r = 2 * (r * (u + 1 - f) - l * (h - g)) := by subst he; grind
theorem walk_loop {X : jX} (ad : Nat → Nat) (dc : Nat → ClassId) (pen : Int) (P F : Nat → Nat → Bool) (wt : Int) (rr rf rl : Nat → Int) (a b c d : Int) (ex : Bool) (fr to h0 rise len : Int) (hfr : 0 ≤ fr ∧ fr ≤ to ∧ to < 24) (hh0 : 0 ≤ h0 ∧ h0 < 24) (hlen : len = to - fr) (hr : -len ≤ rise ∧ rise ≤ len) (C : jC X cX0_walkLine RX0 13 (cTy dc) 1 22) (E : jE X cX0_walkLine none (pV (cW ad dc pen P (lineW F ex fr len rise h0 (to + 1)) wt rr rf rl))) : ∀ (n : Nat) (u h e : Int), to + 2 ≤ u + n → fr ≤ u → u ≤ to + 1 → e = 2 * (rise * (u - fr) - len * (h - h0)) → h0 - (u - fr) ≤ h → h ≤ h0 + (u - fr) → ((0 < len ∧ -len < e ∧ e ≤ len) ∨ (len = 0 ∧ e = 0 ∧ h = h0)) → J X (cW ad dc pen P (lineW F ex fr len rise h0 u) wt rr rf rl) 69 [some (.ref (ad 0)), some (.int (iI a)), some (.int (iI b)), some (.int (iI c)), some (.int (iI d)), some (.int (iI (zI ex))), some (.int (iI fr)), some (.int (iI to)), some (.int (iI h)), some (.int (iI rise)), some (.int (iI len)), some (.int (iI e)), some (.int (iI u))] [] := by
  intro n
  induction n with
  | zero => intro u h e h1 h2 h3; omega
  | succ n ih =>
    intro u h e h1 h2 h3 he h4 h5 h6
    refine j_il12 C eX0_walkLine_69 ?_
    refine j_il7 C eX0_walkLine_71 ?_
    refine j_cgt C eX0_walkLine_73 (by omega) (by omega) (fun c73 => ?_) (fun c73 => ?_)
    · obtain rfl : u = to + 1 := by omega
      exact j_vret E eX0_walkLine_162 ⟨rfl, rfl⟩
    · refine j_il5 C eX0_walkLine_76 ?_
      refine j_ifeqB C eX0_walkLine_78 (fun c78 => ?_) (fun c78 => ?_)
      · refine j_al0 C eX0_walkLine_92 ?_
        refine j_il12 C eX0_walkLine_93 ?_
        refine j_il8 C eX0_walkLine_95 ?_
        refine x_callV C kX0_79 (cx_dot _ _ _ _ _ _ _ _ _ _ _ (by omega) (by omega)) (by decide) rfl rfl (Nat.le_of_ble_eq_true rfl) eX0_walkLine_97 ?_
        refine x_F (lineW_s F ex fr len rise h0 u h _ _ h2 (by rw [← he]; omega) (by rw [c78]; rfl) (by rw [c78]; rfl)) ?_
        refine j_il11 C eX0_walkLine_100 ?_
        refine j_iconst C eX0_walkLine_102 ?_
        refine j_il9 C eX0_walkLine_103 ?_
        refine j_imul C eX0_walkLine_105 ?_
        refine j_iadd C eX0_walkLine_106 ?_
        refine j_is11 C eX0_walkLine_107 (by decide) ?_
        refine j_il11 C eX0_walkLine_109 ?_
        refine j_il10 C eX0_walkLine_111 ?_
        refine j_cle C eX0_walkLine_113 (by omega) (by omega) (fun c113 => ?_) (fun c113 => ?_)
        · refine j_il11 C eX0_walkLine_131 ?_
          refine j_il10 C eX0_walkLine_133 ?_
          refine j_ineg C eX0_walkLine_135 ?_
          refine j_cgt C eX0_walkLine_136 (by omega) (by omega) (fun c136 => ?_) (fun c136 => ?_)
          · refine j_inc12 C eX0_walkLine_156 (by decide) ?_
            refine j_goto C eX0_walkLine_159 ?_
            exact ih (u + 1) _ _ (by omega) (by omega) (by omega) (wl_eq he) (by omega) (by omega) (by omega)
          · refine j_il10 C eX0_walkLine_139 ?_
            refine j_ifle C eX0_walkLine_141 (by omega) (fun c141 => ?_) (fun c141 => ?_)
            · refine j_inc12 C eX0_walkLine_156 (by decide) ?_
              refine j_goto C eX0_walkLine_159 ?_
              exact ih (u + 1) _ _ (by omega) (by omega) (by omega) (wl_eq he) (by omega) (by omega) (by omega)
            · refine j_inc8 C eX0_walkLine_144 (by decide) ?_
              refine j_il11 C eX0_walkLine_147 ?_
              refine j_iconst C eX0_walkLine_149 ?_
              refine j_il10 C eX0_walkLine_150 ?_
              refine j_imul C eX0_walkLine_152 ?_
              refine j_iadd C eX0_walkLine_153 ?_
              refine j_is11 C eX0_walkLine_154 (by decide) ?_
              refine j_inc12 C eX0_walkLine_156 (by decide) ?_
              refine j_goto C eX0_walkLine_159 ?_
              exact ih (u + 1) _ _ (by omega) (by omega) (by omega) (wl_dn he) (by omega) (by omega) (by omega)
        · refine j_inc8 C eX0_walkLine_116 (by decide) ?_
          refine j_il11 C eX0_walkLine_119 ?_
          refine j_iconst C eX0_walkLine_121 ?_
          refine j_il10 C eX0_walkLine_122 ?_
          refine j_imul C eX0_walkLine_124 ?_
          refine j_isub C eX0_walkLine_125 ?_
          refine j_is11 C eX0_walkLine_126 (by decide) ?_
          refine j_goto C eX0_walkLine_128 ?_
          refine j_inc12 C eX0_walkLine_156 (by decide) ?_
          refine j_goto C eX0_walkLine_159 ?_
          exact ih (u + 1) _ _ (by omega) (by omega) (by omega) (wl_up he) (by omega) (by omega) (by omega)
      · refine j_al0 C eX0_walkLine_81 ?_
        refine j_il8 C eX0_walkLine_82 ?_
        refine j_il12 C eX0_walkLine_84 ?_
        refine x_callV C kX0_79 (cx_dot _ _ _ _ _ _ _ _ _ _ _ (by omega) (by omega)) (by decide) rfl rfl (Nat.le_of_ble_eq_true rfl) eX0_walkLine_86 ?_
        refine x_F (lineW_s F ex fr len rise h0 u h _ _ h2 (by rw [← he]; omega) (by rw [c78]; rfl) (by rw [c78]; rfl)) ?_
        refine j_goto C eX0_walkLine_89 ?_
        refine j_il11 C eX0_walkLine_100 ?_
        refine j_iconst C eX0_walkLine_102 ?_
        refine j_il9 C eX0_walkLine_103 ?_
        refine j_imul C eX0_walkLine_105 ?_
        refine j_iadd C eX0_walkLine_106 ?_
        refine j_is11 C eX0_walkLine_107 (by decide) ?_
        refine j_il11 C eX0_walkLine_109 ?_
        refine j_il10 C eX0_walkLine_111 ?_
        refine j_cle C eX0_walkLine_113 (by omega) (by omega) (fun c113 => ?_) (fun c113 => ?_)
        · refine j_il11 C eX0_walkLine_131 ?_
          refine j_il10 C eX0_walkLine_133 ?_
          refine j_ineg C eX0_walkLine_135 ?_
          refine j_cgt C eX0_walkLine_136 (by omega) (by omega) (fun c136 => ?_) (fun c136 => ?_)
          · refine j_inc12 C eX0_walkLine_156 (by decide) ?_
            refine j_goto C eX0_walkLine_159 ?_
            exact ih (u + 1) _ _ (by omega) (by omega) (by omega) (wl_eq he) (by omega) (by omega) (by omega)
          · refine j_il10 C eX0_walkLine_139 ?_
            refine j_ifle C eX0_walkLine_141 (by omega) (fun c141 => ?_) (fun c141 => ?_)
            · refine j_inc12 C eX0_walkLine_156 (by decide) ?_
              refine j_goto C eX0_walkLine_159 ?_
              exact ih (u + 1) _ _ (by omega) (by omega) (by omega) (wl_eq he) (by omega) (by omega) (by omega)
            · refine j_inc8 C eX0_walkLine_144 (by decide) ?_
              refine j_il11 C eX0_walkLine_147 ?_
              refine j_iconst C eX0_walkLine_149 ?_
              refine j_il10 C eX0_walkLine_150 ?_
              refine j_imul C eX0_walkLine_152 ?_
              refine j_iadd C eX0_walkLine_153 ?_
              refine j_is11 C eX0_walkLine_154 (by decide) ?_
              refine j_inc12 C eX0_walkLine_156 (by decide) ?_
              refine j_goto C eX0_walkLine_159 ?_
              exact ih (u + 1) _ _ (by omega) (by omega) (by omega) (wl_dn he) (by omega) (by omega) (by omega)
        · refine j_inc8 C eX0_walkLine_116 (by decide) ?_
          refine j_il11 C eX0_walkLine_119 ?_
          refine j_iconst C eX0_walkLine_121 ?_
          refine j_il10 C eX0_walkLine_122 ?_
          refine j_imul C eX0_walkLine_124 ?_
          refine j_isub C eX0_walkLine_125 ?_
          refine j_is11 C eX0_walkLine_126 (by decide) ?_
          refine j_goto C eX0_walkLine_128 ?_
          refine j_inc12 C eX0_walkLine_156 (by decide) ?_
          refine j_goto C eX0_walkLine_159 ?_
          exact ih (u + 1) _ _ (by omega) (by omega) (by omega) (wl_up he) (by omega) (by omega) (by omega)
def wl (F : Nat → Nat → Bool) (a b c d : Int) (ex : Bool) : Nat → Nat → Bool := if a ≤ c then lineW F ex a (c - a) (d - b) b (c + 1) else lineW F ex c (a - c) (b - d) d (a + 1)
theorem cx_walk (ad : Nat → Nat) (dc : Nat → ClassId) (pen : Int) (P F : Nat → Nat → Bool) (wt : Int) (rr rf rl : Nat → Int) (a b c d : Int) (ex : Bool) (ha : 0 ≤ a ∧ a < 24) (hb : 0 ≤ b ∧ b < 24) (hc : 0 ≤ c ∧ c < 24) (hd : 0 ≤ d ∧ d < 24) (hs : (d - b).natAbs ≤ (c - a).natAbs) : gX0_walkLine dc [.ref (ad 0), .int (iI a), .int (iI b), .int (iI c), .int (iI d), .int (iI (zI ex))] (cW ad dc pen P F wt rr rf rl) (pV (cW ad dc pen P (wl F a b c d ex) wt rr rf rl)) := by
  refine mG_of (own := RX0) (lv := [some (.ref (ad 0)), some (.int (iI a)), some (.int (iI b)), some (.int (iI c)), some (.int (iI d)), some (.int (iI (zI ex))), none, none, none, none, none, none, none]) (by decide) rfl (jIn_b [.ref (ad 0), .int (iI a), .int (iI b), .int (iI c), .int (iI d), .int (iI (zI ex))] 7 rfl) ?_
  intro X C E
  rcases Int.lt_or_le c a with hac | hac
  · refine j_il1 C eX0_walkLine_0 ?_
    refine j_il3 C eX0_walkLine_1 ?_
    refine j_cgtT C eX0_walkLine_2 (by omega) (by omega) hac ?_
    refine j_il3 C eX0_walkLine_9 ?_
    refine j_is6 C eX0_walkLine_10 (by decide) ?_
    refine j_il1 C eX0_walkLine_12 ?_
    refine j_il3 C eX0_walkLine_13 ?_
    refine j_cgtT C eX0_walkLine_14 (by omega) (by omega) hac ?_
    refine j_il1 C eX0_walkLine_21 ?_
    refine j_is7 C eX0_walkLine_22 (by decide) ?_
    refine j_il1 C eX0_walkLine_24 ?_
    refine j_il3 C eX0_walkLine_25 ?_
    refine j_cgtT C eX0_walkLine_26 (by omega) (by omega) hac ?_
    refine j_il4 C eX0_walkLine_33 ?_
    refine j_is8 C eX0_walkLine_35 (by decide) ?_
    refine j_il1 C eX0_walkLine_37 ?_
    refine j_il3 C eX0_walkLine_38 ?_
    refine j_cgtT C eX0_walkLine_39 (by omega) (by omega) hac ?_
    refine j_il2 C eX0_walkLine_49 ?_
    refine j_il4 C eX0_walkLine_50 ?_
    refine j_isub C eX0_walkLine_52 ?_
    refine j_is9 C eX0_walkLine_53 (by decide) ?_
    refine j_il7 C eX0_walkLine_55 ?_
    refine j_il6 C eX0_walkLine_57 ?_
    refine j_isub C eX0_walkLine_59 ?_
    refine j_is10 C eX0_walkLine_60 (by decide) ?_
    refine j_iconst C eX0_walkLine_62 ?_
    refine j_is11 C eX0_walkLine_63 (by decide) ?_
    refine j_il6 C eX0_walkLine_65 ?_
    refine j_is12 C eX0_walkLine_67 (by decide) ?_
    have k := walk_loop ad dc pen P F wt rr rf rl a b c d ex c a d (b - d) (a - c) (by omega) (by omega) rfl (by omega) C (by rw [show wl F a b c d ex = _ from if_neg (by omega)] at E; exact E) 100 c d 0 (by omega) (by omega) (by omega) (by grind) (by omega) (by omega) (by omega)
    rw [lineW_0] at k
    exact k
  · refine j_il1 C eX0_walkLine_0 ?_
    refine j_il3 C eX0_walkLine_1 ?_
    refine j_cgtF C eX0_walkLine_2 (by omega) (by omega) hac ?_
    refine j_il1 C eX0_walkLine_5 ?_
    refine j_goto C eX0_walkLine_6 ?_
    refine j_is6 C eX0_walkLine_10 (by decide) ?_
    refine j_il1 C eX0_walkLine_12 ?_
    refine j_il3 C eX0_walkLine_13 ?_
    refine j_cgtF C eX0_walkLine_14 (by omega) (by omega) hac ?_
    refine j_il3 C eX0_walkLine_17 ?_
    refine j_goto C eX0_walkLine_18 ?_
    refine j_is7 C eX0_walkLine_22 (by decide) ?_
    refine j_il1 C eX0_walkLine_24 ?_
    refine j_il3 C eX0_walkLine_25 ?_
    refine j_cgtF C eX0_walkLine_26 (by omega) (by omega) hac ?_
    refine j_il2 C eX0_walkLine_29 ?_
    refine j_goto C eX0_walkLine_30 ?_
    refine j_is8 C eX0_walkLine_35 (by decide) ?_
    refine j_il1 C eX0_walkLine_37 ?_
    refine j_il3 C eX0_walkLine_38 ?_
    refine j_cgtF C eX0_walkLine_39 (by omega) (by omega) hac ?_
    refine j_il4 C eX0_walkLine_42 ?_
    refine j_il2 C eX0_walkLine_44 ?_
    refine j_isub C eX0_walkLine_45 ?_
    refine j_goto C eX0_walkLine_46 ?_
    refine j_is9 C eX0_walkLine_53 (by decide) ?_
    refine j_il7 C eX0_walkLine_55 ?_
    refine j_il6 C eX0_walkLine_57 ?_
    refine j_isub C eX0_walkLine_59 ?_
    refine j_is10 C eX0_walkLine_60 (by decide) ?_
    refine j_iconst C eX0_walkLine_62 ?_
    refine j_is11 C eX0_walkLine_63 (by decide) ?_
    refine j_il6 C eX0_walkLine_65 ?_
    refine j_is12 C eX0_walkLine_67 (by decide) ?_
    have k := walk_loop ad dc pen P F wt rr rf rl a b c d ex a c b (d - b) (c - a) (by omega) (by omega) rfl (by omega) C (by rw [show wl F a b c d ex = _ from if_pos hac] at E; exact E) 100 a b 0 (by omega) (by omega) (by omega) (by grind) (by omega) (by omega) (by omega)
    rw [lineW_0] at k
    exact k
def lnF (F : Nat → Nat → Bool) (z y : Int) : Nat → Nat → Bool := if (z / 32 - y / 32).natAbs ≤ (z % 32 - y % 32).natAbs then wl F (z % 32) (z / 32) (y % 32) (y / 32) false else wl F (z / 32) (z % 32) (y / 32) (y % 32) true
theorem cx_line (ad : Nat → Nat) (dc : Nat → ClassId) (pen : Int) (P F : Nat → Nat → Bool) (wt : Int) (rr rf rl : Nat → Int) (hp : 0 ≤ pen ∧ pen ≤ 2) (z y : Int) (h1 : -2147483648 ≤ z ∧ z < 2147483648) (h2 : -2147483648 ≤ y ∧ y < 2147483648) : gX0_line dc [.ref (ad 0), .int (iI z), .int (iI y)] (cW ad dc pen P F wt rr rf rl) (pI (cW ad dc pen (if isPx z = true ∧ isPx y = true then inkP pen P (lnF (clr F 24) z y) 24 else P) (if isPx z = true ∧ isPx y = true then (lnF (clr F 24) z y) else F) wt rr rf rl) (iI (if isPx z = true ∧ isPx y = true then (inkC pen P (lnF (clr F 24) z y) 24 : Int) else -1))) := by
  refine mG_of (own := RX0) (lv := [some (.ref (ad 0)), some (.int (iI z)), some (.int (iI y)), none, none]) (by decide) rfl (jIn_b [.ref (ad 0), .int (iI z), .int (iI y)] 2 rfl) ?_
  intro X C E
  refine j_al0 C eX0_line_0 ?_
  refine j_il1 C eX0_line_1 ?_
  refine x_callI C kX0_30 (cx_isPixel _ _ _ _ _ _ _ _ _ _ h1.1 h1.2) (by decide) rfl rfl (Nat.le_of_ble_eq_true rfl) eX0_line_2 ?_
  refine j_ifeqB C eX0_line_5 (fun c5 => ?_) (fun c5 => ?_)
  · refine j_iconst C eX0_line_16 ?_
    exact j_iretv E eX0_line_17 (by rw [if_neg (by rw [c5]; simp)]) ⟨by rw [if_neg (by rw [c5]; simp), if_neg (by rw [c5]; simp)], rfl⟩
  · refine j_al0 C eX0_line_8 ?_
    refine j_il2 C eX0_line_9 ?_
    refine x_callI C kX0_30 (cx_isPixel _ _ _ _ _ _ _ _ _ _ h2.1 h2.2) (by decide) rfl rfl (Nat.le_of_ble_eq_true rfl) eX0_line_10 ?_
    refine j_ifneB C eX0_line_13 (fun c13 => ?_) (fun c13 => ?_)
    · have hz : 0 ≤ z ∧ z % 32 < 24 ∧ z / 32 < 24 := of_decide_eq_true c5
      have hy : 0 ≤ y ∧ y % 32 < 24 ∧ y / 32 < 24 := of_decide_eq_true c13
      rw [if_pos ⟨c5, c13⟩, if_pos ⟨c5, c13⟩, if_pos ⟨c5, c13⟩] at E
      refine j_al0 C eX0_line_18 ?_
      refine x_callV C kX0_34 (cx_clear _ _ _ _ _ _ _ _ _) (by decide) rfl rfl (Nat.le_of_ble_eq_true rfl) eX0_line_19 ?_
      refine j_al0 C eX0_line_22 ?_
      refine j_il1 C eX0_line_23 ?_
      refine j_bipush C eX0_line_24 (by decide) ?_
      refine j_iand C eX0_line_26 ?_
      refine j_val (iI_and31 _) ?_
      refine j_il2 C eX0_line_27 ?_
      refine j_bipush C eX0_line_28 (by decide) ?_
      refine j_iand C eX0_line_30 ?_
      refine j_val (iI_and31 _) ?_
      refine x_callI C kX0_37 (cx_distance _ _ _ _ _ _ _ _ _ _ _ (by omega) (by omega)) (by decide) rfl rfl (Nat.le_of_ble_eq_true rfl) eX0_line_31 ?_
      refine j_is3 C eX0_line_34 (by decide) ?_
      refine j_al0 C eX0_line_35 ?_
      refine j_il1 C eX0_line_36 ?_
      refine j_iconst C eX0_line_37 ?_
      refine j_ishr C eX0_line_38 ?_
      refine j_val (iI_shr5 (by omega) (by omega)) ?_
      refine j_il2 C eX0_line_39 ?_
      refine j_iconst C eX0_line_40 ?_
      refine j_ishr C eX0_line_41 ?_
      refine j_val (iI_shr5 (by omega) (by omega)) ?_
      refine x_callI C kX0_37 (cx_distance _ _ _ _ _ _ _ _ _ _ _ (by omega) (by omega)) (by decide) rfl rfl (Nat.le_of_ble_eq_true rfl) eX0_line_42 ?_
      refine j_is4 C eX0_line_45 (by decide) ?_
      refine j_il3 C eX0_line_47 ?_
      refine j_il4 C eX0_line_48 ?_
      refine j_clt C eX0_line_50 (by omega) (by omega) (fun c50 => ?_) (fun c50 => ?_)
      · have e1 : lnF (clr F 24) z y = wl (clr F 24) (z / 32) (z % 32) (y / 32) (y % 32) true := if_neg (by omega)
        rw [e1] at E
        refine j_al0 C eX0_line_75 ?_
        refine j_il1 C eX0_line_76 ?_
        refine j_iconst C eX0_line_77 ?_
        refine j_ishr C eX0_line_78 ?_
        refine j_val (iI_shr5 (by omega) (by omega)) ?_
        refine j_il1 C eX0_line_79 ?_
        refine j_bipush C eX0_line_80 (by decide) ?_
        refine j_iand C eX0_line_82 ?_
        refine j_val (iI_and31 _) ?_
        refine j_il2 C eX0_line_83 ?_
        refine j_iconst C eX0_line_84 ?_
        refine j_ishr C eX0_line_85 ?_
        refine j_val (iI_shr5 (by omega) (by omega)) ?_
        refine j_il2 C eX0_line_86 ?_
        refine j_bipush C eX0_line_87 (by decide) ?_
        refine j_iand C eX0_line_89 ?_
        refine j_val (iI_and31 _) ?_
        refine j_iconst C eX0_line_90 ?_
        refine j_val (show iI 1 = iI (zI true) from rfl) ?_
        refine x_callV C kX0_41 (cx_walk _ _ _ _ _ _ _ _ _ _ _ _ _ _ (by omega) (by omega) (by omega) (by omega) (by omega)) (by decide) rfl rfl (Nat.le_of_ble_eq_true rfl) eX0_line_91 ?_
        refine j_al0 C eX0_line_94 ?_
        refine x_callI C kX0_45 (cx_ink _ _ _ _ _ _ _ _ _ hp) (by decide) rfl rfl (Nat.le_of_ble_eq_true rfl) eX0_line_95 ?_
        exact j_iret E eX0_line_98 ⟨rfl, rfl⟩
      · have e1 : lnF (clr F 24) z y = wl (clr F 24) (z % 32) (z / 32) (y % 32) (y / 32) false := if_pos (by omega)
        rw [e1] at E
        refine j_al0 C eX0_line_53 ?_
        refine j_il1 C eX0_line_54 ?_
        refine j_bipush C eX0_line_55 (by decide) ?_
        refine j_iand C eX0_line_57 ?_
        refine j_val (iI_and31 _) ?_
        refine j_il1 C eX0_line_58 ?_
        refine j_iconst C eX0_line_59 ?_
        refine j_ishr C eX0_line_60 ?_
        refine j_val (iI_shr5 (by omega) (by omega)) ?_
        refine j_il2 C eX0_line_61 ?_
        refine j_bipush C eX0_line_62 (by decide) ?_
        refine j_iand C eX0_line_64 ?_
        refine j_val (iI_and31 _) ?_
        refine j_il2 C eX0_line_65 ?_
        refine j_iconst C eX0_line_66 ?_
        refine j_ishr C eX0_line_67 ?_
        refine j_val (iI_shr5 (by omega) (by omega)) ?_
        refine j_iconst C eX0_line_68 ?_
        refine j_val (show iI 0 = iI (zI false) from rfl) ?_
        refine x_callV C kX0_41 (cx_walk _ _ _ _ _ _ _ _ _ _ _ _ _ _ (by omega) (by omega) (by omega) (by omega) (by omega)) (by decide) rfl rfl (Nat.le_of_ble_eq_true rfl) eX0_line_69 ?_
        refine j_goto C eX0_line_72 ?_
        refine j_al0 C eX0_line_94 ?_
        refine x_callI C kX0_45 (cx_ink _ _ _ _ _ _ _ _ _ hp) (by decide) rfl rfl (Nat.le_of_ble_eq_true rfl) eX0_line_95 ?_
        exact j_iret E eX0_line_98 ⟨rfl, rfl⟩
    · refine j_iconst C eX0_line_16 ?_
      exact j_iretv E eX0_line_17 (by rw [if_neg (by rw [c13]; simp)]) ⟨by rw [if_neg (by rw [c13]; simp), if_neg (by rw [c13]; simp)], rfl⟩
end
section
abbrev arcC (r u v : Int) : Prop := u ≤ v ∧ r * r - u * u ≤ v * v + v ∧ (v = 0 ∨ v * v - v < r * r - u * u)
theorem sq_le {x k : Int} (h0 : 0 ≤ x) (h1 : x ≤ k) : 0 ≤ x * x ∧ x * x ≤ k * k := ⟨Int.mul_nonneg h0 h0, Int.mul_le_mul h1 h1 h0 (by omega)⟩
theorem arc_uniq {r u v w : Int} (hv : 0 ≤ v) (hw : 0 ≤ w) (huv : u ≤ v) (h1 : r * r ≤ v * v + v + u * u) (h2 : v ≤ 0 ∨ v * v - v + u * u < r * r) : arcC r u w ↔ w = v := by
  constructor
  · intro ⟨h3, h4, h5⟩
    rcases Int.lt_trichotomy w v with q | q | q
    · have h6 : 0 ≤ (v - w - 1) * (v + w) := Int.mul_nonneg (by omega) (by omega)
      have h7 : (v - w - 1) * (v + w) = v * v - w * w - v - w := by grind
      omega
    · exact q
    · have h6 : 0 ≤ (w - v - 1) * (w + v) := Int.mul_nonneg (by omega) (by omega)
      have h7 : (w - v - 1) * (w + v) = w * w - v * v - w - v := by grind
      omega
  · intro q
    subst q
    exact ⟨huv, by omega, by omega⟩
def ringW (F : Nat → Nat → Bool) (a b r n : Int) : Nat → Nat → Bool := fun j i => F j i || decide (i < 24 ∧ j < 24 ∧ (((((i : Int) - a).natAbs : Int) < n ∧ arcC r (((i : Int) - a).natAbs : Int) (((j : Int) - b).natAbs : Int)) ∨ ((((j : Int) - b).natAbs : Int) < n ∧ arcC r (((j : Int) - b).natAbs : Int) (((i : Int) - a).natAbs : Int))))
def ringF (F : Nat → Nat → Bool) (a b r : Int) : Nat → Nat → Bool := fun j i => F j i || decide (i < 24 ∧ j < 24 ∧ (arcC r (((i : Int) - a).natAbs : Int) (((j : Int) - b).natAbs : Int) ∨ arcC r (((j : Int) - b).natAbs : Int) (((i : Int) - a).natAbs : Int)))
theorem ringW_0 (F : Nat → Nat → Bool) (a b r : Int) : ringW F a b r 0 = F := by
  funext j i
  unfold ringW
  rw [decide_eq_false (fun h => by rcases h.2.2 with q | q <;> omega), Bool.or_false]
theorem eightF_eq (F : Nat → Nat → Bool) (a b u v : Int) (hu : 0 ≤ u) (hv : 0 ≤ v) (j i : Nat) : eightF F a b u v j i = (F j i || decide (i < 24 ∧ j < 24 ∧ (((((i : Int) - a).natAbs : Int) = u ∧ (((j : Int) - b).natAbs : Int) = v) ∨ ((((i : Int) - a).natAbs : Int) = v ∧ (((j : Int) - b).natAbs : Int) = u)))) := by
  unfold eightF dotF
  simp only [Bool.or_assoc]
  congr 1
  simp only [← Bool.decide_or]
  exact decide_eq_decide.mpr (by omega)
theorem ringW_s (F : Nat → Nat → Bool) (a b r u v : Int) (hu : 0 ≤ u) (hv : 0 ≤ v) (huv : u ≤ v) (h1 : r * r ≤ v * v + v + u * u) (h2 : v ≤ 0 ∨ v * v - v + u * u < r * r) : eightF (ringW F a b r u) a b u v = ringW F a b r (u + 1) := by
  funext j i
  rw [eightF_eq _ a b u v hu hv]
  unfold ringW
  rw [Bool.or_assoc, ← Bool.decide_or]
  congr 1
  generalize hx : (((i : Int) - a).natAbs : Int) = x
  generalize hy : (((j : Int) - b).natAbs : Int) = y
  have hx0 : 0 ≤ x := by omega
  have hy0 : 0 ≤ y := by omega
  have k1 := arc_uniq (w := y) hv hy0 huv h1 h2
  have k2 := arc_uniq (w := x) hv hx0 huv h1 h2
  refine decide_eq_decide.mpr ⟨fun q => ?_, fun q => ?_⟩
  · rcases q with ⟨p1, p2, q⟩ | ⟨p1, p2, q⟩
    · refine ⟨p1, p2, ?_⟩
      rcases q with q | q
      · exact Or.inl ⟨by omega, q.2⟩
      · exact Or.inr ⟨by omega, q.2⟩
    · refine ⟨p1, p2, ?_⟩
      rcases q with ⟨q1, q2⟩ | ⟨q1, q2⟩
      · refine Or.inl ⟨by omega, ?_⟩
        rw [q1]
        exact k1.mpr q2
      · refine Or.inr ⟨by omega, ?_⟩
        rw [q2]
        exact k2.mpr q1
  · obtain ⟨p1, p2, q⟩ := q
    rcases q with ⟨q1, q2⟩ | ⟨q1, q2⟩
    · by_cases e : x = u
      · rw [e] at q2
        exact Or.inr ⟨p1, p2, Or.inl ⟨e, k1.mp q2⟩⟩
      · exact Or.inl ⟨p1, p2, Or.inl ⟨by omega, q2⟩⟩
    · by_cases e : y = u
      · rw [e] at q2
        exact Or.inr ⟨p1, p2, Or.inr ⟨k2.mp q2, e⟩⟩
      · exact Or.inl ⟨p1, p2, Or.inr ⟨by omega, q2⟩⟩
theorem ringW_all (F : Nat → Nat → Bool) (a b r u v : Int) (huv : v < u) (h : ∀ t w : Int, u ≤ t → 0 ≤ w → arcC r t w → w ≤ v) : ringW F a b r u = ringF F a b r := by
  funext j i
  unfold ringW ringF
  congr 1
  generalize hx : (((i : Int) - a).natAbs : Int) = x
  generalize hy : (((j : Int) - b).natAbs : Int) = y
  have hx0 : 0 ≤ x := by omega
  have hy0 : 0 ≤ y := by omega
  refine decide_eq_decide.mpr ⟨fun q => ⟨q.1, q.2.1, q.2.2.imp (fun z => z.2) (fun z => z.2)⟩, fun q => ⟨q.1, q.2.1, ?_⟩⟩
  rcases q.2.2 with z | z
  · rcases Int.lt_or_le x u with e | e
    · exact Or.inl ⟨e, z⟩
    · have := h x y e hy0 z
      have := z.1
      omega
  · rcases Int.lt_or_le y u with e | e
    · exact Or.inr ⟨e, z⟩
    · have := h y x e hx0 z
      have := z.1
      omega
theorem arc_top {r t w : Int} (hr : 0 ≤ r) (ht : 0 ≤ t) (hw : 0 ≤ w) (h : arcC r t w) : w ≤ r := by
  obtain ⟨h1, h2, h3⟩ := h
  rcases Int.lt_or_le r w with q | q
  · have h6 : 0 ≤ (w - r - 1) * (w + r) := Int.mul_nonneg (by omega) (by omega)
    have h7 : (w - r - 1) * (w + r) = w * w - r * r - w - r := by grind
    have h8 : 0 ≤ t * t := Int.mul_nonneg ht ht
    omega
  · exact q
theorem ring_inner {X : jX} (ad : Nat → Nat) (dc : Nat → ClassId) (W' : va_W) (a b r u : Int) (hr : 0 ≤ r ∧ r ≤ 30) (hu0 : 0 ≤ u) (hu1 : u ≤ 31) (C : jC X cX0_drawRing RX0 6 (cTy dc) 2 47) (K : ∀ v : Int, 0 ≤ v → v ≤ r → r * r ≤ v * v + v + u * u → (∀ t w : Int, u ≤ t → 0 ≤ w → arcC r t w → w ≤ v) → (v ≤ 0 ∨ v * v - v + u * u < r * r) → J X W' 44 [some (.ref (ad 0)), some (.int (iI a)), some (.int (iI b)), some (.int (iI r)), some (.int (iI v)), some (.int (iI u))] []) : ∀ (n : Nat) (v : Int), v < n → 0 ≤ v → v ≤ r → r * r ≤ v * v + v + u * u → (∀ t w : Int, u ≤ t → 0 ≤ w → arcC r t w → w ≤ v) → J X W' 13 [some (.ref (ad 0)), some (.int (iI a)), some (.int (iI b)), some (.int (iI r)), some (.int (iI v)), some (.int (iI u))] [] := by
  intro n
  induction n with
  | zero => intro v h1 h2; omega
  | succ n ih =>
    intro v h1 h2 h3 h4 h5
    refine j_il4 C eX0_drawRing_13 ?_
    refine j_ifle C eX0_drawRing_15 (by omega) (fun c15 => ?_) (fun c15 => ?_)
    · exact K v h2 h3 h4 h5 (Or.inl c15)
    · have hv2 := sq_le h2 (show v ≤ 30 by omega)
      have hu2 := sq_le hu0 (show u ≤ 31 by omega)
      have hr2 := sq_le hr.1 hr.2
      refine j_il4 C eX0_drawRing_18 ?_
      refine j_il4 C eX0_drawRing_20 ?_
      refine j_imul C eX0_drawRing_22 ?_
      refine j_il4 C eX0_drawRing_23 ?_
      refine j_isub C eX0_drawRing_25 ?_
      refine j_il5 C eX0_drawRing_26 ?_
      refine j_il5 C eX0_drawRing_28 ?_
      refine j_imul C eX0_drawRing_30 ?_
      refine j_iadd C eX0_drawRing_31 ?_
      refine j_il3 C eX0_drawRing_32 ?_
      refine j_il3 C eX0_drawRing_33 ?_
      refine j_imul C eX0_drawRing_34 ?_
      refine j_clt C eX0_drawRing_35 (by omega) (by omega) (fun c35 => ?_) (fun c35 => ?_)
      · exact K v h2 h3 h4 h5 (Or.inr c35)
      · refine j_inc4 C eX0_drawRing_38 (by decide) ?_
        refine j_goto C eX0_drawRing_41 ?_
        have e1 : (v + -1) * (v + -1) = v * v - 2 * v + 1 := by grind
        exact ih _ (by omega) (by omega) (by omega) (by omega) (fun t w h6 h7 h8 => by
        have h9 := h5 t w h6 h7 h8
        rcases Int.lt_or_le w v with q | q
        · omega
        · obtain rfl : w = v := by omega
          have h10 := sq_le hu0 h6
          have h11 := h8.2.2
          omega)
theorem ring_loop {X : jX} (ad : Nat → Nat) (dc : Nat → ClassId) (pen : Int) (P F : Nat → Nat → Bool) (wt : Int) (rr rf rl : Nat → Int) (a b r : Int) (ha : 0 ≤ a ∧ a < 24) (hb : 0 ≤ b ∧ b < 24) (hr : 0 ≤ r ∧ r ≤ 30) (C : jC X cX0_drawRing RX0 6 (cTy dc) 2 47) (E : jE X cX0_drawRing none (pV (cW ad dc pen P (ringF F a b r) wt rr rf rl))) : ∀ (n : Nat) (u v : Int), 32 ≤ u + n → 0 ≤ u → u ≤ 31 → 0 ≤ v → v ≤ r → r * r ≤ v * v + v + u * u → (∀ t w : Int, u ≤ t → 0 ≤ w → arcC r t w → w ≤ v) → J X (cW ad dc pen P (ringW F a b r u) wt rr rf rl) 6 [some (.ref (ad 0)), some (.int (iI a)), some (.int (iI b)), some (.int (iI r)), some (.int (iI v)), some (.int (iI u))] [] := by
  intro n
  induction n with
  | zero =>
    intro u v h1 h2 h21
    omega
  | succ n ih =>
    intro u v h1 h2 h21 h3 h4 h41 h5
    refine j_il5 C eX0_drawRing_6 ?_
    refine j_il4 C eX0_drawRing_8 ?_
    refine j_cgt C eX0_drawRing_10 (by omega) (by omega) (fun c10 => ?_) (fun c10 => ?_)
    · exact j_vret E eX0_drawRing_68 ⟨by rw [ringW_all F a b r u v (by omega) h5], rfl⟩
    · refine ring_inner ad dc _ a b r u hr h2 (by omega) C (fun v h3 h4 h41 h5 h6 => ?_) 31 v (by omega) h3 h4 h41 h5
      refine j_il5 C eX0_drawRing_44 ?_
      refine j_il4 C eX0_drawRing_46 ?_
      refine j_cle C eX0_drawRing_48 (by omega) (by omega) (fun c48 => ?_) (fun c48 => ?_)
      · refine j_al0 C eX0_drawRing_52 ?_
        refine j_il1 C eX0_drawRing_53 ?_
        refine j_il2 C eX0_drawRing_54 ?_
        refine j_il5 C eX0_drawRing_55 ?_
        refine j_il4 C eX0_drawRing_57 ?_
        refine x_callV C kX0_83 (cx_eightDots _ _ _ _ _ _ _ _ _ _ _ _ _ ha hb (by omega) (by omega)) (by decide) rfl rfl (Nat.le_of_ble_eq_true rfl) eX0_drawRing_59 ?_
        refine x_F (ringW_s F a b r u v h2 h3 c48 h41 h6) ?_
        refine j_inc5 C eX0_drawRing_62 (by decide) ?_
        refine j_goto C eX0_drawRing_65 ?_
        have e1 : (u + 1) * (u + 1) = u * u + 2 * u + 1 := by grind
        exact ih (u + 1) v (by omega) (by omega) (by omega) h3 h4 (by omega) (fun t w q1 q2 q3 => h5 t w (by omega) q2 q3)
      · exact j_vret E eX0_drawRing_51 ⟨by rw [ringW_all F a b r u v (by omega) h5], rfl⟩
theorem cx_drawRing (ad : Nat → Nat) (dc : Nat → ClassId) (pen : Int) (P F : Nat → Nat → Bool) (wt : Int) (rr rf rl : Nat → Int) (a b r : Int) (ha : 0 ≤ a ∧ a < 24) (hb : 0 ≤ b ∧ b < 24) (hr : 0 ≤ r ∧ r ≤ 30) : gX0_drawRing dc [.ref (ad 0), .int (iI a), .int (iI b), .int (iI r)] (cW ad dc pen P F wt rr rf rl) (pV (cW ad dc pen P (ringF F a b r) wt rr rf rl)) := by
  refine mG_of (own := RX0) (lv := [some (.ref (ad 0)), some (.int (iI a)), some (.int (iI b)), some (.int (iI r)), none, none]) (by decide) rfl (jIn_b [.ref (ad 0), .int (iI a), .int (iI b), .int (iI r)] 2 rfl) ?_
  intro X C E
  refine j_il3 C eX0_drawRing_0 ?_
  refine j_is4 C eX0_drawRing_1 (by decide) ?_
  refine j_iconst C eX0_drawRing_3 ?_
  refine j_is5 C eX0_drawRing_4 (by decide) ?_
  have k := ring_loop ad dc pen P F wt rr rf rl a b r ha hb hr C E 40 0 r (by omega) (by omega) (by omega) hr.1 (by omega) (by omega) (fun t w h1 h2 h3 => arc_top hr.1 h1 h2 h3)
  rw [ringW_0] at k
  exact k
theorem cx_ring (ad : Nat → Nat) (dc : Nat → ClassId) (pen : Int) (P F : Nat → Nat → Bool) (wt : Int) (rr rf rl : Nat → Int) (hp : 0 ≤ pen ∧ pen ≤ 2) (z r : Int) (h1 : -2147483648 ≤ z ∧ z < 2147483648) (h2 : -2147483648 ≤ r ∧ r < 2147483648) : gX0_ring dc [.ref (ad 0), .int (iI z), .int (iI r)] (cW ad dc pen P F wt rr rf rl) (pI (cW ad dc pen (if isPx z = true ∧ 0 ≤ r ∧ r ≤ 30 then inkP pen P (ringF (clr F 24) (z % 32) (z / 32) r) 24 else P) (if isPx z = true ∧ 0 ≤ r ∧ r ≤ 30 then (ringF (clr F 24) (z % 32) (z / 32) r) else F) wt rr rf rl) (iI (if isPx z = true ∧ 0 ≤ r ∧ r ≤ 30 then (inkC pen P (ringF (clr F 24) (z % 32) (z / 32) r) 24 : Int) else -1))) := by
  refine mG_of (own := RX0) (lv := [some (.ref (ad 0)), some (.int (iI z)), some (.int (iI r))]) (by decide) rfl (jIn_b [.ref (ad 0), .int (iI z), .int (iI r)] 0 rfl) ?_
  intro X C E
  refine j_al0 C eX0_ring_0 ?_
  refine j_il1 C eX0_ring_1 ?_
  refine x_callI C kX0_30 (cx_isPixel _ _ _ _ _ _ _ _ _ _ h1.1 h1.2) (by decide) rfl rfl (Nat.le_of_ble_eq_true rfl) eX0_ring_2 ?_
  refine j_ifeqB C eX0_ring_5 (fun c5 => ?_) (fun c5 => ?_)
  · refine j_iconst C eX0_ring_18 ?_
    exact j_iretv E eX0_ring_19 (by rw [if_neg (fun q => by first | (rw [c5] at q; simp at q; done) | omega)]) ⟨by rw [if_neg (fun q => by first | (rw [c5] at q; simp at q; done) | omega), if_neg (fun q => by first | (rw [c5] at q; simp at q; done) | omega)], rfl⟩
  · refine j_il2 C eX0_ring_8 ?_
    refine j_iflt C eX0_ring_9 (by omega) (fun c9 => ?_) (fun c9 => ?_)
    · refine j_iconst C eX0_ring_18 ?_
      exact j_iretv E eX0_ring_19 (by rw [if_neg (fun q => by first | (rw [c5] at q; simp at q; done) | omega)]) ⟨by rw [if_neg (fun q => by first | (rw [c5] at q; simp at q; done) | omega), if_neg (fun q => by first | (rw [c5] at q; simp at q; done) | omega)], rfl⟩
    · refine j_il2 C eX0_ring_12 ?_
      refine j_bipush C eX0_ring_13 (by decide) ?_
      refine j_cle C eX0_ring_15 (by omega) (by omega) (fun c15 => ?_) (fun c15 => ?_)
      · have hz : 0 ≤ z ∧ z % 32 < 24 ∧ z / 32 < 24 := of_decide_eq_true c5
        rw [if_pos ⟨c5, c9, c15⟩, if_pos ⟨c5, c9, c15⟩, if_pos ⟨c5, c9, c15⟩] at E
        refine j_al0 C eX0_ring_20 ?_
        refine x_callV C kX0_34 (cx_clear _ _ _ _ _ _ _ _ _) (by decide) rfl rfl (Nat.le_of_ble_eq_true rfl) eX0_ring_21 ?_
        refine j_al0 C eX0_ring_24 ?_
        refine j_il1 C eX0_ring_25 ?_
        refine j_bipush C eX0_ring_26 (by decide) ?_
        refine j_iand C eX0_ring_28 ?_
        refine j_val (iI_and31 _) ?_
        refine j_il1 C eX0_ring_29 ?_
        refine j_iconst C eX0_ring_30 ?_
        refine j_ishr C eX0_ring_31 ?_
        refine j_val (iI_shr5 (by omega) (by omega)) ?_
        refine j_il2 C eX0_ring_32 ?_
        refine x_callV C kX0_53 (cx_drawRing _ _ _ _ _ _ _ _ _ _ _ _ (by omega) (by omega) (by omega)) (by decide) rfl rfl (Nat.le_of_ble_eq_true rfl) eX0_ring_33 ?_
        refine j_al0 C eX0_ring_36 ?_
        refine x_callI C kX0_45 (cx_ink _ _ _ _ _ _ _ _ _ hp) (by decide) rfl rfl (Nat.le_of_ble_eq_true rfl) eX0_ring_37 ?_
        exact j_iret E eX0_ring_40 ⟨rfl, rfl⟩
      · refine j_iconst C eX0_ring_18 ?_
        exact j_iretv E eX0_ring_19 (by rw [if_neg (fun q => by first | (rw [c5] at q; simp at q; done) | omega)]) ⟨by rw [if_neg (fun q => by first | (rw [c5] at q; simp at q; done) | omega), if_neg (fun q => by first | (rw [c5] at q; simp at q; done) | omega)], rfl⟩
end
section
abbrev inB (p q x t : Int) : Prop := q * q * x * x + p * p * t * t ≤ p * p * q * q
abbrev blotHit (p q x t : Int) : Prop := x ≤ p ∧ t ≤ q ∧ inB p q x t
theorem qq_mono {q x y : Int} (h0 : 0 ≤ x) (h1 : x ≤ y) : q * q * x * x ≤ q * q * y * y := by
  have h2 := (sq_le h0 h1).2
  have h3 : 0 ≤ q * q := by
    rcases Int.le_total 0 q with h | h
    · exact Int.mul_nonneg h h
    · have := Int.mul_nonneg (show 0 ≤ -q by omega) (show 0 ≤ -q by omega)
      have e : -q * -q = q * q := by grind
      omega
  have h4 := Int.mul_le_mul_of_nonneg_left h2 h3
  have e1 : q * q * x * x = q * q * (x * x) := by grind
  have e2 : q * q * y * y = q * q * (y * y) := by grind
  omega
theorem qq_rng {q x : Int} (h0 : 0 ≤ q) (h1 : q ≤ 30) (h2 : 0 ≤ x) (h3 : x ≤ 31) : 0 ≤ q * q * x * x ∧ q * q * x * x ≤ 1000000 := by
  have a1 := sq_le h0 h1
  have a2 := sq_le h2 h3
  have e1 : q * q * x * x = q * q * (x * x) := by grind
  have b1 := Int.mul_nonneg a1.1 a2.1
  have b2 := Int.mul_le_mul a1.2 a2.2 a2.1 (by omega)
  rw [e1]
  exact ⟨b1, by omega⟩
def blotW (F : Nat → Nat → Bool) (a b p q n : Int) : Nat → Nat → Bool := fun j i => F j i || decide (i < 24 ∧ j < 24 ∧ (((j : Int) - b).natAbs : Int) < n ∧ blotHit p q (((i : Int) - a).natAbs : Int) (((j : Int) - b).natAbs : Int))
def blotF (F : Nat → Nat → Bool) (a b p q : Int) : Nat → Nat → Bool := fun j i => F j i || decide (i < 24 ∧ j < 24 ∧ blotHit p q (((i : Int) - a).natAbs : Int) (((j : Int) - b).natAbs : Int))
theorem blotW_0 (F : Nat → Nat → Bool) (a b p q : Int) : blotW F a b p q 0 = F := by
  funext j i
  unfold blotW
  rw [decide_eq_false (fun h => by omega), Bool.or_false]
theorem blotW_s (F : Nat → Nat → Bool) (a b p q v x : Int) (hv : 0 ≤ v) (hx0 : 0 ≤ x) (hk : ∀ y : Int, 0 ≤ y → (blotHit p q y v ↔ y ≤ x)) : runF (runF (blotW F a b p q v) (b + v) (a - x) (a + x)) (b - v) (a - x) (a + x) = blotW F a b p q (v + 1) := by
  funext j i
  unfold runF blotW
  simp only [Bool.or_assoc]
  congr 1
  simp only [← Bool.decide_or]
  generalize hy : (((i : Int) - a).natAbs : Int) = y
  generalize ht : (((j : Int) - b).natAbs : Int) = t
  have k := hk y (by omega)
  refine decide_eq_decide.mpr ⟨fun z => ?_, fun z => ?_⟩
  · rcases z with ⟨p1, p2, p3, p4⟩ | z | z
    · exact ⟨p1, p2, by omega, p4⟩
    · have e : t = v := by omega
      refine ⟨z.2.2.2.1, z.2.2.2.2, by omega, ?_⟩
      rw [e]
      exact k.mpr (by omega)
    · have e : t = v := by omega
      refine ⟨z.2.2.2.1, z.2.2.2.2, by omega, ?_⟩
      rw [e]
      exact k.mpr (by omega)
  · obtain ⟨p1, p2, p3, p4⟩ := z
    by_cases e : t = v
    · rw [e] at p4
      have := k.mp p4
      right
      rcases Int.lt_or_le (j : Int) b with h | h
      · right
        exact ⟨by omega, by omega, by omega, p1, p2⟩
      · left
        exact ⟨by omega, by omega, by omega, p1, p2⟩
    · left
      exact ⟨p1, p2, by omega, p4⟩
theorem blotW_all (F : Nat → Nat → Bool) (a b p q v : Int) (h : ∀ x t : Int, 0 ≤ x → v ≤ t → ¬ blotHit p q x t) : blotW F a b p q v = blotF F a b p q := by
  funext j i
  unfold blotW blotF
  congr 1
  generalize hy : (((i : Int) - a).natAbs : Int) = y
  generalize ht : (((j : Int) - b).natAbs : Int) = t
  refine decide_eq_decide.mpr ⟨fun z => ⟨z.1, z.2.1, z.2.2.2⟩, fun z => ⟨z.1, z.2.1, ?_, z.2.2⟩⟩
  rcases Int.lt_or_le t v with e | e
  · exact e
  · exact absurd z.2.2 (h y t (by omega) e)
theorem blot_inner {X : jX} (ad : Nat → Nat) (dc : Nat → ClassId) (W' : va_W) (z a b p q v : Int) (hp : 0 ≤ p ∧ p ≤ 30) (hq : 0 ≤ q ∧ q ≤ 30) (hv0 : 0 ≤ v) (hv1 : v ≤ 30) (C : jC X cX0_drawBlot RX0 8 (cTy dc) 1 25) (K : ∀ x : Int, -1 ≤ x → x ≤ p → (∀ y t : Int, 0 ≤ y → v ≤ t → blotHit p q y t → y ≤ x) → (x < 0 ∨ inB p q x v) → J X W' 63 [some (.ref (ad 0)), some (.int (iI z)), some (.int (iI p)), some (.int (iI q)), some (.int (iI a)), some (.int (iI b)), some (.int (iI x)), some (.int (iI v))] []) : ∀ (n : Nat) (x : Int), x + 1 < n → -1 ≤ x → x ≤ p → (∀ y t : Int, 0 ≤ y → v ≤ t → blotHit p q y t → y ≤ x) → J X W' 23 [some (.ref (ad 0)), some (.int (iI z)), some (.int (iI p)), some (.int (iI q)), some (.int (iI a)), some (.int (iI b)), some (.int (iI x)), some (.int (iI v))] [] := by
  intro n
  induction n with
  | zero => intro x h1 h2; omega
  | succ n ih =>
    intro x h1 h2 h3 h5
    refine j_il6 C eX0_drawBlot_23 ?_
    refine j_iflt C eX0_drawBlot_25 (by omega) (fun c25 => ?_) (fun c25 => ?_)
    · exact K x h2 h3 h5 (Or.inl c25)
    · have r1 := qq_rng hq.1 hq.2 c25 (show x ≤ 31 by omega)
      have r2 := qq_rng hp.1 hp.2 hv0 (show v ≤ 31 by omega)
      have r3 := qq_rng hp.1 hp.2 hq.1 (show q ≤ 31 by omega)
      refine j_il3 C eX0_drawBlot_28 ?_
      refine j_il3 C eX0_drawBlot_29 ?_
      refine j_imul C eX0_drawBlot_30 ?_
      refine j_il6 C eX0_drawBlot_31 ?_
      refine j_imul C eX0_drawBlot_33 ?_
      refine j_il6 C eX0_drawBlot_34 ?_
      refine j_imul C eX0_drawBlot_36 ?_
      refine j_il2 C eX0_drawBlot_37 ?_
      refine j_il2 C eX0_drawBlot_38 ?_
      refine j_imul C eX0_drawBlot_39 ?_
      refine j_il7 C eX0_drawBlot_40 ?_
      refine j_imul C eX0_drawBlot_42 ?_
      refine j_il7 C eX0_drawBlot_43 ?_
      refine j_imul C eX0_drawBlot_45 ?_
      refine j_iadd C eX0_drawBlot_46 ?_
      refine j_il2 C eX0_drawBlot_47 ?_
      refine j_il2 C eX0_drawBlot_48 ?_
      refine j_imul C eX0_drawBlot_49 ?_
      refine j_il3 C eX0_drawBlot_50 ?_
      refine j_imul C eX0_drawBlot_51 ?_
      refine j_il3 C eX0_drawBlot_52 ?_
      refine j_imul C eX0_drawBlot_53 ?_
      refine j_cle C eX0_drawBlot_54 (by omega) (by omega) (fun c54 => ?_) (fun c54 => ?_)
      · exact K x h2 h3 h5 (Or.inr c54)
      · refine j_inc6 C eX0_drawBlot_57 (by decide) ?_
        refine j_goto C eX0_drawBlot_60 ?_
        exact ih _ (by omega) (by omega) (by omega) (fun y t h6 h7 h8 => by
        have h9 := h5 y t h6 h7 h8
        rcases Int.lt_or_le y x with e | e
        · omega
        · obtain rfl : y = x := by omega
          have h10 := qq_mono (q := p) hv0 h7
          have h11 := h8.2.2
          omega)
theorem blot_loop {X : jX} (ad : Nat → Nat) (dc : Nat → ClassId) (pen : Int) (P F : Nat → Nat → Bool) (wt : Int) (rr rf rl : Nat → Int) (z a b p q : Int) (ha : 0 ≤ a ∧ a < 24) (hb : 0 ≤ b ∧ b < 24) (hp : 0 ≤ p ∧ p ≤ 30) (hq : 0 ≤ q ∧ q ≤ 30) (C : jC X cX0_drawBlot RX0 8 (cTy dc) 1 25) (E : jE X cX0_drawBlot none (pV (cW ad dc pen P (blotF F a b p q) wt rr rf rl))) : ∀ (n : Nat) (v x : Int), q + 2 ≤ v + n → 0 ≤ v → v ≤ q + 1 → -1 ≤ x → x ≤ p → (∀ y t : Int, 0 ≤ y → v ≤ t → blotHit p q y t → y ≤ x) → J X (cW ad dc pen P (blotW F a b p q v) wt rr rf rl) 17 [some (.ref (ad 0)), some (.int (iI z)), some (.int (iI p)), some (.int (iI q)), some (.int (iI a)), some (.int (iI b)), some (.int (iI x)), some (.int (iI v))] [] := by
  intro n
  induction n with
  | zero => intro v x h1 h2 h21; omega
  | succ n ih =>
    intro v x h1 h2 h21 h3 h4 h5
    refine j_il7 C eX0_drawBlot_17 ?_
    refine j_il3 C eX0_drawBlot_19 ?_
    refine j_cgt C eX0_drawBlot_20 (by omega) (by omega) (fun c20 => ?_) (fun c20 => ?_)
    · exact j_vret E eX0_drawBlot_113 ⟨by rw [blotW_all F a b p q v (fun y t q1 q2 q3 => by have := q3.2.1; omega)], rfl⟩
    · refine blot_inner ad dc _ z a b p q v hp hq h2 (by omega) C (fun x h3 h4 h5 h6 => ?_) 40 x (by omega) h3 h4 h5
      refine j_il6 C eX0_drawBlot_63 ?_
      refine j_ifge C eX0_drawBlot_65 (by omega) (fun c65 => ?_) (fun c65 => ?_)
      · refine j_al0 C eX0_drawBlot_69 ?_
        refine j_il5 C eX0_drawBlot_70 ?_
        refine j_il7 C eX0_drawBlot_72 ?_
        refine j_iadd C eX0_drawBlot_74 ?_
        refine j_il4 C eX0_drawBlot_75 ?_
        refine j_il6 C eX0_drawBlot_77 ?_
        refine j_isub C eX0_drawBlot_79 ?_
        refine j_il4 C eX0_drawBlot_80 ?_
        refine j_il6 C eX0_drawBlot_82 ?_
        refine j_iadd C eX0_drawBlot_84 ?_
        refine x_callV C kX0_87 (cx_run _ _ _ _ _ _ _ _ _ _ _ _ (by omega) (by omega) (by omega)) (by decide) rfl rfl (Nat.le_of_ble_eq_true rfl) eX0_drawBlot_85 ?_
        refine j_al0 C eX0_drawBlot_88 ?_
        refine j_il5 C eX0_drawBlot_89 ?_
        refine j_il7 C eX0_drawBlot_91 ?_
        refine j_isub C eX0_drawBlot_93 ?_
        refine j_il4 C eX0_drawBlot_94 ?_
        refine j_il6 C eX0_drawBlot_96 ?_
        refine j_isub C eX0_drawBlot_98 ?_
        refine j_il4 C eX0_drawBlot_99 ?_
        refine j_il6 C eX0_drawBlot_101 ?_
        refine j_iadd C eX0_drawBlot_103 ?_
        refine x_callV C kX0_87 (cx_run _ _ _ _ _ _ _ _ _ _ _ _ (by omega) (by omega) (by omega)) (by decide) rfl rfl (Nat.le_of_ble_eq_true rfl) eX0_drawBlot_104 ?_
        have h7 : inB p q x v := h6.resolve_left (by omega)
        refine x_F (blotW_s F a b p q v x h2 c65 (fun y hy => ⟨fun h8 => h5 y v hy (Int.le_refl v) h8, fun h8 => ⟨by omega, c20, by have := qq_mono (q := q) hy h8; omega⟩⟩)) ?_
        refine j_inc7 C eX0_drawBlot_107 (by decide) ?_
        refine j_goto C eX0_drawBlot_110 ?_
        exact ih (v + 1) x (by omega) (by omega) (by omega) h3 h4 (fun y t q1 q2 q3 => h5 y t q1 (by omega) q3)
      · exact j_vret E eX0_drawBlot_68 ⟨by rw [blotW_all F a b p q v (fun y t q1 q2 q3 => by have := h5 y t q1 q2 q3; omega)], rfl⟩
theorem cx_drawBlot (ad : Nat → Nat) (dc : Nat → ClassId) (pen : Int) (P F : Nat → Nat → Bool) (wt : Int) (rr rf rl : Nat → Int) (z p q : Int) (hz : 0 ≤ z ∧ z % 32 < 24 ∧ z / 32 < 24) (hp : 0 ≤ p ∧ p ≤ 30) (hq : 0 ≤ q ∧ q ≤ 30) : gX0_drawBlot dc [.ref (ad 0), .int (iI z), .int (iI p), .int (iI q)] (cW ad dc pen P F wt rr rf rl) (pV (cW ad dc pen P (blotF F (z % 32) (z / 32) p q) wt rr rf rl)) := by
  refine mG_of (own := RX0) (lv := [some (.ref (ad 0)), some (.int (iI z)), some (.int (iI p)), some (.int (iI q)), none, none, none, none]) (by decide) rfl (jIn_b [.ref (ad 0), .int (iI z), .int (iI p), .int (iI q)] 4 rfl) ?_
  intro X C E
  refine j_il1 C eX0_drawBlot_0 ?_
  refine j_bipush C eX0_drawBlot_1 (by decide) ?_
  refine j_iand C eX0_drawBlot_3 ?_
  refine j_val (iI_and31 _) ?_
  refine j_is4 C eX0_drawBlot_4 (by decide) ?_
  refine j_il1 C eX0_drawBlot_6 ?_
  refine j_iconst C eX0_drawBlot_7 ?_
  refine j_ishr C eX0_drawBlot_8 ?_
  refine j_val (iI_shr5 (by omega) (by omega)) ?_
  refine j_is5 C eX0_drawBlot_9 (by decide) ?_
  refine j_il2 C eX0_drawBlot_11 ?_
  refine j_is6 C eX0_drawBlot_12 (by decide) ?_
  refine j_iconst C eX0_drawBlot_14 ?_
  refine j_is7 C eX0_drawBlot_15 (by decide) ?_
  have k := blot_loop ad dc pen P F wt rr rf rl z (z % 32) (z / 32) p q (by omega) (by omega) hp hq C E 40 0 p (by omega) (by omega) (by omega) (by omega) (by omega) (fun y t h1 h2 h3 => h3.1)
  rw [blotW_0] at k
  exact k
theorem cx_disc (ad : Nat → Nat) (dc : Nat → ClassId) (pen : Int) (P F : Nat → Nat → Bool) (wt : Int) (rr rf rl : Nat → Int) (hp : 0 ≤ pen ∧ pen ≤ 2) (z r : Int) (h1 : -2147483648 ≤ z ∧ z < 2147483648) (h2 : -2147483648 ≤ r ∧ r < 2147483648) : gX0_disc dc [.ref (ad 0), .int (iI z), .int (iI r)] (cW ad dc pen P F wt rr rf rl) (pI (cW ad dc pen (if isPx z = true ∧ 0 ≤ r ∧ r ≤ 30 then inkP pen P (blotF (clr F 24) (z % 32) (z / 32) r r) 24 else P) (if isPx z = true ∧ 0 ≤ r ∧ r ≤ 30 then (blotF (clr F 24) (z % 32) (z / 32) r r) else F) wt rr rf rl) (iI (if isPx z = true ∧ 0 ≤ r ∧ r ≤ 30 then (inkC pen P (blotF (clr F 24) (z % 32) (z / 32) r r) 24 : Int) else -1))) := by
  refine mG_of (own := RX0) (lv := [some (.ref (ad 0)), some (.int (iI z)), some (.int (iI r))]) (by decide) rfl (jIn_b [.ref (ad 0), .int (iI z), .int (iI r)] 0 rfl) ?_
  intro X C E
  refine j_al0 C eX0_disc_0 ?_
  refine j_il1 C eX0_disc_1 ?_
  refine x_callI C kX0_30 (cx_isPixel _ _ _ _ _ _ _ _ _ _ h1.1 h1.2) (by decide) rfl rfl (Nat.le_of_ble_eq_true rfl) eX0_disc_2 ?_
  refine j_ifeqB C eX0_disc_5 (fun c5 => ?_) (fun c5 => ?_)
  · refine j_iconst C eX0_disc_18 ?_
    exact j_iretv E eX0_disc_19 (by rw [if_neg (fun q => by first | (rw [c5] at q; simp at q; done) | omega)]) ⟨by rw [if_neg (fun q => by first | (rw [c5] at q; simp at q; done) | omega), if_neg (fun q => by first | (rw [c5] at q; simp at q; done) | omega)], rfl⟩
  · refine j_il2 C eX0_disc_8 ?_
    refine j_iflt C eX0_disc_9 (by omega) (fun c9 => ?_) (fun c9 => ?_)
    · refine j_iconst C eX0_disc_18 ?_
      exact j_iretv E eX0_disc_19 (by rw [if_neg (fun q => by first | (rw [c5] at q; simp at q; done) | omega)]) ⟨by rw [if_neg (fun q => by first | (rw [c5] at q; simp at q; done) | omega), if_neg (fun q => by first | (rw [c5] at q; simp at q; done) | omega)], rfl⟩
    · refine j_il2 C eX0_disc_12 ?_
      refine j_bipush C eX0_disc_13 (by decide) ?_
      refine j_cle C eX0_disc_15 (by omega) (by omega) (fun c15 => ?_) (fun c15 => ?_)
      · have hz : 0 ≤ z ∧ z % 32 < 24 ∧ z / 32 < 24 := of_decide_eq_true c5
        rw [if_pos ⟨c5, c9, c15⟩, if_pos ⟨c5, c9, c15⟩, if_pos ⟨c5, c9, c15⟩] at E
        refine j_al0 C eX0_disc_20 ?_
        refine x_callV C kX0_34 (cx_clear _ _ _ _ _ _ _ _ _) (by decide) rfl rfl (Nat.le_of_ble_eq_true rfl) eX0_disc_21 ?_
        refine j_al0 C eX0_disc_24 ?_
        refine j_il1 C eX0_disc_25 ?_
        refine j_il2 C eX0_disc_26 ?_
        refine j_il2 C eX0_disc_27 ?_
        refine x_callV C kX0_49 (cx_drawBlot _ _ _ _ _ _ _ _ _ _ _ _ hz ⟨c9, c15⟩ ⟨c9, c15⟩) (by decide) rfl rfl (Nat.le_of_ble_eq_true rfl) eX0_disc_28 ?_
        refine j_al0 C eX0_disc_31 ?_
        refine x_callI C kX0_45 (cx_ink _ _ _ _ _ _ _ _ _ hp) (by decide) rfl rfl (Nat.le_of_ble_eq_true rfl) eX0_disc_32 ?_
        exact j_iret E eX0_disc_35 ⟨rfl, rfl⟩
      · refine j_iconst C eX0_disc_18 ?_
        exact j_iretv E eX0_disc_19 (by rw [if_neg (fun q => by first | (rw [c5] at q; simp at q; done) | omega)]) ⟨by rw [if_neg (fun q => by first | (rw [c5] at q; simp at q; done) | omega), if_neg (fun q => by first | (rw [c5] at q; simp at q; done) | omega)], rfl⟩
def btF (F : Nat → Nat → Bool) (z p q : Int) : Nat → Nat → Bool := if p = 0 ∨ q = 0 then crossF F z p q 24 else blotF F (z % 32) (z / 32) p q
theorem cx_blot (ad : Nat → Nat) (dc : Nat → ClassId) (pen : Int) (P F : Nat → Nat → Bool) (wt : Int) (rr rf rl : Nat → Int) (hp : 0 ≤ pen ∧ pen ≤ 2) (z r q : Int) (h1 : -2147483648 ≤ z ∧ z < 2147483648) (h2 : -2147483648 ≤ r ∧ r < 2147483648) (h3 : -2147483648 ≤ q ∧ q < 2147483648) : gX0_blot dc [.ref (ad 0), .int (iI z), .int (iI r), .int (iI q)] (cW ad dc pen P F wt rr rf rl) (pI (cW ad dc pen (if isPx z = true ∧ 0 ≤ r ∧ r ≤ 30 ∧ 0 ≤ q ∧ q ≤ 30 then inkP pen P (btF (clr F 24) z r q) 24 else P) (if isPx z = true ∧ 0 ≤ r ∧ r ≤ 30 ∧ 0 ≤ q ∧ q ≤ 30 then (btF (clr F 24) z r q) else F) wt rr rf rl) (iI (if isPx z = true ∧ 0 ≤ r ∧ r ≤ 30 ∧ 0 ≤ q ∧ q ≤ 30 then (inkC pen P (btF (clr F 24) z r q) 24 : Int) else -1))) := by
  refine mG_of (own := RX0) (lv := [some (.ref (ad 0)), some (.int (iI z)), some (.int (iI r)), some (.int (iI q))]) (by decide) rfl (jIn_b [.ref (ad 0), .int (iI z), .int (iI r), .int (iI q)] 0 rfl) ?_
  intro X C E
  refine j_al0 C eX0_blot_0 ?_
  refine j_il1 C eX0_blot_1 ?_
  refine x_callI C kX0_30 (cx_isPixel _ _ _ _ _ _ _ _ _ _ h1.1 h1.2) (by decide) rfl rfl (Nat.le_of_ble_eq_true rfl) eX0_blot_2 ?_
  refine j_ifeqB C eX0_blot_5 (fun c5 => ?_) (fun c5 => ?_)
  · refine j_iconst C eX0_blot_28 ?_
    exact j_iretv E eX0_blot_29 (by rw [if_neg (fun q => by first | (rw [c5] at q; simp at q; done) | omega)]) ⟨by rw [if_neg (fun q => by first | (rw [c5] at q; simp at q; done) | omega), if_neg (fun q => by first | (rw [c5] at q; simp at q; done) | omega)], rfl⟩
  · refine j_il2 C eX0_blot_8 ?_
    refine j_iflt C eX0_blot_9 (by omega) (fun c9 => ?_) (fun c9 => ?_)
    · refine j_iconst C eX0_blot_28 ?_
      exact j_iretv E eX0_blot_29 (by rw [if_neg (fun q => by first | (rw [c5] at q; simp at q; done) | omega)]) ⟨by rw [if_neg (fun q => by first | (rw [c5] at q; simp at q; done) | omega), if_neg (fun q => by first | (rw [c5] at q; simp at q; done) | omega)], rfl⟩
    · refine j_il2 C eX0_blot_12 ?_
      refine j_bipush C eX0_blot_13 (by decide) ?_
      refine j_cgt C eX0_blot_15 (by omega) (by omega) (fun c15 => ?_) (fun c15 => ?_)
      · refine j_iconst C eX0_blot_28 ?_
        exact j_iretv E eX0_blot_29 (by rw [if_neg (fun q => by first | (rw [c5] at q; simp at q; done) | omega)]) ⟨by rw [if_neg (fun q => by first | (rw [c5] at q; simp at q; done) | omega), if_neg (fun q => by first | (rw [c5] at q; simp at q; done) | omega)], rfl⟩
      · refine j_il3 C eX0_blot_18 ?_
        refine j_iflt C eX0_blot_19 (by omega) (fun c19 => ?_) (fun c19 => ?_)
        · refine j_iconst C eX0_blot_28 ?_
          exact j_iretv E eX0_blot_29 (by rw [if_neg (fun q => by first | (rw [c5] at q; simp at q; done) | omega)]) ⟨by rw [if_neg (fun q => by first | (rw [c5] at q; simp at q; done) | omega), if_neg (fun q => by first | (rw [c5] at q; simp at q; done) | omega)], rfl⟩
        · refine j_il3 C eX0_blot_22 ?_
          refine j_bipush C eX0_blot_23 (by decide) ?_
          refine j_cle C eX0_blot_25 (by omega) (by omega) (fun c25 => ?_) (fun c25 => ?_)
          · have hz : 0 ≤ z ∧ z % 32 < 24 ∧ z / 32 < 24 := of_decide_eq_true c5
            rw [if_pos ⟨c5, c9, c15, c19, c25⟩, if_pos ⟨c5, c9, c15, c19, c25⟩, if_pos ⟨c5, c9, c15, c19, c25⟩] at E
            refine j_al0 C eX0_blot_30 ?_
            refine x_callV C kX0_34 (cx_clear _ _ _ _ _ _ _ _ _) (by decide) rfl rfl (Nat.le_of_ble_eq_true rfl) eX0_blot_31 ?_
            refine j_il2 C eX0_blot_34 ?_
            refine j_ifeq C eX0_blot_35 (by omega) (fun c35 => ?_) (fun c35 => ?_)
            · have e1 : btF (clr F 24) z r q = crossF (clr F 24) z r q 24 := if_pos (by omega)
              rw [e1] at E
              refine j_al0 C eX0_blot_42 ?_
              refine j_il1 C eX0_blot_43 ?_
              refine j_il2 C eX0_blot_44 ?_
              refine j_il3 C eX0_blot_45 ?_
              refine x_callV C kX0_56 (cx_cross _ _ _ _ _ _ _ _ _ _ _ _ hz ⟨c9, c15⟩ ⟨c19, c25⟩ (by omega)) (by decide) rfl rfl (Nat.le_of_ble_eq_true rfl) eX0_blot_46 ?_
              refine j_goto C eX0_blot_49 ?_
              refine j_al0 C eX0_blot_59 ?_
              refine x_callI C kX0_45 (cx_ink _ _ _ _ _ _ _ _ _ hp) (by decide) rfl rfl (Nat.le_of_ble_eq_true rfl) eX0_blot_60 ?_
              exact j_iret E eX0_blot_63 ⟨rfl, rfl⟩
            · refine j_il3 C eX0_blot_38 ?_
              refine j_ifne C eX0_blot_39 (by omega) (fun c39 => ?_) (fun c39 => ?_)
              · have e1 : btF (clr F 24) z r q = blotF (clr F 24) (z % 32) (z / 32) r q := if_neg (by omega)
                rw [e1] at E
                refine j_al0 C eX0_blot_52 ?_
                refine j_il1 C eX0_blot_53 ?_
                refine j_il2 C eX0_blot_54 ?_
                refine j_il3 C eX0_blot_55 ?_
                refine x_callV C kX0_49 (cx_drawBlot _ _ _ _ _ _ _ _ _ _ _ _ hz ⟨c9, c15⟩ ⟨c19, c25⟩) (by decide) rfl rfl (Nat.le_of_ble_eq_true rfl) eX0_blot_56 ?_
                refine j_al0 C eX0_blot_59 ?_
                refine x_callI C kX0_45 (cx_ink _ _ _ _ _ _ _ _ _ hp) (by decide) rfl rfl (Nat.le_of_ble_eq_true rfl) eX0_blot_60 ?_
                exact j_iret E eX0_blot_63 ⟨rfl, rfl⟩
              · have e1 : btF (clr F 24) z r q = crossF (clr F 24) z r q 24 := if_pos (by omega)
                rw [e1] at E
                refine j_al0 C eX0_blot_42 ?_
                refine j_il1 C eX0_blot_43 ?_
                refine j_il2 C eX0_blot_44 ?_
                refine j_il3 C eX0_blot_45 ?_
                refine x_callV C kX0_56 (cx_cross _ _ _ _ _ _ _ _ _ _ _ _ hz ⟨c9, c15⟩ ⟨c19, c25⟩ (by omega)) (by decide) rfl rfl (Nat.le_of_ble_eq_true rfl) eX0_blot_46 ?_
                refine j_goto C eX0_blot_49 ?_
                refine j_al0 C eX0_blot_59 ?_
                refine x_callI C kX0_45 (cx_ink _ _ _ _ _ _ _ _ _ hp) (by decide) rfl rfl (Nat.le_of_ble_eq_true rfl) eX0_blot_60 ?_
                exact j_iret E eX0_blot_63 ⟨rfl, rfl⟩
          · refine j_iconst C eX0_blot_28 ?_
            exact j_iretv E eX0_blot_29 (by rw [if_neg (fun q => by first | (rw [c5] at q; simp at q; done) | omega)]) ⟨by rw [if_neg (fun q => by first | (rw [c5] at q; simp at q; done) | omega), if_neg (fun q => by first | (rw [c5] at q; simp at q; done) | omega)], rfl⟩
end
section
abbrev triIn (p q r x y : Int) : Prop := (0 ≤ sideV p q x y ∧ 0 ≤ sideV q r x y ∧ 0 ≤ sideV r p x y) ∨ (sideV p q x y ≤ 0 ∧ sideV q r x y ≤ 0 ∧ sideV r p x y ≤ 0)
def triW (F : Nat → Nat → Bool) (p q r lf rt lw y x : Int) : Nat → Nat → Bool := fun j i => F j i || decide (i < 24 ∧ j < 24 ∧ lf ≤ (i : Int) ∧ (i : Int) ≤ rt ∧ lw ≤ (j : Int) ∧ ((j : Int) < y ∨ ((j : Int) = y ∧ (i : Int) < x)) ∧ triIn p q r i j)
theorem triW_0 (F : Nat → Nat → Bool) (p q r lf rt lw : Int) : triW F p q r lf rt lw lw lf = F := by
  funext j i
  unfold triW
  rw [decide_eq_false (fun h => by omega), Bool.or_false]
theorem triW_row (F : Nat → Nat → Bool) (p q r lf rt lw y : Int) : triW F p q r lf rt lw y (rt + 1) = triW F p q r lf rt lw (y + 1) lf := by
  funext j i
  unfold triW
  congr 1
  exact decide_eq_decide.mpr ⟨fun h => ⟨h.1, h.2.1, h.2.2.1, h.2.2.2.1, h.2.2.2.2.1, by omega, h.2.2.2.2.2.2⟩, fun h => ⟨h.1, h.2.1, h.2.2.1, h.2.2.2.1, h.2.2.2.2.1, by omega, h.2.2.2.2.2.2⟩⟩
theorem triW_hit (F : Nat → Nat → Bool) (p q r lf rt lw y x : Int) (h1 : lf ≤ x) (h2 : x ≤ rt) (h3 : lw ≤ y) (h : triIn p q r x y) : dotF (triW F p q r lf rt lw y x) x y = triW F p q r lf rt lw y (x + 1) := by
  funext j i
  unfold dotF triW
  rw [Bool.or_assoc, ← Bool.decide_or]
  congr 1
  refine decide_eq_decide.mpr ⟨fun z => ?_, fun z => ?_⟩
  · rcases z with z | z
    · exact ⟨z.1, z.2.1, z.2.2.1, z.2.2.2.1, z.2.2.2.2.1, by omega, z.2.2.2.2.2.2⟩
    · refine ⟨z.2.2.1, z.2.2.2, by omega, by omega, by omega, by omega, ?_⟩
      rw [z.1, z.2.1]
      exact h
  · by_cases e : (j : Int) = y ∧ (i : Int) = x
    · exact Or.inr ⟨e.1, e.2, z.1, z.2.1⟩
    · exact Or.inl ⟨z.1, z.2.1, z.2.2.1, z.2.2.2.1, z.2.2.2.2.1, by omega, z.2.2.2.2.2.2⟩
theorem triW_no (F : Nat → Nat → Bool) (p q r lf rt lw y x : Int) (h : ¬ triIn p q r x y) : triW F p q r lf rt lw y x = triW F p q r lf rt lw y (x + 1) := by
  funext j i
  unfold triW
  congr 1
  refine decide_eq_decide.mpr ⟨fun z => ⟨z.1, z.2.1, z.2.2.1, z.2.2.2.1, z.2.2.2.2.1, by omega, z.2.2.2.2.2.2⟩, fun z => ?_⟩
  by_cases e : (j : Int) = y ∧ (i : Int) = x
  · have := z.2.2.2.2.2.2
    rw [e.1, e.2] at this
    exact absurd this h
  · exact ⟨z.1, z.2.1, z.2.2.1, z.2.2.2.1, z.2.2.2.2.1, by omega, z.2.2.2.2.2.2⟩
theorem side_step (f t x y : Int) : sideV f t x y - (t / 32 - f / 32) = sideV f t (x + 1) y := by unfold sideV; grind
theorem ab_le {a b : Int} (h1 : -23 ≤ a) (h2 : a ≤ 23) (h3 : -23 ≤ b) (h4 : b ≤ 23) : -529 ≤ a * b ∧ a * b ≤ 529 := by
  have e1 : 0 ≤ (23 - a) * (23 + b) := Int.mul_nonneg (by omega) (by omega)
  have e2 : 0 ≤ (23 + a) * (23 - b) := Int.mul_nonneg (by omega) (by omega)
  have e3 : 0 ≤ (23 - a) * (23 - b) := Int.mul_nonneg (by omega) (by omega)
  have e4 : 0 ≤ (23 + a) * (23 + b) := Int.mul_nonneg (by omega) (by omega)
  have f1 : (23 - a) * (23 + b) = 529 + 23 * b - 23 * a - a * b := by grind
  have f2 : (23 + a) * (23 - b) = 529 - 23 * b + 23 * a - a * b := by grind
  have f3 : (23 - a) * (23 - b) = 529 - 23 * b - 23 * a + a * b := by grind
  have f4 : (23 + a) * (23 + b) = 529 + 23 * b + 23 * a + a * b := by grind
  omega
theorem side_rng {f t x y : Int} (hf : 0 ≤ f ∧ f % 32 < 24 ∧ f / 32 < 24) (ht : 0 ≤ t ∧ t % 32 < 24 ∧ t / 32 < 24) (hx : 0 ≤ x ∧ x ≤ 23) (hy : 0 ≤ y ∧ y ≤ 23) : -1058 ≤ sideV f t x y ∧ sideV f t x y ≤ 1058 := by
  unfold sideV
  have h1 := ab_le (a := t % 32 - f % 32) (b := y - f / 32) (by omega) (by omega) (by omega) (by omega)
  have h2 := ab_le (a := t / 32 - f / 32) (b := x - f % 32) (by omega) (by omega) (by omega) (by omega)
  omega
theorem tri_inner {X : jX} (ad : Nat → Nat) (dc : Nat → ClassId) (pen : Int) (P F : Nat → Nat → Bool) (wt : Int) (rr rf rl : Nat → Int) (p q r lf rt lw hi y : Int) (hp : 0 ≤ p ∧ p % 32 < 24 ∧ p / 32 < 24) (hq : 0 ≤ q ∧ q % 32 < 24 ∧ q / 32 < 24) (hr : 0 ≤ r ∧ r % 32 < 24 ∧ r / 32 < 24) (hlf : 0 ≤ lf) (hrt : rt ≤ 23) (hlw : 0 ≤ lw) (hhi : hi ≤ 23) (hy0 : 0 ≤ y ∧ y ≤ 23) (hy1 : lw ≤ y) (hlr : lf ≤ rt) (C : jC X cX0_drawTriangle RX0 15 (cTy dc) 1 26) (K : ∀ v9 v10 v11 v12 v13 v14 : Option Value, J X (cW ad dc pen P (triW F p q r lf rt lw (y + 1) lf) wt rr rf rl) 228 [some (.ref (ad 0)), some (.int (iI p)), some (.int (iI q)), some (.int (iI r)), some (.int (iI lf)), some (.int (iI rt)), some (.int (iI lw)), some (.int (iI hi)), some (.int (iI y)), v9, v10, v11, v12, v13, v14] []) : ∀ (n : Nat) (x : Int) (a13 a14 : Option Value), rt + 2 ≤ x + n → lf ≤ x → x ≤ rt + 1 → J X (cW ad dc pen P (triW F p q r lf rt lw y x) wt rr rf rl) 117 [some (.ref (ad 0)), some (.int (iI p)), some (.int (iI q)), some (.int (iI r)), some (.int (iI lf)), some (.int (iI rt)), some (.int (iI lw)), some (.int (iI hi)), some (.int (iI y)), some (.int (iI (sideV p q x y))), some (.int (iI (sideV q r x y))), some (.int (iI (sideV r p x y))), some (.int (iI x)), a13, a14] [] := by
  intro n
  induction n with
  | zero => intro x a13 a14 h1 h2 h3; omega
  | succ n ih =>
    intro x a13 a14 h1 h2 h3
    refine j_il12 C eX0_drawTriangle_117 ?_
    refine j_il5 C eX0_drawTriangle_119 ?_
    refine j_cgt C eX0_drawTriangle_121 (by omega) (by omega) (fun c121 => ?_) (fun c121 => ?_)
    · obtain rfl : x = rt + 1 := by omega
      rw [triW_row]
      exact K _ _ _ _ _ _
    · have r1 := side_rng hp hq (show 0 ≤ x ∧ x ≤ 23 by omega) hy0
      have r2 := side_rng hq hr (show 0 ≤ x ∧ x ≤ 23 by omega) hy0
      have r3 := side_rng hr hp (show 0 ≤ x ∧ x ≤ 23 by omega) hy0
      have t186 : ∀ a13 a14 : Option Value, J X (cW ad dc pen P (triW F p q r lf rt lw y (x + 1)) wt rr rf rl) 186 [some (.ref (ad 0)), some (.int (iI p)), some (.int (iI q)), some (.int (iI r)), some (.int (iI lf)), some (.int (iI rt)), some (.int (iI lw)), some (.int (iI hi)), some (.int (iI y)), some (.int (iI (sideV p q x y))), some (.int (iI (sideV q r x y))), some (.int (iI (sideV r p x y))), some (.int (iI x)), a13, a14] [] := by
        intro a13 a14
        refine j_il9 C eX0_drawTriangle_186 ?_
        refine j_il2 C eX0_drawTriangle_188 ?_
        refine j_iconst C eX0_drawTriangle_189 ?_
        refine j_ishr C eX0_drawTriangle_190 ?_
        refine j_val (iI_shr5 (by omega) (by omega)) ?_
        refine j_il1 C eX0_drawTriangle_191 ?_
        refine j_iconst C eX0_drawTriangle_192 ?_
        refine j_ishr C eX0_drawTriangle_193 ?_
        refine j_val (iI_shr5 (by omega) (by omega)) ?_
        refine j_isub C eX0_drawTriangle_194 ?_
        refine j_isub C eX0_drawTriangle_195 ?_
        rw [side_step]
        refine j_is9 C eX0_drawTriangle_196 (by decide) ?_
        refine j_il10 C eX0_drawTriangle_198 ?_
        refine j_il3 C eX0_drawTriangle_200 ?_
        refine j_iconst C eX0_drawTriangle_201 ?_
        refine j_ishr C eX0_drawTriangle_202 ?_
        refine j_val (iI_shr5 (by omega) (by omega)) ?_
        refine j_il2 C eX0_drawTriangle_203 ?_
        refine j_iconst C eX0_drawTriangle_204 ?_
        refine j_ishr C eX0_drawTriangle_205 ?_
        refine j_val (iI_shr5 (by omega) (by omega)) ?_
        refine j_isub C eX0_drawTriangle_206 ?_
        refine j_isub C eX0_drawTriangle_207 ?_
        rw [side_step]
        refine j_is10 C eX0_drawTriangle_208 (by decide) ?_
        refine j_il11 C eX0_drawTriangle_210 ?_
        refine j_il1 C eX0_drawTriangle_212 ?_
        refine j_iconst C eX0_drawTriangle_213 ?_
        refine j_ishr C eX0_drawTriangle_214 ?_
        refine j_val (iI_shr5 (by omega) (by omega)) ?_
        refine j_il3 C eX0_drawTriangle_215 ?_
        refine j_iconst C eX0_drawTriangle_216 ?_
        refine j_ishr C eX0_drawTriangle_217 ?_
        refine j_val (iI_shr5 (by omega) (by omega)) ?_
        refine j_isub C eX0_drawTriangle_218 ?_
        refine j_isub C eX0_drawTriangle_219 ?_
        rw [side_step]
        refine j_is11 C eX0_drawTriangle_220 (by decide) ?_
        refine j_inc12 C eX0_drawTriangle_222 (by decide) ?_
        refine j_goto C eX0_drawTriangle_225 ?_
        exact ih (x + 1) _ _ (by omega) (by omega) (by omega)
      have t166 : J X (cW ad dc pen P (triW F p q r lf rt lw y x) wt rr rf rl) 166 [some (.ref (ad 0)), some (.int (iI p)), some (.int (iI q)), some (.int (iI r)), some (.int (iI lf)), some (.int (iI rt)), some (.int (iI lw)), some (.int (iI hi)), some (.int (iI y)), some (.int (iI (sideV p q x y))), some (.int (iI (sideV q r x y))), some (.int (iI (sideV r p x y))), some (.int (iI x)), some (.int (iI (zI (decide (0 ≤ sideV p q x y ∧ 0 ≤ sideV q r x y ∧ 0 ≤ sideV r p x y))))), a14] [.int (iI (zI (decide (sideV p q x y ≤ 0 ∧ sideV q r x y ≤ 0 ∧ sideV r p x y ≤ 0))))] := by
        refine j_is14 C eX0_drawTriangle_166 (by decide) ?_
        refine j_il13 C eX0_drawTriangle_168 ?_
        refine j_ifneB C eX0_drawTriangle_170 (fun cl => ?_) (fun cl => ?_)
        · refine j_al0 C eX0_drawTriangle_178 ?_
          refine j_il12 C eX0_drawTriangle_179 ?_
          refine j_il8 C eX0_drawTriangle_181 ?_
          refine x_callV C kX0_79 (cx_dot _ _ _ _ _ _ _ _ _ _ _ (by omega) (by omega)) (by decide) rfl rfl (Nat.le_of_ble_eq_true rfl) eX0_drawTriangle_183 ?_
          refine x_F (triW_hit F p q r lf rt lw y x h2 c121 hy1 (by first | exact Or.inl (of_decide_eq_true cl) | exact Or.inr (of_decide_eq_true cr))) ?_
          first | exact t186 _ _ | exact x_F (triW_no F p q r lf rt lw y x (fun z => z.elim (of_decide_eq_false cl) (of_decide_eq_false cr))) (t186 _ _)
        · refine j_il14 C eX0_drawTriangle_173 ?_
          refine j_ifeqB C eX0_drawTriangle_175 (fun cr => ?_) (fun cr => ?_)
          · first | exact t186 _ _ | exact x_F (triW_no F p q r lf rt lw y x (fun z => z.elim (of_decide_eq_false cl) (of_decide_eq_false cr))) (t186 _ _)
          · refine j_al0 C eX0_drawTriangle_178 ?_
            refine j_il12 C eX0_drawTriangle_179 ?_
            refine j_il8 C eX0_drawTriangle_181 ?_
            refine x_callV C kX0_79 (cx_dot _ _ _ _ _ _ _ _ _ _ _ (by omega) (by omega)) (by decide) rfl rfl (Nat.le_of_ble_eq_true rfl) eX0_drawTriangle_183 ?_
            refine x_F (triW_hit F p q r lf rt lw y x h2 c121 hy1 (by first | exact Or.inl (of_decide_eq_true cl) | exact Or.inr (of_decide_eq_true cr))) ?_
            first | exact t186 _ _ | exact x_F (triW_no F p q r lf rt lw y x (fun z => z.elim (of_decide_eq_false cl) (of_decide_eq_false cr))) (t186 _ _)
      have t144 : J X (cW ad dc pen P (triW F p q r lf rt lw y x) wt rr rf rl) 144 [some (.ref (ad 0)), some (.int (iI p)), some (.int (iI q)), some (.int (iI r)), some (.int (iI lf)), some (.int (iI rt)), some (.int (iI lw)), some (.int (iI hi)), some (.int (iI y)), some (.int (iI (sideV p q x y))), some (.int (iI (sideV q r x y))), some (.int (iI (sideV r p x y))), some (.int (iI x)), a13, a14] [.int (iI (zI (decide (0 ≤ sideV p q x y ∧ 0 ≤ sideV q r x y ∧ 0 ≤ sideV r p x y))))] := by
        refine j_is13 C eX0_drawTriangle_144 (by decide) ?_
        refine j_il9 C eX0_drawTriangle_146 ?_
        refine j_ifgt C eX0_drawTriangle_148 (by omega) (fun c148 => ?_) (fun c148 => ?_)
        · refine j_iconst C eX0_drawTriangle_165 ?_
          exact j_val (by first | exact zI_of_t (decide_eq_true (by omega)) | exact zI_of_f (decide_eq_false (by omega))) t166
        · refine j_il10 C eX0_drawTriangle_151 ?_
          refine j_ifgt C eX0_drawTriangle_153 (by omega) (fun c153 => ?_) (fun c153 => ?_)
          · refine j_iconst C eX0_drawTriangle_165 ?_
            exact j_val (by first | exact zI_of_t (decide_eq_true (by omega)) | exact zI_of_f (decide_eq_false (by omega))) t166
          · refine j_il11 C eX0_drawTriangle_156 ?_
            refine j_ifgt C eX0_drawTriangle_158 (by omega) (fun c158 => ?_) (fun c158 => ?_)
            · refine j_iconst C eX0_drawTriangle_165 ?_
              exact j_val (by first | exact zI_of_t (decide_eq_true (by omega)) | exact zI_of_f (decide_eq_false (by omega))) t166
            · refine j_iconst C eX0_drawTriangle_161 ?_
              refine j_goto C eX0_drawTriangle_162 ?_
              exact j_val (by first | exact zI_of_t (decide_eq_true (by omega)) | exact zI_of_f (decide_eq_false (by omega))) t166
      refine j_il9 C eX0_drawTriangle_124 ?_
      refine j_iflt C eX0_drawTriangle_126 (by omega) (fun c126 => ?_) (fun c126 => ?_)
      · refine j_iconst C eX0_drawTriangle_143 ?_
        exact j_val (by first | exact zI_of_t (decide_eq_true (by omega)) | exact zI_of_f (decide_eq_false (by omega))) t144
      · refine j_il10 C eX0_drawTriangle_129 ?_
        refine j_iflt C eX0_drawTriangle_131 (by omega) (fun c131 => ?_) (fun c131 => ?_)
        · refine j_iconst C eX0_drawTriangle_143 ?_
          exact j_val (by first | exact zI_of_t (decide_eq_true (by omega)) | exact zI_of_f (decide_eq_false (by omega))) t144
        · refine j_il11 C eX0_drawTriangle_134 ?_
          refine j_iflt C eX0_drawTriangle_136 (by omega) (fun c136 => ?_) (fun c136 => ?_)
          · refine j_iconst C eX0_drawTriangle_143 ?_
            exact j_val (by first | exact zI_of_t (decide_eq_true (by omega)) | exact zI_of_f (decide_eq_false (by omega))) t144
          · refine j_iconst C eX0_drawTriangle_139 ?_
            refine j_goto C eX0_drawTriangle_140 ?_
            exact j_val (by first | exact zI_of_t (decide_eq_true (by omega)) | exact zI_of_f (decide_eq_false (by omega))) t144
theorem tri_loop {X : jX} (ad : Nat → Nat) (dc : Nat → ClassId) (pen : Int) (P F : Nat → Nat → Bool) (wt : Int) (rr rf rl : Nat → Int) (p q r lf rt lw hi : Int) (hp : 0 ≤ p ∧ p % 32 < 24 ∧ p / 32 < 24) (hq : 0 ≤ q ∧ q % 32 < 24 ∧ q / 32 < 24) (hr : 0 ≤ r ∧ r % 32 < 24 ∧ r / 32 < 24) (hlf : 0 ≤ lf) (hrt : rt ≤ 23) (hlw : 0 ≤ lw) (hhi : hi ≤ 23) (hlr : lf ≤ rt) (hlh : lw ≤ hi) (C : jC X cX0_drawTriangle RX0 15 (cTy dc) 1 26) (E : jE X cX0_drawTriangle none (pV (cW ad dc pen P (triW F p q r lf rt lw (hi + 1) lf) wt rr rf rl))) : ∀ (n : Nat) (y : Int) (v9 v10 v11 v12 v13 v14 : Option Value), hi + 2 ≤ y + n → lw ≤ y → y ≤ hi + 1 → J X (cW ad dc pen P (triW F p q r lf rt lw y lf) wt rr rf rl) 70 [some (.ref (ad 0)), some (.int (iI p)), some (.int (iI q)), some (.int (iI r)), some (.int (iI lf)), some (.int (iI rt)), some (.int (iI lw)), some (.int (iI hi)), some (.int (iI y)), v9, v10, v11, v12, v13, v14] [] := by
  intro n
  induction n with
  | zero => intro y v9 v10 v11 v12 v13 v14 h1 h2 h3; omega
  | succ n ih =>
    intro y v9 v10 v11 v12 v13 v14 h1 h2 h3
    refine j_il8 C eX0_drawTriangle_70 ?_
    refine j_il7 C eX0_drawTriangle_72 ?_
    refine j_cgt C eX0_drawTriangle_74 (by omega) (by omega) (fun c74 => ?_) (fun c74 => ?_)
    · obtain rfl : y = hi + 1 := by omega
      exact j_vret E eX0_drawTriangle_234 ⟨rfl, rfl⟩
    · refine j_al0 C eX0_drawTriangle_77 ?_
      refine j_il1 C eX0_drawTriangle_78 ?_
      refine j_il2 C eX0_drawTriangle_79 ?_
      refine j_il4 C eX0_drawTriangle_80 ?_
      refine j_il8 C eX0_drawTriangle_82 ?_
      refine x_callI C kX0_97 (cx_side _ _ _ _ _ _ _ _ _ _ _ _ _ (by omega) (by omega)) (by decide) rfl rfl (Nat.le_of_ble_eq_true rfl) eX0_drawTriangle_84 ?_
      refine j_is9 C eX0_drawTriangle_87 (by decide) ?_
      refine j_al0 C eX0_drawTriangle_89 ?_
      refine j_il2 C eX0_drawTriangle_90 ?_
      refine j_il3 C eX0_drawTriangle_91 ?_
      refine j_il4 C eX0_drawTriangle_92 ?_
      refine j_il8 C eX0_drawTriangle_94 ?_
      refine x_callI C kX0_97 (cx_side _ _ _ _ _ _ _ _ _ _ _ _ _ (by omega) (by omega)) (by decide) rfl rfl (Nat.le_of_ble_eq_true rfl) eX0_drawTriangle_96 ?_
      refine j_is10 C eX0_drawTriangle_99 (by decide) ?_
      refine j_al0 C eX0_drawTriangle_101 ?_
      refine j_il3 C eX0_drawTriangle_102 ?_
      refine j_il1 C eX0_drawTriangle_103 ?_
      refine j_il4 C eX0_drawTriangle_104 ?_
      refine j_il8 C eX0_drawTriangle_106 ?_
      refine x_callI C kX0_97 (cx_side _ _ _ _ _ _ _ _ _ _ _ _ _ (by omega) (by omega)) (by decide) rfl rfl (Nat.le_of_ble_eq_true rfl) eX0_drawTriangle_108 ?_
      refine j_is11 C eX0_drawTriangle_111 (by decide) ?_
      refine j_il4 C eX0_drawTriangle_113 ?_
      refine j_is12 C eX0_drawTriangle_115 (by decide) ?_
      refine tri_inner ad dc pen P F wt rr rf rl p q r lf rt lw hi y hp hq hr hlf hrt hlw hhi (by omega) h2 hlr C (fun v9 v10 v11 v12 v13 v14 => ?_) 100 lf _ _ (by omega) (by omega) (by omega)
      refine j_inc8 C eX0_drawTriangle_228 (by decide) ?_
      refine j_goto C eX0_drawTriangle_231 ?_
      exact ih (y + 1) _ _ _ _ _ _ (by omega) (by omega) (by omega)
def trF (F : Nat → Nat → Bool) (p q r : Int) : Nat → Nat → Bool := triW F p q r (min (min (p % 32) (q % 32)) (r % 32)) (max (max (p % 32) (q % 32)) (r % 32)) (min (min (p / 32) (q / 32)) (r / 32)) ((max (max (p / 32) (q / 32)) (r / 32)) + 1) (min (min (p % 32) (q % 32)) (r % 32))
theorem cx_drawTri (ad : Nat → Nat) (dc : Nat → ClassId) (pen : Int) (P F : Nat → Nat → Bool) (wt : Int) (rr rf rl : Nat → Int) (p q r : Int) (hp : 0 ≤ p ∧ p % 32 < 24 ∧ p / 32 < 24) (hq : 0 ≤ q ∧ q % 32 < 24 ∧ q / 32 < 24) (hr : 0 ≤ r ∧ r % 32 < 24 ∧ r / 32 < 24) : gX0_drawTriangle dc [.ref (ad 0), .int (iI p), .int (iI q), .int (iI r)] (cW ad dc pen P F wt rr rf rl) (pV (cW ad dc pen P (trF F p q r) wt rr rf rl)) := by
  refine mG_of (own := RX0) (lv := [some (.ref (ad 0)), some (.int (iI p)), some (.int (iI q)), some (.int (iI r)), none, none, none, none, none, none, none, none, none, none, none]) (by decide) rfl (jIn_b [.ref (ad 0), .int (iI p), .int (iI q), .int (iI r)] 11 rfl) ?_
  intro X C E
  refine j_al0 C eX0_drawTriangle_0 ?_
  refine j_il1 C eX0_drawTriangle_1 ?_
  refine j_bipush C eX0_drawTriangle_2 (by decide) ?_
  refine j_iand C eX0_drawTriangle_4 ?_
  refine j_val (iI_and31 _) ?_
  refine j_il2 C eX0_drawTriangle_5 ?_
  refine j_bipush C eX0_drawTriangle_6 (by decide) ?_
  refine j_iand C eX0_drawTriangle_8 ?_
  refine j_val (iI_and31 _) ?_
  refine j_il3 C eX0_drawTriangle_9 ?_
  refine j_bipush C eX0_drawTriangle_10 (by decide) ?_
  refine j_iand C eX0_drawTriangle_12 ?_
  refine j_val (iI_and31 _) ?_
  refine x_callI C kX0_90 (cx_smallest _ _ _ _ _ _ _ _ _ _ _ _ (by omega) (by omega) (by omega)) (by decide) rfl rfl (Nat.le_of_ble_eq_true rfl) eX0_drawTriangle_13 ?_
  refine j_is4 C eX0_drawTriangle_16 (by decide) ?_
  refine j_al0 C eX0_drawTriangle_18 ?_
  refine j_il1 C eX0_drawTriangle_19 ?_
  refine j_bipush C eX0_drawTriangle_20 (by decide) ?_
  refine j_iand C eX0_drawTriangle_22 ?_
  refine j_val (iI_and31 _) ?_
  refine j_il2 C eX0_drawTriangle_23 ?_
  refine j_bipush C eX0_drawTriangle_24 (by decide) ?_
  refine j_iand C eX0_drawTriangle_26 ?_
  refine j_val (iI_and31 _) ?_
  refine j_il3 C eX0_drawTriangle_27 ?_
  refine j_bipush C eX0_drawTriangle_28 (by decide) ?_
  refine j_iand C eX0_drawTriangle_30 ?_
  refine j_val (iI_and31 _) ?_
  refine x_callI C kX0_94 (cx_greatest _ _ _ _ _ _ _ _ _ _ _ _ (by omega) (by omega) (by omega)) (by decide) rfl rfl (Nat.le_of_ble_eq_true rfl) eX0_drawTriangle_31 ?_
  refine j_is5 C eX0_drawTriangle_34 (by decide) ?_
  refine j_al0 C eX0_drawTriangle_36 ?_
  refine j_il1 C eX0_drawTriangle_37 ?_
  refine j_iconst C eX0_drawTriangle_38 ?_
  refine j_ishr C eX0_drawTriangle_39 ?_
  refine j_val (iI_shr5 (by omega) (by omega)) ?_
  refine j_il2 C eX0_drawTriangle_40 ?_
  refine j_iconst C eX0_drawTriangle_41 ?_
  refine j_ishr C eX0_drawTriangle_42 ?_
  refine j_val (iI_shr5 (by omega) (by omega)) ?_
  refine j_il3 C eX0_drawTriangle_43 ?_
  refine j_iconst C eX0_drawTriangle_44 ?_
  refine j_ishr C eX0_drawTriangle_45 ?_
  refine j_val (iI_shr5 (by omega) (by omega)) ?_
  refine x_callI C kX0_90 (cx_smallest _ _ _ _ _ _ _ _ _ _ _ _ (by omega) (by omega) (by omega)) (by decide) rfl rfl (Nat.le_of_ble_eq_true rfl) eX0_drawTriangle_46 ?_
  refine j_is6 C eX0_drawTriangle_49 (by decide) ?_
  refine j_al0 C eX0_drawTriangle_51 ?_
  refine j_il1 C eX0_drawTriangle_52 ?_
  refine j_iconst C eX0_drawTriangle_53 ?_
  refine j_ishr C eX0_drawTriangle_54 ?_
  refine j_val (iI_shr5 (by omega) (by omega)) ?_
  refine j_il2 C eX0_drawTriangle_55 ?_
  refine j_iconst C eX0_drawTriangle_56 ?_
  refine j_ishr C eX0_drawTriangle_57 ?_
  refine j_val (iI_shr5 (by omega) (by omega)) ?_
  refine j_il3 C eX0_drawTriangle_58 ?_
  refine j_iconst C eX0_drawTriangle_59 ?_
  refine j_ishr C eX0_drawTriangle_60 ?_
  refine j_val (iI_shr5 (by omega) (by omega)) ?_
  refine x_callI C kX0_94 (cx_greatest _ _ _ _ _ _ _ _ _ _ _ _ (by omega) (by omega) (by omega)) (by decide) rfl rfl (Nat.le_of_ble_eq_true rfl) eX0_drawTriangle_61 ?_
  refine j_is7 C eX0_drawTriangle_64 (by decide) ?_
  refine j_il6 C eX0_drawTriangle_66 ?_
  refine j_is8 C eX0_drawTriangle_68 (by decide) ?_
  have k := tri_loop ad dc pen P F wt rr rf rl p q r (min (min (p % 32) (q % 32)) (r % 32)) (max (max (p % 32) (q % 32)) (r % 32)) (min (min (p / 32) (q / 32)) (r / 32)) (max (max (p / 32) (q / 32)) (r / 32)) hp hq hr (by omega) (by omega) (by omega) (by omega) (by omega) (by omega) C E 100 (min (min (p / 32) (q / 32)) (r / 32)) none none none none none none (by omega) (by omega) (by omega)
  rw [triW_0] at k
  exact k
theorem cx_triangle (ad : Nat → Nat) (dc : Nat → ClassId) (pen : Int) (P F : Nat → Nat → Bool) (wt : Int) (rr rf rl : Nat → Int) (hp : 0 ≤ pen ∧ pen ≤ 2) (p q r : Int) (kp : -2147483648 ≤ p ∧ p < 2147483648) (kq : -2147483648 ≤ q ∧ q < 2147483648) (kr : -2147483648 ≤ r ∧ r < 2147483648) : gX0_triangle dc [.ref (ad 0), .int (iI p), .int (iI q), .int (iI r)] (cW ad dc pen P F wt rr rf rl) (pI (cW ad dc pen (if isPx p = true ∧ isPx q = true ∧ isPx r = true then inkP pen P (trF (clr F 24) p q r) 24 else P) (if isPx p = true ∧ isPx q = true ∧ isPx r = true then (trF (clr F 24) p q r) else F) wt rr rf rl) (iI (if isPx p = true ∧ isPx q = true ∧ isPx r = true then (inkC pen P (trF (clr F 24) p q r) 24 : Int) else -1))) := by
  refine mG_of (own := RX0) (lv := [some (.ref (ad 0)), some (.int (iI p)), some (.int (iI q)), some (.int (iI r))]) (by decide) rfl (jIn_b [.ref (ad 0), .int (iI p), .int (iI q), .int (iI r)] 0 rfl) ?_
  intro X C E
  refine j_al0 C eX0_triangle_0 ?_
  refine j_il1 C eX0_triangle_1 ?_
  refine x_callI C kX0_30 (cx_isPixel _ _ _ _ _ _ _ _ _ _ kp.1 kp.2) (by decide) rfl rfl (Nat.le_of_ble_eq_true rfl) eX0_triangle_2 ?_
  refine j_ifeqB C eX0_triangle_5 (fun c5 => ?_) (fun c5 => ?_)
  · refine j_iconst C eX0_triangle_24 ?_
    exact j_iretv E eX0_triangle_25 (by rw [if_neg (by rw [c5]; simp)]) ⟨by rw [if_neg (by rw [c5]; simp), if_neg (by rw [c5]; simp)], rfl⟩
  · refine j_al0 C eX0_triangle_8 ?_
    refine j_il2 C eX0_triangle_9 ?_
    refine x_callI C kX0_30 (cx_isPixel _ _ _ _ _ _ _ _ _ _ kq.1 kq.2) (by decide) rfl rfl (Nat.le_of_ble_eq_true rfl) eX0_triangle_10 ?_
    refine j_ifeqB C eX0_triangle_13 (fun c13 => ?_) (fun c13 => ?_)
    · refine j_iconst C eX0_triangle_24 ?_
      exact j_iretv E eX0_triangle_25 (by rw [if_neg (by rw [c13]; simp)]) ⟨by rw [if_neg (by rw [c13]; simp), if_neg (by rw [c13]; simp)], rfl⟩
    · refine j_al0 C eX0_triangle_16 ?_
      refine j_il3 C eX0_triangle_17 ?_
      refine x_callI C kX0_30 (cx_isPixel _ _ _ _ _ _ _ _ _ _ kr.1 kr.2) (by decide) rfl rfl (Nat.le_of_ble_eq_true rfl) eX0_triangle_18 ?_
      refine j_ifneB C eX0_triangle_21 (fun c21 => ?_) (fun c21 => ?_)
      · have hp2 : 0 ≤ p ∧ p % 32 < 24 ∧ p / 32 < 24 := of_decide_eq_true c5
        have hq : 0 ≤ q ∧ q % 32 < 24 ∧ q / 32 < 24 := of_decide_eq_true c13
        have hr : 0 ≤ r ∧ r % 32 < 24 ∧ r / 32 < 24 := of_decide_eq_true c21
        rw [if_pos ⟨c5, c13, c21⟩, if_pos ⟨c5, c13, c21⟩, if_pos ⟨c5, c13, c21⟩] at E
        refine j_al0 C eX0_triangle_26 ?_
        refine x_callV C kX0_34 (cx_clear _ _ _ _ _ _ _ _ _) (by decide) rfl rfl (Nat.le_of_ble_eq_true rfl) eX0_triangle_27 ?_
        refine j_al0 C eX0_triangle_30 ?_
        refine j_il1 C eX0_triangle_31 ?_
        refine j_il2 C eX0_triangle_32 ?_
        refine j_il3 C eX0_triangle_33 ?_
        refine x_callV C kX0_59 (cx_drawTri _ _ _ _ _ _ _ _ _ _ _ _ hp2 hq hr) (by decide) rfl rfl (Nat.le_of_ble_eq_true rfl) eX0_triangle_34 ?_
        refine j_al0 C eX0_triangle_37 ?_
        refine x_callI C kX0_45 (cx_ink _ _ _ _ _ _ _ _ _ hp) (by decide) rfl rfl (Nat.le_of_ble_eq_true rfl) eX0_triangle_38 ?_
        exact j_iret E eX0_triangle_41 ⟨rfl, rfl⟩
      · refine j_iconst C eX0_triangle_24 ?_
        exact j_iretv E eX0_triangle_25 (by rw [if_neg (by rw [c21]; simp)]) ⟨by rw [if_neg (by rw [c21]; simp), if_neg (by rw [c21]; simp)], rfl⟩
end
section
/-! floods: the plain law -/
def stt (f : Nat → Bool) (i : Nat) : Bool := f i && !(decide (0 < i) && f (i - 1))
def nst (F : Nat → Nat → Bool) : Nat := sumN (fun j => cnt (stt (F j)) 24) 24
theorem stt_le (f : Nat → Bool) : ∀ n : Nat, cnt (stt f) (2 * n) ≤ n := by
  intro n
  induction n with
  | zero => exact Nat.le_refl 0
  | succ n ih =>
    rw [show 2 * (n + 1) = 2 * n + 1 + 1 by omega, cnt, cnt]
    have e : stt f (2 * n + 1) = (f (2 * n + 1) && !f (2 * n)) := by
      unfold stt
      rw [decide_eq_true (show 0 < 2 * n + 1 by omega), show 2 * n + 1 - 1 = 2 * n by omega, Bool.true_and]
    have e2 : stt f (2 * n) = true → f (2 * n) = true := by
      unfold stt
      intro h
      rw [Bool.and_eq_true] at h
      exact h.1
    rw [e]
    cases h1 : stt f (2 * n) with
    | false =>
      rw [if_neg (show ¬ false = true by decide)]
      split <;> omega
    | true =>
      rw [e2 h1, if_pos rfl]
      simp
      omega
theorem sumN_le {f : Nat → Nat} {n c : Nat} (h : ∀ i, i < n → f i ≤ c) : sumN f n ≤ n * c := by
  induction n with
  | zero => rw [sumN]; omega
  | succ n ih =>
    rw [sumN, Nat.succ_mul]
    have h1 := ih (fun i hi => h i (by omega))
    have h2 := h n (by omega)
    omega
theorem nst_le (F : Nat → Nat → Bool) : nst F ≤ 288 := sumN_le (n := 24) (c := 12) (fun j _ => stt_le (F j) 12)
theorem sumN_one {f g : Nat → Nat} {n j d : Nat} (hj : j < n) (h : ∀ i, i < n → i ≠ j → f i = g i) (hd : f j = g j + d) : sumN f n = sumN g n + d := by
  induction n with
  | zero => omega
  | succ n ih =>
    rw [sumN, sumN]
    by_cases e : j = n
    · subst e
      rw [sumN_ext (fun i hi => h i (by omega) (by omega)), hd]
      omega
    · rw [ih (by omega) (fun i hi hn => h i (by omega) hn), h n (by omega) (fun q => e q.symm)]
      omega
theorem cnt_one {f g : Nat → Bool} {n a : Nat} (ha : a < n) (h : ∀ i, i < n → f i = (g i || decide (i = a))) (hg : g a = false) : cnt f n = cnt g n + 1 := by
  induction n with
  | zero => omega
  | succ n ih =>
    rw [cnt, cnt]
    by_cases e : a = n
    · subst e
      rw [cnt_ext (fun i hi => by rw [h i (by omega), decide_eq_false (by omega), Bool.or_false]), h a (by omega), hg, decide_eq_true rfl]
      rfl
    · rw [ih (by omega) (fun i hi => h i (by omega)), h n (by omega), decide_eq_false (fun q => e q.symm), Bool.or_false]
      omega
theorem cnt_run {g : Nat → Bool} {n a : Nat} : ∀ (d : Nat) {f : Nat → Bool}, a + d < n → (∀ i, i < n → f i = (g i || decide (a ≤ i ∧ i ≤ a + d))) → (∀ i, a ≤ i → i ≤ a + d → g i = false) → cnt f n = cnt g n + (d + 1) := by
  intro d
  induction d with
  | zero =>
    intro f hb h hg
    exact cnt_one (a := a) (by omega) (fun i hi => by rw [h i hi]; congr 1; exact decide_eq_decide.mpr (by omega)) (hg a (by omega) (by omega))
  | succ d ih =>
    intro f hb h hg
    have h1 := ih (f := fun i => g i || decide (a ≤ i ∧ i ≤ a + d)) (by omega) (fun i _ => rfl) (fun i q1 q2 => hg i q1 (by omega))
    have h2 : cnt f n = cnt (fun i => g i || decide (a ≤ i ∧ i ≤ a + d)) n + 1 := cnt_one (a := a + (d + 1)) (by omega) (fun i hi => by
      rw [h i hi, Bool.or_assoc, ← Bool.decide_or]
      congr 1
      exact decide_eq_decide.mpr (by omega)) (by
      rw [hg (a + (d + 1)) (by omega) (by omega), decide_eq_false (by omega)]
      rfl)
    omega
theorem runF_n (F : Nat → Nat → Bool) {y a b : Nat} (hy : y < 24) (hb : b < 24) (j i : Nat) : runF F (y : Int) (a : Int) (b : Int) j i = (F j i || decide (j = y ∧ a ≤ i ∧ i ≤ b)) := by
  unfold runF
  congr 1
  exact decide_eq_decide.mpr (by omega)
abbrev adj (j i j' i' : Nat) : Prop := (j = j' ∧ (i' = i + 1 ∨ i = i' + 1)) ∨ (i = i' ∧ (j' = j + 1 ∨ j = j' + 1))
def closedP (P : Nat → Nat → Bool) (v : Bool) (T : Nat → Nat → Bool) : Prop := ∀ j i j' i' : Nat, j < 24 → i < 24 → j' < 24 → i' < 24 → adj j i j' i' → T j i = true → P j' i' = v → T j' i' = true
def isRun (P : Nat → Nat → Bool) (v : Bool) (y x a b : Nat) : Prop := a ≤ x ∧ x ≤ b ∧ b < 24 ∧ (∀ i, a ≤ i → i ≤ b → P y i = v) ∧ (a = 0 ∨ P y (a - 1) ≠ v) ∧ (b = 23 ∨ P y (b + 1) ≠ v)
/-- a run that meets a set closed sidewards lies in it -/
theorem run_in {P T : Nat → Nat → Bool} {v : Bool} {y x a b : Nat} (h : isRun P v y x a b) (hT : ∀ i, i + 1 < 24 → P y i = v → P y (i + 1) = v → T y i = T y (i + 1)) {c : Bool} (hx : T y x = c) : ∀ i, a ≤ i → i ≤ b → T y i = c := by
  obtain ⟨h1, h2, h3, h4, -, -⟩ := h
  have up : ∀ d, x + d ≤ b → T y (x + d) = c := by
    intro d
    induction d with
    | zero => intro _; exact hx
    | succ d ih =>
      intro hd
      rw [← ih (by omega)]
      exact (hT (x + d) (by omega) (h4 _ (by omega) (by omega)) (h4 (x + d + 1) (by omega) (by omega))).symm
  have dn : ∀ d, a + d ≤ x → T y (x - d) = c := by
    intro d
    induction d with
    | zero => intro _; exact hx
    | succ d ih =>
      intro hd
      have := hT (x - (d + 1)) (by omega) (h4 _ (by omega) (by omega)) (by rw [show x - (d + 1) + 1 = x - d by omega]; exact h4 _ (by omega) (by omega))
      rw [this, show x - (d + 1) + 1 = x - d by omega]
      exact ih (by omega)
  intro i q1 q2
  rcases Nat.lt_or_ge i x with e | e
  · have := dn (x - i) (by omega)
    rwa [show x - (x - i) = i by omega] at this
  · have := up (i - x) (by omega)
    rwa [show x + (i - x) = i by omega] at this
theorem closed_side {P T : Nat → Nat → Bool} {v : Bool} (h : closedP P v T) {y : Nat} (hy : y < 24) : ∀ i, i + 1 < 24 → P y i = v → P y (i + 1) = v → T y i = T y (i + 1) := by
  intro i hi h1 h2
  cases e : T y i with
  | true => exact (h y i y (i + 1) hy (by omega) hy hi (Or.inl ⟨rfl, Or.inl rfl⟩) e h2).symm
  | false =>
    cases e2 : T y (i + 1) with
    | true =>
      rw [← e]
      exact (h y (i + 1) y i hy hi hy (by omega) (Or.inl ⟨rfl, Or.inr rfl⟩) e2 h1)
    | false => rfl
def good (P : Nat → Nat → Bool) (v : Bool) (F : Nat → Nat → Bool) (j i : Nat) : Prop := ∀ j' : Nat, j' < 24 → (j' = j + 1 ∨ j = j' + 1) → P j' i = v → F j' i = true
def pend (rf rl : Nat → Int) : Nat → Int
  | 0 => 0
  | k + 1 => pend rf rl k + (rl k - rf k + 1)
theorem pend_ext {rf rl rf' rl' : Nat → Int} {k : Nat} (h : ∀ t, t < k → rf t = rf' t ∧ rl t = rl' t) : pend rf rl k = pend rf' rl' k := by
  induction k with
  | zero => rfl
  | succ k ih => rw [pend, pend, ih (fun t ht => h t (by omega)), (h k (by omega)).1, (h k (by omega)).2]
/-- what holds while a flood runs -/
def flI (P : Nat → Nat → Bool) (v : Bool) (y0 x0 : Nat) (F : Nat → Nat → Bool) (k : Nat) (rr rf rl : Nat → Int) (tot : Int) (cur : Nat → Nat → Prop) : Prop :=
  (∀ j i, j < 24 → F j i = true → i < 24 ∧ P j i = v) ∧
  (∀ j i, j < 24 → i + 1 < 24 → P j i = v → P j (i + 1) = v → F j i = F j (i + 1)) ∧
  (∀ T, closedP P v T → T y0 x0 = true → ∀ j i, j < 24 → F j i = true → T j i = true) ∧
  (∀ j i, j < 24 → F j i = true → good P v F j i ∨ cur j i ∨ ∃ t, t < k ∧ rr t = (j : Int) ∧ rf t ≤ (i : Int) ∧ (i : Int) ≤ rl t) ∧
  (∀ t, t < k → ∃ y a b : Nat, rr t = (y : Int) ∧ rf t = (a : Int) ∧ rl t = (b : Int) ∧ y < 24 ∧ a ≤ b ∧ b < 24 ∧ ∀ i, a ≤ i → i ≤ b → F y i = true) ∧
  k ≤ nst F ∧ tot + pend rf rl k = (cntR F 24 : Int)
theorem flI_0 (P : Nat → Nat → Bool) (v : Bool) (y0 x0 : Nat) (F : Nat → Nat → Bool) (rr rf rl : Nat → Int) : flI P v y0 x0 (clr F 24) 0 rr rf rl 0 (fun _ _ => False) := by
  have e : ∀ j i, j < 24 → clr F 24 j i = false := fun j i h => by unfold clr; rw [if_pos h]
  refine ⟨fun j i h q => ?_, fun j i h _ _ _ => ?_, fun T _ _ j i h q => ?_, fun j i h q => ?_, fun t h => ?_, Nat.zero_le _, ?_⟩
  · rw [e j i h] at q; cases q
  · rw [e j i h, e j (i + 1) h]
  · rw [e j i h] at q; cases q
  · rw [e j i h] at q; cases q
  · omega
  · have : cntR (clr F 24) 24 = 0 := by
      have h1 : cntR (clr F 24) 24 ≤ 24 * 0 := sumN_le (fun j hj => by
        rw [cnt_ext (g := fun _ => false) (fun i _ => e j i hj)]
        decide)
      omega
    rw [this]
    rfl
theorem flI_push {P : Nat → Nat → Bool} {v : Bool} {y0 x0 : Nat} {F : Nat → Nat → Bool} {k : Nat} {rr rf rl : Nat → Int} {tot : Int} {cur : Nat → Nat → Prop} (h : flI P v y0 x0 F k rr rf rl tot cur) {y x a b : Nat} (hy : y < 24) (hr : isRun P v y x a b) (hF : F y x = false) (hT : ∀ T, closedP P v T → T y0 x0 = true → T y x = true) :
    flI P v y0 x0 (runF F (y : Int) (a : Int) (b : Int)) (k + 1) (up rr k (y : Int)) (up rf k (a : Int)) (up rl k (b : Int)) tot cur ∧ nst (runF F (y : Int) (a : Int) (b : Int)) = nst F + 1 := by
  obtain ⟨h1, h2, h3, h4, h5, h6, h7⟩ := h
  have hra := hr
  obtain ⟨r1, r2, r3, r4, r5, r6⟩ := hr
  have e := runF_n F hy r3 (a := a)
  have hno := run_in hra (fun i q1 q2 q3 => h2 y i hy q1 q2 q3) hF
  have mono : ∀ j i, F j i = true → runF F (y : Int) (a : Int) (b : Int) j i = true := fun j i q => by rw [e, q]; rfl
  have hn : nst (runF F (y : Int) (a : Int) (b : Int)) = nst F + 1 := by
    refine sumN_one (j := y) hy (fun j hj hne => ?_) ?_
    · refine cnt_ext (fun i hi => ?_)
      have q : ∀ i, runF F (y : Int) (a : Int) (b : Int) j i = F j i := fun i => by rw [e, decide_eq_false (fun z => hne z.1), Bool.or_false]
      unfold stt
      rw [q, q]
    · refine cnt_one (a := a) (by omega) (fun i hi => ?_) ?_
      · unfold stt
        rw [e, e]
        by_cases c1 : i = a
        · subst c1
          rw [decide_eq_true (show y = y ∧ i ≤ i ∧ i ≤ b from ⟨rfl, by omega, by omega⟩), decide_eq_true (show i = i from rfl)]
          rcases Nat.eq_zero_or_pos i with z | z
          · simp [z]
          · have c2 : F y (i - 1) = false := by
              cases c3 : F y (i - 1) with
              | false => rfl
              | true => exact absurd (h1 y (i - 1) hy c3).2 (r5.resolve_left (by omega))
            rw [c2, decide_eq_false (show ¬ (y = y ∧ i ≤ i - 1 ∧ i - 1 ≤ b) by omega)]
            simp
        · rw [decide_eq_false c1, Bool.or_false]
          by_cases c2 : a ≤ i ∧ i ≤ b
          · rw [hno i c2.1 c2.2, decide_eq_true (show y = y ∧ a ≤ i ∧ i ≤ b from ⟨rfl, c2⟩), decide_eq_true (show y = y ∧ a ≤ i - 1 ∧ i - 1 ≤ b by omega), decide_eq_true (show 0 < i by omega)]
            simp
          · rw [decide_eq_false (show ¬ (y = y ∧ a ≤ i ∧ i ≤ b) from fun z => c2 z.2), Bool.or_false]
            by_cases c3 : i = b + 1
            · have c4 : F y i = false := by
                cases c5 : F y i with
                | false => rfl
                | true =>
                  have := h1 y i hy c5
                  rw [c3] at this
                  exact absurd this.2 (r6.resolve_left (by omega))
              rw [c4]
              rfl
            · rcases Nat.eq_zero_or_pos i with z | z
              · simp [z]
              · rw [decide_eq_false (show ¬ (y = y ∧ a ≤ i - 1 ∧ i - 1 ≤ b) by omega), Bool.or_false]
      · unfold stt
        rw [hno a (by omega) (by omega)]
        rfl
  refine ⟨⟨fun j i q1 q2 => ?_, fun j i q1 q2 q3 q4 => ?_, fun T t1 t2 j i q1 q2 => ?_, fun j i q1 q2 => ?_, fun t q1 => ?_, by omega, ?_⟩, hn⟩
  · rw [e, Bool.or_eq_true, decide_eq_true_eq] at q2
    rcases q2 with q2 | ⟨rfl, q2⟩
    · exact h1 j i q1 q2
    · exact ⟨by omega, r4 i q2.1 q2.2⟩
  · rw [e, e, h2 j i q1 q2 q3 q4]
    congr 1
    refine decide_eq_decide.mpr ⟨fun z => ?_, fun z => ?_⟩
    · obtain ⟨rfl, z1, z2⟩ := z
      refine ⟨rfl, by omega, ?_⟩
      rcases Nat.lt_or_ge i b with c | c
      · omega
      · obtain rfl : i = b := by omega
        exact absurd q4 (r6.resolve_left (by omega))
    · obtain ⟨rfl, z1, z2⟩ := z
      refine ⟨rfl, ?_, by omega⟩
      rcases Nat.lt_or_ge i a with c | c
      · have c2 : a = i + 1 := by omega
        subst c2
        exact absurd q3 (r5.resolve_left (by omega))
      · exact c
  · rw [e, Bool.or_eq_true, decide_eq_true_eq] at q2
    rcases q2 with q2 | ⟨rfl, q2⟩
    · exact h3 T t1 t2 j i q1 q2
    · exact run_in hra (closed_side t1 hy) (hT T t1 t2) i q2.1 q2.2
  · rw [e, Bool.or_eq_true, decide_eq_true_eq] at q2
    rcases q2 with q2 | ⟨rfl, q2⟩
    · rcases h4 j i q1 q2 with z | z | ⟨t, z1, z2, z3, z4⟩
      · exact Or.inl (fun j' w1 w2 w3 => mono _ _ (z j' w1 w2 w3))
      · exact Or.inr (Or.inl z)
      · refine Or.inr (Or.inr ⟨t, by omega, ?_⟩)
        rw [up_n _ _ (by omega), up_n _ _ (by omega), up_n _ _ (by omega)]
        exact ⟨z2, z3, z4⟩
    · refine Or.inr (Or.inr ⟨k, by omega, ?_⟩)
      rw [up_s, up_s, up_s]
      exact ⟨rfl, by omega, by omega⟩
  · by_cases c : t = k
    · subst c
      refine ⟨y, a, b, up_s _ _ _, up_s _ _ _, up_s _ _ _, hy, by omega, r3, fun i w1 w2 => ?_⟩
      rw [e, decide_eq_true (show y = y ∧ a ≤ i ∧ i ≤ b from ⟨rfl, w1, w2⟩), Bool.or_true]
    · obtain ⟨y', a', b', w1, w2, w3, w4, w5, w6, w7⟩ := h5 t (by omega)
      exact ⟨y', a', b', by rw [up_n _ _ c]; exact w1, by rw [up_n _ _ c]; exact w2, by rw [up_n _ _ c]; exact w3, w4, w5, w6, fun i z1 z2 => mono _ _ (w7 i z1 z2)⟩
  · have c1 : cntR (runF F (y : Int) (a : Int) (b : Int)) 24 = cntR F 24 + (b - a + 1) := by
      refine sumN_one (j := y) hy (fun j hj hne => ?_) ?_
      · exact cnt_ext (fun i hi => by rw [e, decide_eq_false (fun z => hne z.1), Bool.or_false])
      · exact cnt_run (b - a) (by omega) (fun i hi => by rw [e]; congr 1; exact decide_eq_decide.mpr (by omega)) (fun i w1 w2 => hno i w1 (by omega))
    rw [c1, pend, up_s, up_s, pend_ext (rf' := rf) (rl' := rl) (fun t ht => ⟨up_n _ _ (by omega), up_n _ _ (by omega)⟩)]
    omega
theorem flI_pop {P : Nat → Nat → Bool} {v : Bool} {y0 x0 : Nat} {F : Nat → Nat → Bool} {k : Nat} {rr rf rl : Nat → Int} {tot : Int} (h : flI P v y0 x0 F (k + 1) rr rf rl tot (fun _ _ => False)) : flI P v y0 x0 F k rr rf rl (tot + (rl k - rf k + 1)) (fun j i => rr k = (j : Int) ∧ rf k ≤ (i : Int) ∧ (i : Int) ≤ rl k) := by
  obtain ⟨h1, h2, h3, h4, h5, h6, h7⟩ := h
  refine ⟨h1, h2, h3, fun j i q1 q2 => ?_, fun t q1 => h5 t (by omega), by omega, ?_⟩
  · rcases h4 j i q1 q2 with z | z | ⟨t, z1, z2⟩
    · exact Or.inl z
    · exact z.elim
    · by_cases c : t = k
      · subst c
        exact Or.inr (Or.inl z2)
      · exact Or.inr (Or.inr ⟨t, by omega, z2⟩)
  · rw [pend] at h7
    omega
theorem flI_cur {P : Nat → Nat → Bool} {v : Bool} {y0 x0 : Nat} {F : Nat → Nat → Bool} {k : Nat} {rr rf rl : Nat → Int} {tot : Int} {cur cur' : Nat → Nat → Prop} (h : flI P v y0 x0 F k rr rf rl tot cur) (hc : ∀ j i, j < 24 → F j i = true → cur j i → good P v F j i ∨ cur' j i) : flI P v y0 x0 F k rr rf rl tot cur' := by
  obtain ⟨h1, h2, h3, h4, h5, h6, h7⟩ := h
  refine ⟨h1, h2, h3, fun j i q1 q2 => ?_, h5, h6, h7⟩
  rcases h4 j i q1 q2 with z | z | z
  · exact Or.inl z
  · rcases hc j i q1 q2 z with w | w
    · exact Or.inl w
    · exact Or.inr (Or.inl w)
  · exact Or.inr (Or.inr z)
theorem flI_end {P : Nat → Nat → Bool} {v : Bool} {y0 x0 : Nat} {F : Nat → Nat → Bool} {rr rf rl : Nat → Int} {tot : Int} (h : flI P v y0 x0 F 0 rr rf rl tot (fun _ _ => False)) : closedP P v F ∧ tot = (cntR F 24 : Int) := by
  obtain ⟨h1, h2, h3, h4, h5, h6, h7⟩ := h
  refine ⟨fun j i j' i' q1 q2 q3 q4 q5 q6 q7 => ?_, by rw [← h7, pend]; omega⟩
  rcases q5 with ⟨rfl, rfl | rfl⟩ | ⟨rfl, q5⟩
  · rw [← h2 j i q1 q4 (h1 j i q1 q6).2 q7]; exact q6
  · rw [h2 j i' q1 q2 q7 (h1 j _ q1 q6).2]; exact q6
  · rcases h4 j i q1 q6 with z | z | ⟨t, z, -⟩
    · exact z j' q3 q5 q7
    · exact z.elim
    · omega
end
section
theorem zI_inj {a b : Bool} (h : iI (zI a) = iI (zI b)) : a = b := by
  cases a <;> cases b <;> first | rfl | exact absurd h (by decide)
section BB
variable {X : jX} {cc : ByteArray} {own : String} {n : Nat} {tys : List (ClassId × FieldType)} {fr lo : Nat} {ws : va_W} {pc q t : Nat} {lv : List (Option Value)} {st : List Value}
theorem j_ceqB (C : jC X cc own n tys fr lo) {a b : Bool} (d : db cc pc (.if_icmp .eq) q t) (k1 : a = b → J X ws t lv st) (k2 : a ≠ b → J X ws q lv st) : J X ws pc lv (.int (iI (zI b)) :: .int (iI (zI a)) :: st) := j_ceqR C d (fun h => k1 (zI_inj h)) (fun h => k2 (fun z => h (by rw [z])))
theorem j_cneB (C : jC X cc own n tys fr lo) {a b : Bool} (d : db cc pc (.if_icmp .ne) q t) (k1 : a ≠ b → J X ws t lv st) (k2 : a = b → J X ws q lv st) : J X ws pc lv (.int (iI (zI b)) :: .int (iI (zI a)) :: st) := j_cneR C d (fun h => k1 (fun z => h (by rw [z]))) (fun h => k2 (zI_inj h))
end BB
def aPost (ad : Nat → Nat) (dc : Nat → ClassId) (pen : Int) (P F : Nat → Nat → Bool) (k : Nat) (rr rf rl : Nat → Int) (y : Int) (x : Nat) (v : Bool) : va_W → Option Value → Prop := fun w r => r = none ∧ ((w = cW ad dc pen P F (k : Int) rr rf rl ∧ (∀ j : Nat, (j : Int) = y → j < 24 → F j x = true ∨ P j x ≠ v)) ∨ (∃ j a b : Nat, (j : Int) = y ∧ j < 24 ∧ F j x = false ∧ isRun P v j x a b ∧ w = cW ad dc pen P (runF F (j : Int) (a : Int) (b : Int)) ((k + 1 : Nat) : Int) (up rr k (j : Int)) (up rf k (a : Int)) (up rl k (b : Int))))
theorem add_last {X : jX} (ad : Nat → Nat) (dc : Nat → ClassId) (pen : Int) (P F : Nat → Nat → Bool) (k : Nat) (rr rf rl : Nat → Int) (y x a : Nat) (v : Bool) (hy : y < 24) (C : jC X cX0_addRun RX0 6 (cTy dc) 0 0) (K : ∀ b : Nat, x ≤ b → b < 24 → (∀ i, x ≤ i → i ≤ b → P y i = v) → (b = 23 ∨ P y (b + 1) ≠ v) → J X (cW ad dc pen P F (k : Int) rr rf rl) 102 [some (.ref (ad 0)), some (.int (iI (y : Int))), some (.int (iI (x : Int))), some (.int (iI (zI v))), some (.int (iI (a : Int))), some (.int (iI (b : Int)))] []) : ∀ (n b : Nat), 24 ≤ b + n → x ≤ b → b < 24 → (∀ i, x ≤ i → i ≤ b → P y i = v) → J X (cW ad dc pen P F (k : Int) rr rf rl) 72 [some (.ref (ad 0)), some (.int (iI (y : Int))), some (.int (iI (x : Int))), some (.int (iI (zI v))), some (.int (iI (a : Int))), some (.int (iI (b : Int)))] [] := by
  intro n
  induction n with
  | zero => intro b h1 h2 h3; omega
  | succ n ih =>
    intro b h1 h2 h3 h4
    refine j_il5 C eX0_addRun_72 ?_
    refine j_bipush C eX0_addRun_74 (by decide) ?_
    refine j_cge C eX0_addRun_76 (by omega) (by omega) (fun c76 => ?_) (fun c76 => ?_)
    · exact K b h2 h3 h4 (Or.inl (by omega))
    · refine j_al0 C eX0_addRun_79 ?_
      refine x_get_rows C eX0_addRun_80 ?_
      refine j_il1 C eX0_addRun_83 ?_
      refine x_rows_ld C (i := y) eX0_addRun_84 rfl (by omega) ?_
      refine j_il5 C eX0_addRun_85 ?_
      refine j_iconst C eX0_addRun_87 ?_
      refine j_iadd C eX0_addRun_88 ?_
      rw [show ((b : Nat) : Int) + 1 = ((b + 1 : Nat) : Int) by omega]
      refine j_ishr C eX0_addRun_89 ?_
      refine j_iconst C eX0_addRun_90 ?_
      refine j_iand C eX0_addRun_91 ?_
      refine j_val (bI_bit _ (show b + 1 < 32 by omega)) ?_
      refine j_il3 C eX0_addRun_92 ?_
      refine j_cneB C eX0_addRun_93 (fun c93 => ?_) (fun c93 => ?_)
      · exact K b h2 h3 h4 (Or.inr c93)
      · refine j_inc5 C eX0_addRun_96 (by decide) ?_
        refine j_goto C eX0_addRun_99 ?_
        exact ih (b + 1) (by omega) (by omega) (by omega) (fun i q1 q2 => by
        rcases Nat.lt_or_ge b i with e | e
        · obtain rfl : i = b + 1 := by omega
          exact c93
        · exact h4 i q1 e)
theorem add_first {X : jX} (ad : Nat → Nat) (dc : Nat → ClassId) (pen : Int) (P F : Nat → Nat → Bool) (k : Nat) (rr rf rl : Nat → Int) (y x : Nat) (b : Nat) (v : Bool) (hy : y < 24) (hx : x < 24) (C : jC X cX0_addRun RX0 6 (cTy dc) 0 0) (K : ∀ a : Nat, a ≤ x → (∀ i, a ≤ i → i ≤ x → P y i = v) → (a = 0 ∨ P y (a - 1) ≠ v) → J X (cW ad dc pen P F (k : Int) rr rf rl) 72 [some (.ref (ad 0)), some (.int (iI (y : Int))), some (.int (iI (x : Int))), some (.int (iI (zI v))), some (.int (iI (a : Int))), some (.int (iI (b : Int)))] []) : ∀ (n a : Nat), a < n → a ≤ x → (∀ i, a ≤ i → i ≤ x → P y i = v) → J X (cW ad dc pen P F (k : Int) rr rf rl) 44 [some (.ref (ad 0)), some (.int (iI (y : Int))), some (.int (iI (x : Int))), some (.int (iI (zI v))), some (.int (iI (a : Int))), some (.int (iI (b : Int)))] [] := by
  intro n
  induction n with
  | zero => intro a h1; omega
  | succ n ih =>
    intro a h1 h3 h4
    refine j_il4 C eX0_addRun_44 ?_
    refine j_ifle C eX0_addRun_46 (by omega) (fun c46 => ?_) (fun c46 => ?_)
    · exact K a h3 h4 (Or.inl (by omega))
    · obtain ⟨d, rfl⟩ : ∃ d, a = d + 1 := ⟨a - 1, by omega⟩
      refine j_al0 C eX0_addRun_49 ?_
      refine x_get_rows C eX0_addRun_50 ?_
      refine j_il1 C eX0_addRun_53 ?_
      refine x_rows_ld C (i := y) eX0_addRun_54 rfl (by omega) ?_
      refine j_il4 C eX0_addRun_55 ?_
      refine j_iconst C eX0_addRun_57 ?_
      refine j_isub C eX0_addRun_58 ?_
      rw [show ((d + 1 : Nat) : Int) - 1 = (d : Int) by omega]
      refine j_ishr C eX0_addRun_59 ?_
      refine j_iconst C eX0_addRun_60 ?_
      refine j_iand C eX0_addRun_61 ?_
      refine j_val (bI_bit _ (show d < 32 by omega)) ?_
      refine j_il3 C eX0_addRun_62 ?_
      refine j_cneB C eX0_addRun_63 (fun c63 => ?_) (fun c63 => ?_)
      · exact K (d + 1) h3 h4 (Or.inr c63)
      · refine j_inc4 C eX0_addRun_66 (by decide) ?_
        rw [show ((d + 1 : Nat) : Int) + -1 = (d : Int) by omega]
        refine j_goto C eX0_addRun_69 ?_
        exact ih d (by omega) (by omega) (fun i q1 q2 => by
        rcases Nat.lt_or_ge d i with e | e
        · exact h4 i (by omega) q2
        · obtain rfl : i = d := by omega
          exact c63)
theorem add_put {X : jX} (ad : Nat → Nat) (dc : Nat → ClassId) (pen : Int) (P F : Nat → Nat → Bool) (k : Nat) (rr rf rl : Nat → Int) (y x a b : Nat) (v : Bool) (hy : y < 24) (hF : F y x = false) (hr : isRun P v y x a b) (hk : k < 288) (C : jC X cX0_addRun RX0 6 (cTy dc) 0 0) (E : jE X cX0_addRun none (aPost ad dc pen P F k rr rf rl (y : Int) x v)) : J X (cW ad dc pen P F (k : Int) rr rf rl) 102 [some (.ref (ad 0)), some (.int (iI (y : Int))), some (.int (iI (x : Int))), some (.int (iI (zI v))), some (.int (iI (a : Int))), some (.int (iI (b : Int)))] [] := by
  have h1 : a ≤ b := by have := hr.1; have := hr.2.1; omega
  have h2 : b < 24 := hr.2.2.1
  refine j_al0 C eX0_addRun_102 ?_
  refine x_get_fig C eX0_addRun_103 ?_
  refine j_il1 C eX0_addRun_106 ?_
  refine j_dup2 C eX0_addRun_107 ?_
  refine x_fig_ld C (i := y) eX0_addRun_108 rfl (by omega) ?_
  refine j_iconst C eX0_addRun_109 ?_
  refine j_il5 C eX0_addRun_110 ?_
  refine j_iconst C eX0_addRun_112 ?_
  refine j_iadd C eX0_addRun_113 ?_
  refine j_ishl C eX0_addRun_114 ?_
  refine j_iconst C eX0_addRun_115 ?_
  refine j_il4 C eX0_addRun_116 ?_
  refine j_ishl C eX0_addRun_118 ?_
  refine j_isubR C eX0_addRun_119 ?_
  refine j_val (bI_run b (by omega) a (by omega) (by omega)) ?_
  refine j_ior C eX0_addRun_120 ?_
  refine j_val (bI_or _ _) ?_
  refine x_fig_st C (i := y) eX0_addRun_121 rfl (by omega) ?_
  rw [runF_in (a := a) (b := b) (c := (a : Int)) (d := (b : Int)) F (by omega) (by omega) (fun i hi => by omega)]
  refine j_al0 C eX0_addRun_122 ?_
  refine x_get_rr C eX0_addRun_123 ?_
  refine j_al0 C eX0_addRun_126 ?_
  refine x_get_wt C eX0_addRun_127 ?_
  refine j_il1 C eX0_addRun_130 ?_
  refine j_i2b C eX0_addRun_131 ?_
  refine j_val (i2b_n y (by omega)) ?_
  refine x_rr_st C (i := k) eX0_addRun_132 rfl hk (nar_by y (by omega)) ?_
  refine j_al0 C eX0_addRun_133 ?_
  refine x_get_rf C eX0_addRun_134 ?_
  refine j_al0 C eX0_addRun_137 ?_
  refine x_get_wt C eX0_addRun_138 ?_
  refine j_il4 C eX0_addRun_141 ?_
  refine j_i2b C eX0_addRun_143 ?_
  refine j_val (i2b_n a (by omega)) ?_
  refine x_rf_st C (i := k) eX0_addRun_144 rfl hk (nar_by a (by omega)) ?_
  refine j_al0 C eX0_addRun_145 ?_
  refine x_get_rl C eX0_addRun_146 ?_
  refine j_al0 C eX0_addRun_149 ?_
  refine x_get_wt C eX0_addRun_150 ?_
  refine j_il5 C eX0_addRun_153 ?_
  refine j_i2b C eX0_addRun_155 ?_
  refine j_val (i2b_n b (by omega)) ?_
  refine x_rl_st C (i := k) eX0_addRun_156 rfl hk (nar_by b (by omega)) ?_
  refine j_al0 C eX0_addRun_157 ?_
  refine j_dupr C eX0_addRun_158 ?_
  refine x_get_wt C eX0_addRun_159 ?_
  refine j_iconst C eX0_addRun_162 ?_
  refine j_iadd C eX0_addRun_163 ?_
  rw [show ((k : Nat) : Int) + 1 = ((k + 1 : Nat) : Int) by omega]
  refine x_put_wt C eX0_addRun_164 ?_
  exact j_vret E eX0_addRun_167 ⟨rfl, Or.inr ⟨y, a, b, rfl, hy, hF, hr, rfl⟩⟩
theorem cx_addRun (ad : Nat → Nat) (dc : Nat → ClassId) (pen : Int) (P F : Nat → Nat → Bool) (k : Nat) (rr rf rl : Nat → Int) (y : Int) (hyy : -1 ≤ y ∧ y ≤ 24) (x : Nat) (hx : x < 24) (v : Bool) (hk : ∀ j a b : Nat, (j : Int) = y → j < 24 → F j x = false → isRun P v j x a b → k < 288) : gX0_addRun dc [.ref (ad 0), .int (iI y), .int (iI (x : Int)), .int (iI (zI v))] (cW ad dc pen P F (k : Int) rr rf rl) (aPost ad dc pen P F k rr rf rl y x v) := by
  refine mG_of (own := RX0) (lv := [some (.ref (ad 0)), some (.int (iI y)), some (.int (iI (x : Int))), some (.int (iI (zI v))), none, none]) (by decide) rfl (jIn_b [.ref (ad 0), .int (iI y), .int (iI (x : Int)), .int (iI (zI v))] 2 rfl) ?_
  intro X C E
  refine j_il1 C eX0_addRun_0 ?_
  refine j_iflt C eX0_addRun_1 (by omega) (fun c1 => ?_) (fun c1 => ?_)
  · exact j_vret E eX0_addRun_37 ⟨rfl, Or.inl ⟨rfl, fun j hj hl => by omega⟩⟩
  · refine j_il1 C eX0_addRun_4 ?_
    refine j_bipush C eX0_addRun_5 (by decide) ?_
    refine j_cge C eX0_addRun_7 (by omega) (by omega) (fun c7 => ?_) (fun c7 => ?_)
    · exact j_vret E eX0_addRun_37 ⟨rfl, Or.inl ⟨rfl, fun j hj hl => by omega⟩⟩
    · obtain ⟨y, rfl⟩ := Int.eq_ofNat_of_zero_le c1
      have hy : y < 24 := by omega
      refine j_al0 C eX0_addRun_10 ?_
      refine x_get_fig C eX0_addRun_11 ?_
      refine j_il1 C eX0_addRun_14 ?_
      refine x_fig_ld C (i := y) eX0_addRun_15 rfl (by omega) ?_
      refine j_il2 C eX0_addRun_16 ?_
      refine j_ishr C eX0_addRun_17 ?_
      refine j_iconst C eX0_addRun_18 ?_
      refine j_iand C eX0_addRun_19 ?_
      refine j_val (bI_bit _ (show x < 32 by omega)) ?_
      refine j_ifneB C eX0_addRun_20 (fun c20 => ?_) (fun c20 => ?_)
      · exact j_vret E eX0_addRun_37 ⟨rfl, Or.inl ⟨rfl, fun j hj hl => by rw [show j = y from by omega]; exact Or.inl c20⟩⟩
      · refine j_al0 C eX0_addRun_23 ?_
        refine x_get_rows C eX0_addRun_24 ?_
        refine j_il1 C eX0_addRun_27 ?_
        refine x_rows_ld C (i := y) eX0_addRun_28 rfl (by omega) ?_
        refine j_il2 C eX0_addRun_29 ?_
        refine j_ishr C eX0_addRun_30 ?_
        refine j_iconst C eX0_addRun_31 ?_
        refine j_iand C eX0_addRun_32 ?_
        refine j_val (bI_bit _ (show x < 32 by omega)) ?_
        refine j_il3 C eX0_addRun_33 ?_
        refine j_ceqB C eX0_addRun_34 (fun c34 => ?_) (fun c34 => ?_)
        · refine j_il2 C eX0_addRun_38 ?_
          refine j_is4 C eX0_addRun_39 (by decide) ?_
          refine j_il2 C eX0_addRun_41 ?_
          refine j_is5 C eX0_addRun_42 (by decide) ?_
          refine add_first ad dc pen P F k rr rf rl y x x v hy hx C (fun a q1 q2 q3 => ?_) 24 x (by omega) (Nat.le_refl x) (fun i q1 q2 => by rw [show i = x from by omega]; exact c34)
          refine add_last ad dc pen P F k rr rf rl y x a v hy C (fun b q4 q5 q6 q7 => ?_) 24 x (by omega) (Nat.le_refl x) hx (fun i q1 q2 => by rw [show i = x from by omega]; exact c34)
          have hr : isRun P v y x a b := ⟨q1, q4, q5, fun i z1 z2 => (Nat.le_total i x).elim (fun z => q2 i z1 z) (fun z => q6 i z z2), q3, q7⟩
          exact add_put ad dc pen P F k rr rf rl y x a b v hy c20 hr (hk y a b rfl hy c20 hr) C E
        · exact j_vret E eX0_addRun_37 ⟨rfl, Or.inl ⟨rfl, fun j hj hl => by rw [show j = y from by omega]; exact Or.inr c34⟩⟩
end
section
theorem fl_k {P : Nat → Nat → Bool} {v : Bool} {y0 x0 : Nat} {F : Nat → Nat → Bool} {k : Nat} {rr rf rl : Nat → Int} {tot : Int} {cur : Nat → Nat → Prop} (h : flI P v y0 x0 F k rr rf rl tot cur) {y : Int} {x : Nat} (hT : ∀ j : Nat, (j : Int) = y → j < 24 → P j x = v → ∀ T, closedP P v T → T y0 x0 = true → T j x = true) : ∀ j a b : Nat, (j : Int) = y → j < 24 → F j x = false → isRun P v j x a b → k < 288 := by
  intro j a b h1 h2 h3 h4
  have h5 := (flI_push h h2 h4 h3 (hT j h1 h2 (h4.2.2.2.1 x h4.1 h4.2.1))).2
  have h6 := nst_le (runF F (j : Int) (a : Int) (b : Int))
  have h7 := h.2.2.2.2.2.1
  omega
theorem fl_add {ad : Nat → Nat} {dc : Nat → ClassId} {pen : Int} {P : Nat → Nat → Bool} {v : Bool} {y0 x0 : Nat} {F : Nat → Nat → Bool} {k : Nat} {rr rf rl : Nat → Int} {tot : Int} {cur : Nat → Nat → Prop} (h : flI P v y0 x0 F k rr rf rl tot cur) {y : Int} {x : Nat} (hT : ∀ j : Nat, (j : Int) = y → j < 24 → P j x = v → ∀ T, closedP P v T → T y0 x0 = true → T j x = true) {w : va_W} {r : Option Value} (hp : aPost ad dc pen P F k rr rf rl y x v w r) :
    r = none ∧ ∃ (F' : Nat → Nat → Bool) (k' : Nat) (rr' rf' rl' : Nat → Int), w = cW ad dc pen P F' (k' : Int) rr' rf' rl' ∧ flI P v y0 x0 F' k' rr' rf' rl' tot cur ∧ (∀ j i, F j i = true → F' j i = true) ∧ 2 * (288 - nst F') + k' ≤ 2 * (288 - nst F) + k ∧ (∀ j : Nat, (j : Int) = y → j < 24 → P j x = v → F' j x = true) := by
  obtain ⟨hr, hp⟩ := hp
  refine ⟨hr, ?_⟩
  rcases hp with ⟨rfl, hno⟩ | ⟨j, a, b, h1, h2, h3, h4, rfl⟩
  · exact ⟨F, k, rr, rf, rl, rfl, h, fun _ _ q => q, Nat.le_refl _, fun j q1 q2 q3 => (hno j q1 q2).resolve_right (fun z => z q3)⟩
  · have h5 := flI_push h h2 h4 h3 (hT j h1 h2 (h4.2.2.2.1 x h4.1 h4.2.1))
    have h6 := nst_le (runF F (j : Int) (a : Int) (b : Int))
    have e := runF_n F h2 h4.2.2.1 (a := a)
    refine ⟨_, k + 1, _, _, _, rfl, h5.1, fun j' i q => by rw [e, q]; rfl, by omega, fun j' q1 q2 q3 => ?_⟩
    obtain rfl : j' = j := by omega
    rw [e, decide_eq_true (show j' = j' ∧ a ≤ x ∧ x ≤ b from ⟨rfl, h4.1, h4.2.1⟩), Bool.or_true]
def xorP (P F : Nat → Nat → Bool) (n : Nat) : Nat → Nat → Bool := fun y i => if y < n then P y i ^^ F y i else P y i
theorem xorP_0 (P F : Nat → Nat → Bool) : xorP P F 0 = P := by funext y i; simp [xorP]
theorem xorP_j (P F : Nat → Nat → Bool) (j : Nat) : xorP P F j j = P j := by funext i; simp [xorP]
theorem xorP_s (P F : Nat → Nat → Bool) (j : Nat) : up (xorP P F j) j (fun i => P j i ^^ F j i) = xorP P F (j + 1) := by
  funext y i
  unfold up xorP
  by_cases h : y = j
  · subst h; simp
  · by_cases h2 : y < j
    · simp [h, h2, Nat.lt_succ_of_lt h2]
    · have h3 : ¬ y < j + 1 := by omega
      simp [h, h2, h3]
def fEnd (P : Nat → Nat → Bool) (v : Bool) (y0 x0 : Nat) (F : Nat → Nat → Bool) : Prop := closedP P v F ∧ F y0 x0 = true ∧ (∀ j i, j < 24 → F j i = true → i < 24 ∧ P j i = v) ∧ (∀ T, closedP P v T → T y0 x0 = true → ∀ j i, j < 24 → F j i = true → T j i = true)
def fPost (ad : Nat → Nat) (dc : Nat → ClassId) (pen : Int) (P : Nat → Nat → Bool) (v : Bool) (y0 x0 : Nat) : va_W → Option Value → Prop := fun w r => ∃ (F' : Nat → Nat → Bool) (rr rf rl : Nat → Int), fEnd P v y0 x0 F' ∧ w = cW ad dc pen (xorP P F' 24) F' ((0 : Nat) : Int) rr rf rl ∧ r = some (.int (iI (cntR F' 24 : Int)))
theorem flood_xor {X : jX} (ad : Nat → Nat) (dc : Nat → ClassId) (pen : Int) (P F : Nat → Nat → Bool) (rr rf rl : Nat → Int) (z : Int) (v : Bool) (y0 x0 : Nat) (hF : fEnd P v y0 x0 F) (v5 v6 v7 : Option Value) (C : jC X cX0_flood RX0 8 (cTy dc) 2 42) (E : jE X cX0_flood (some .int) (fPost ad dc pen P v y0 x0)) : ∀ (n j : Nat), 24 < j + n → j ≤ 24 → J X (cW ad dc pen (xorP P F j) F ((0 : Nat) : Int) rr rf rl) 144 [some (.ref (ad 0)), some (.int (iI z)), some (.int (iI (zI v))), some (.int (iI (cntR F 24 : Int))), some (.int (iI (j : Int))), v5, v6, v7] [] := by
  intro n
  induction n with
  | zero => intro j h1 h2; omega
  | succ n ih =>
    intro j h1 h2
    refine j_il4 C eX0_flood_144 ?_
    refine j_bipush C eX0_flood_146 (by decide) ?_
    refine j_cge C eX0_flood_148 (by omega) (by omega) (fun c148 => ?_) (fun c148 => ?_)
    · obtain rfl : j = 24 := by omega
      refine j_il3 C eX0_flood_174 ?_
      exact j_iret E eX0_flood_175 ⟨F, rr, rf, rl, hF, rfl, rfl⟩
    · refine j_al0 C eX0_flood_151 ?_
      refine x_get_rows C eX0_flood_152 ?_
      refine j_il4 C eX0_flood_155 ?_
      refine j_dup2 C eX0_flood_157 ?_
      refine x_rows_ld C (i := j) eX0_flood_158 rfl (by omega) ?_
      rw [xorP_j]
      refine j_al0 C eX0_flood_159 ?_
      refine x_get_fig C eX0_flood_160 ?_
      refine j_il4 C eX0_flood_163 ?_
      refine x_fig_ld C (i := j) eX0_flood_165 rfl (by omega) ?_
      refine j_ixor C eX0_flood_166 ?_
      refine j_val (bI_xor _ _) ?_
      refine x_rows_st C (i := j) eX0_flood_167 rfl (by omega) ?_
      rw [xorP_s]
      refine j_inc4 C eX0_flood_168 (by decide) ?_
      refine j_goto C eX0_flood_171 ?_
      exact ih (j + 1) (by omega) (by omega)
theorem flood_inner {X : jX} (ad : Nat → Nat) (dc : Nat → ClassId) (pen : Int) (P : Nat → Nat → Bool) (z tot : Int) (v : Bool) (y0 x0 y a b M : Nat) (hy : y < 24) (hb : b < 24) (C : jC X cX0_flood RX0 8 (cTy dc) 2 42) (K : ∀ (F : Nat → Nat → Bool) (k : Nat) (rr rf rl : Nat → Int) (v7 : Option Value), flI P v y0 x0 F k rr rf rl tot (fun _ _ => False) → 2 * (288 - nst F) + k ≤ M → F y0 x0 = true → J X (cW ad dc pen P F (k : Int) rr rf rl) 138 [some (.ref (ad 0)), some (.int (iI z)), some (.int (iI (zI v))), some (.int (iI tot)), some (.int (iI (y : Int))), some (.int (iI (a : Int))), some (.int (iI (b : Int))), v7] []) : ∀ (n x : Nat) (F : Nat → Nat → Bool) (k : Nat) (rr rf rl : Nat → Int), b + 2 ≤ x + n → x ≤ b + 1 → flI P v y0 x0 F k rr rf rl tot (fun j i => j = y ∧ x ≤ i ∧ i ≤ b) → (∀ i, x ≤ i → i ≤ b → F y i = true) → 2 * (288 - nst F) + k ≤ M → F y0 x0 = true → J X (cW ad dc pen P F (k : Int) rr rf rl) 103 [some (.ref (ad 0)), some (.int (iI z)), some (.int (iI (zI v))), some (.int (iI tot)), some (.int (iI (y : Int))), some (.int (iI (a : Int))), some (.int (iI (b : Int))), some (.int (iI (x : Int)))] [] := by
  intro n
  induction n with
  | zero => intro x F k rr rf rl h1 h2; omega
  | succ n ih =>
    intro x F k rr rf rl h1 h2 h3 h4 h5 h6
    refine j_il7 C eX0_flood_103 ?_
    refine j_il6 C eX0_flood_105 ?_
    refine j_cgt C eX0_flood_107 (by omega) (by omega) (fun c107 => ?_) (fun c107 => ?_)
    · exact K F k rr rf rl _ (flI_cur h3 (fun j i _ _ q => by omega)) h5 h6
    · have hyx : ∀ T, closedP P v T → T y0 x0 = true → T y x = true := fun T t1 t2 => h3.2.2.1 T t1 t2 y x hy (h4 x (by omega) (by omega))
      have hT : ∀ j : Nat, (j : Int) = (y : Int) - 1 → j < 24 → P j x = v → ∀ T, closedP P v T → T y0 x0 = true → T j x = true := fun j q1 q2 q3 T t1 t2 => t1 y x j x hy (by omega) q2 (by omega) (Or.inr ⟨rfl, Or.inr (by omega)⟩) (hyx T t1 t2) q3
      have hT1 : ∀ j : Nat, (j : Int) = (y : Int) + 1 → j < 24 → P j x = v → ∀ T, closedP P v T → T y0 x0 = true → T j x = true := fun j q1 q2 q3 T t1 t2 => t1 y x j x hy (by omega) q2 (by omega) (Or.inr ⟨rfl, Or.inl (by omega)⟩) (hyx T t1 t2) q3
      refine j_al0 C eX0_flood_110 ?_
      refine j_il4 C eX0_flood_111 ?_
      refine j_iconst C eX0_flood_113 ?_
      refine j_isub C eX0_flood_114 ?_
      refine j_il7 C eX0_flood_115 ?_
      refine j_il2 C eX0_flood_117 ?_
      refine x_callG C kX0_69 (cx_addRun ad dc pen P F k rr rf rl _ (by omega) x (by omega) v (fl_k h3 hT)) (by decide) rfl rfl (Nat.le_of_ble_eq_true rfl) eX0_flood_118 (fun w r hp => ?_)
      obtain ⟨rfl, F1, k1, rr1, rf1, rl1, rfl, g1, g2, g3, g4⟩ := fl_add h3 hT hp
      refine j_al0 C eX0_flood_121 ?_
      refine j_il4 C eX0_flood_122 ?_
      refine j_iconst C eX0_flood_124 ?_
      refine j_iadd C eX0_flood_125 ?_
      refine j_il7 C eX0_flood_126 ?_
      refine j_il2 C eX0_flood_128 ?_
      refine x_callG C kX0_69 (cx_addRun ad dc pen P F1 k1 rr1 rf1 rl1 _ (by omega) x (by omega) v (fl_k g1 hT1)) (by decide) rfl rfl (Nat.le_of_ble_eq_true rfl) eX0_flood_129 (fun w r hp => ?_)
      obtain ⟨rfl, F2, k2, rr2, rf2, rl2, rfl, e1, e2, e3, e4⟩ := fl_add g1 hT1 hp
      have hg : good P v F2 y x := fun j q1 q2 q3 => by
        rcases q2 with q2 | q2
        · exact e4 j (by omega) q1 q3
        · exact e2 _ _ (g4 j (by omega) q1 q3)
      have hc : flI P v y0 x0 F2 k2 rr2 rf2 rl2 tot (fun j i => j = y ∧ x + 1 ≤ i ∧ i ≤ b) := flI_cur e1 (fun j i _ _ q => by
        by_cases q2 : i = x
        · rw [q.1, q2]
          exact Or.inl hg
        · exact Or.inr (by omega))
      refine j_inc7 C eX0_flood_132 (by decide) ?_
      refine j_goto C eX0_flood_135 ?_
      exact ih (x + 1) F2 k2 rr2 rf2 rl2 (by omega) (by omega) hc (fun i q1 q2 => e2 _ _ (g2 _ _ (h4 i (by omega) q2))) (by omega) (e2 _ _ (g2 _ _ h6))
theorem flood_loop {X : jX} (ad : Nat → Nat) (dc : Nat → ClassId) (pen : Int) (P : Nat → Nat → Bool) (z : Int) (v : Bool) (y0 x0 : Nat) (C : jC X cX0_flood RX0 8 (cTy dc) 2 42) (E : jE X cX0_flood (some .int) (fPost ad dc pen P v y0 x0)) : ∀ (n : Nat) (F : Nat → Nat → Bool) (k : Nat) (rr rf rl : Nat → Int) (tot : Int) (v4 v5 v6 v7 : Option Value), 2 * (288 - nst F) + k < n → flI P v y0 x0 F k rr rf rl tot (fun _ _ => False) → F y0 x0 = true → J X (cW ad dc pen P F (k : Int) rr rf rl) 39 [some (.ref (ad 0)), some (.int (iI z)), some (.int (iI (zI v))), some (.int (iI tot)), v4, v5, v6, v7] [] := by
  intro n
  induction n with
  | zero => intro F k rr rf rl tot v4 v5 v6 v7 h1; omega
  | succ n ih =>
    intro F k rr rf rl tot v4 v5 v6 v7 h1 h2 h3
    have h1b := nst_le F
    have h1c := h2.2.2.2.2.2.1
    refine j_al0 C eX0_flood_39 ?_
    refine x_get_wt C eX0_flood_40 ?_
    refine j_ifle C eX0_flood_43 (by omega) (fun c43 => ?_) (fun c43 => ?_)
    · obtain rfl : k = 0 := by omega
      have h4 := flI_end h2
      rw [h4.2]
      refine j_iconst C eX0_flood_141 ?_
      refine j_is4 C eX0_flood_142 (by decide) ?_
      have kk := flood_xor ad dc pen P F rr rf rl z v y0 x0 ⟨h4.1, h3, h2.1, h2.2.2.1⟩ v5 v6 v7 C E 25 0 (by omega) (by omega)
      rw [xorP_0] at kk
      exact kk
    · obtain ⟨k, rfl⟩ : ∃ d, k = d + 1 := ⟨k - 1, by omega⟩
      obtain ⟨y, a, b, w1, w2, w3, w4, w5, w6, w7⟩ := h2.2.2.2.2.1 k (by omega)
      have hk := h2.2.2.2.2.2.1
      have hn := nst_le F
      refine j_al0 C eX0_flood_46 ?_
      refine j_dupr C eX0_flood_47 ?_
      refine x_get_wt C eX0_flood_48 ?_
      refine j_iconst C eX0_flood_51 ?_
      refine j_isub C eX0_flood_52 ?_
      rw [show ((k + 1 : Nat) : Int) - 1 = (k : Int) by omega]
      refine x_put_wt C eX0_flood_53 ?_
      refine j_al0 C eX0_flood_56 ?_
      refine x_get_rr C eX0_flood_57 ?_
      refine j_al0 C eX0_flood_60 ?_
      refine x_get_wt C eX0_flood_61 ?_
      refine x_rr_ld C (i := k) eX0_flood_64 rfl (by omega) ?_
      rw [w1]
      refine j_is4 C eX0_flood_65 (by decide) ?_
      refine j_al0 C eX0_flood_67 ?_
      refine x_get_rf C eX0_flood_68 ?_
      refine j_al0 C eX0_flood_71 ?_
      refine x_get_wt C eX0_flood_72 ?_
      refine x_rf_ld C (i := k) eX0_flood_75 rfl (by omega) ?_
      rw [w2]
      refine j_is5 C eX0_flood_76 (by decide) ?_
      refine j_al0 C eX0_flood_78 ?_
      refine x_get_rl C eX0_flood_79 ?_
      refine j_al0 C eX0_flood_82 ?_
      refine x_get_wt C eX0_flood_83 ?_
      refine x_rl_ld C (i := k) eX0_flood_86 rfl (by omega) ?_
      rw [w3]
      refine j_is6 C eX0_flood_87 (by decide) ?_
      refine j_il3 C eX0_flood_89 ?_
      refine j_il6 C eX0_flood_90 ?_
      refine j_il5 C eX0_flood_92 ?_
      refine j_isub C eX0_flood_94 ?_
      refine j_iconst C eX0_flood_95 ?_
      refine j_iadd C eX0_flood_96 ?_
      refine j_iadd C eX0_flood_97 ?_
      refine j_is3 C eX0_flood_98 (by decide) ?_
      refine j_il5 C eX0_flood_99 ?_
      refine j_is7 C eX0_flood_101 (by decide) ?_
      have h4 := flI_pop h2
      rw [w1, w2, w3] at h4
      have h5 : flI P v y0 x0 F k rr rf rl (tot + ((b : Int) - (a : Int) + 1)) (fun j i => j = y ∧ a ≤ i ∧ i ≤ b) := flI_cur h4 (fun j i _ _ q => Or.inr (by omega))
      refine flood_inner ad dc pen P z _ v y0 x0 y a b (2 * (288 - nst F) + k) w4 w6 C (fun F k rr rf rl v7 q1 q2 q3 => ?_) 100 a F k rr rf rl (by omega) (by omega) h5 w7 (Nat.le_refl _) h3
      refine j_goto C eX0_flood_138 ?_
      exact ih F k rr rf rl _ _ _ _ _ (by omega) q1 q3
theorem cx_flood (ad : Nat → Nat) (dc : Nat → ClassId) (pen : Int) (P F : Nat → Nat → Bool) (wt : Int) (rr rf rl : Nat → Int) (z : Int) (h1 : -2147483648 ≤ z) (h2 : z < 2147483648) : gX0_flood dc [.ref (ad 0), .int (iI z)] (cW ad dc pen P F wt rr rf rl) (fun w r => (isPx z = true → fPost ad dc pen P (P (z / 32).toNat (z % 32).toNat) (z / 32).toNat (z % 32).toNat w r) ∧ (isPx z = false → w = cW ad dc pen P F wt rr rf rl ∧ r = some (.int (iI (-1))))) := by
  refine mG_of (own := RX0) (lv := [some (.ref (ad 0)), some (.int (iI z)), none, none, none, none, none, none]) (by decide) rfl (jIn_b [.ref (ad 0), .int (iI z)] 6 rfl) ?_
  intro X C E
  refine j_al0 C eX0_flood_0 ?_
  refine j_il1 C eX0_flood_1 ?_
  refine x_callI C kX0_30 (cx_isPixel _ _ _ _ _ _ _ _ _ _ h1 h2) (by decide) rfl rfl (Nat.le_of_ble_eq_true rfl) eX0_flood_2 ?_
  refine j_ifneB C eX0_flood_5 (fun c5 => ?_) (fun c5 => ?_)
  · have hz : 0 ≤ z ∧ z % 32 < 24 ∧ z / 32 < 24 := of_decide_eq_true c5
    obtain ⟨x0, hx0⟩ := Int.eq_ofNat_of_zero_le (show 0 ≤ z % 32 by omega)
    obtain ⟨y0, hy0⟩ := Int.eq_ofNat_of_zero_le (show 0 ≤ z / 32 by omega)
    have E : jE X cX0_flood (some .int) (fPost ad dc pen P (P y0 x0) y0 x0) := fun w v pc q lv hp hn d => E w v pc q lv ⟨fun _ => by rw [hx0, hy0]; exact hp, fun z => absurd (c5.symm.trans z) (by decide)⟩ hn d
    refine j_al0 C eX0_flood_10 ?_
    refine j_il1 C eX0_flood_11 ?_
    refine x_callI C kX0_62 (cx_get _ _ _ _ _ _ _ _ _ _ h1 h2) (by decide) rfl rfl (Nat.le_of_ble_eq_true rfl) eX0_flood_12 ?_
    rw [show getV P z = zI (P y0 x0) from by unfold getV; rw [if_pos c5, hx0, hy0]; rfl]
    refine j_is2 C eX0_flood_15 (by decide) ?_
    refine j_iconst C eX0_flood_16 ?_
    refine j_is3 C eX0_flood_17 (by decide) ?_
    refine j_al0 C eX0_flood_18 ?_
    refine j_iconst C eX0_flood_19 ?_
    refine x_put_wt C eX0_flood_20 ?_
    refine j_al0 C eX0_flood_23 ?_
    refine x_callV C kX0_34 (cx_clear _ _ _ _ _ _ _ _ _) (by decide) rfl rfl (Nat.le_of_ble_eq_true rfl) eX0_flood_24 ?_
    refine j_al0 C eX0_flood_27 ?_
    refine j_il1 C eX0_flood_28 ?_
    refine j_iconst C eX0_flood_29 ?_
    refine j_ishr C eX0_flood_30 ?_
    refine j_val (iI_shr5 h1 h2) ?_
    rw [hy0]
    refine j_il1 C eX0_flood_31 ?_
    refine j_bipush C eX0_flood_32 (by decide) ?_
    refine j_iand C eX0_flood_34 ?_
    refine j_val (iI_and31 _) ?_
    rw [hx0]
    refine j_il2 C eX0_flood_35 ?_
    have g0 := flI_0 P (P y0 x0) y0 x0 F rr rf rl
    have hT : ∀ j : Nat, (j : Int) = (y0 : Int) → j < 24 → P j x0 = P y0 x0 → ∀ T, closedP P (P y0 x0) T → T y0 x0 = true → T j x0 = true := fun j q1 q2 q3 T t1 t2 => by rw [show j = y0 from by omega]; exact t2
    refine x_callG C kX0_69 (cx_addRun ad dc pen P (clr F 24) 0 rr rf rl _ (by omega) x0 (by omega) (P y0 x0) (fl_k g0 hT)) (by decide) rfl rfl (Nat.le_of_ble_eq_true rfl) eX0_flood_36 (fun w r hp => ?_)
    obtain ⟨rfl, F1, k1, rr1, rf1, rl1, rfl, g1, g2, g3, g4⟩ := fl_add g0 hT hp
    exact flood_loop ad dc pen P z (P y0 x0) y0 x0 C E 1000 F1 k1 rr1 rf1 rl1 0 none none none none (by omega) g1 (g4 y0 rfl (by omega) rfl)
  · refine j_iconst C eX0_flood_8 ?_
    exact j_iret E eX0_flood_9 ⟨fun z => absurd (c5.symm.trans z) (by decide), fun _ => ⟨rfl, rfl⟩⟩
end
section
theorem cm_isPixel (ad : Nat → Nat) (dc : Nat → ClassId) (S G : Nat → Bool) (pen : Int) (z : Int) (h1 : -2147483648 ≤ z) (h2 : z < 2147483648) : gX1_isPixel dc [.ref (ad 0), .int (iI z)] (mW ad dc S G pen) (pI (mW ad dc S G pen) (iI (zI (isPx z)))) := by
  refine mG_of (own := RX1) (lv := [some (.ref (ad 0)), some (.int (iI z))]) (by decide) rfl (jIn_b [.ref (ad 0), .int (iI z)] 0 rfl) ?_
  intro X C E
  refine j_il1 C eX1_isPixel_0 ?_
  refine j_iflt C eX1_isPixel_1 (by omega) (fun c1 => ?_) (fun c1 => ?_)
  · refine j_iconst C eX1_isPixel_26 ?_
    exact j_zretv E eX1_isPixel_27 (by first | exact zI_of_t (decide_eq_true (by omega)) | exact zI_of_f (decide_eq_false (by omega))) ⟨rfl, rfl⟩
  · refine j_il1 C eX1_isPixel_4 ?_
    refine j_bipush C eX1_isPixel_5 (by decide) ?_
    refine j_irem C eX1_isPixel_7 (by omega) (by omega) (by omega) (by omega) ?_
    refine j_bipush C eX1_isPixel_8 (by decide) ?_
    refine j_cgt C eX1_isPixel_10 (by omega) (by omega) (fun c10 => ?_) (fun c10 => ?_)
    · refine j_iconst C eX1_isPixel_26 ?_
      exact j_zretv E eX1_isPixel_27 (by first | exact zI_of_t (decide_eq_true (by omega)) | exact zI_of_f (decide_eq_false (by omega))) ⟨rfl, rfl⟩
    · refine j_il1 C eX1_isPixel_13 ?_
      refine j_bipush C eX1_isPixel_14 (by decide) ?_
      refine j_idiv C eX1_isPixel_16 (by omega) (by omega) (by omega) (by omega) ?_
      refine j_bipush C eX1_isPixel_17 (by decide) ?_
      refine j_cgt C eX1_isPixel_19 (by omega) (by omega) (fun c19 => ?_) (fun c19 => ?_)
      · refine j_iconst C eX1_isPixel_26 ?_
        exact j_zretv E eX1_isPixel_27 (by first | exact zI_of_t (decide_eq_true (by omega)) | exact zI_of_f (decide_eq_false (by omega))) ⟨rfl, rfl⟩
      · refine j_iconst C eX1_isPixel_22 ?_
        refine j_goto C eX1_isPixel_23 ?_
        exact j_zretv E eX1_isPixel_27 (by first | exact zI_of_t (decide_eq_true (by omega)) | exact zI_of_f (decide_eq_false (by omega))) ⟨rfl, rfl⟩
theorem cm_size (ad : Nat → Nat) (dc : Nat → ClassId) (S G : Nat → Bool) (pen : Int) (v : Int) (hv : -100000 ≤ v ∧ v ≤ 100000) : gX1_size dc [.ref (ad 0), .int (iI v)] (mW ad dc S G pen) (pI (mW ad dc S G pen) (iI (v.natAbs : Int))) := by
  refine mG_of (own := RX1) (lv := [some (.ref (ad 0)), some (.int (iI v))]) (by decide) rfl (jIn_b [.ref (ad 0), .int (iI v)] 0 rfl) ?_
  intro X C E
  refine j_il1 C eX1_size_0 ?_
  refine j_ifge C eX1_size_1 (by omega) (fun c1 => ?_) (fun c1 => ?_)
  · refine j_il1 C eX1_size_9 ?_
    exact j_iretv E eX1_size_10 (by congr 1; omega) ⟨rfl, rfl⟩
  · refine j_il1 C eX1_size_4 ?_
    refine j_ineg C eX1_size_5 ?_
    refine j_goto C eX1_size_6 ?_
    exact j_iretv E eX1_size_10 (by congr 1; omega) ⟨rfl, rfl⟩
theorem cm_pen (ad : Nat → Nat) (dc : Nat → ClassId) (S G : Nat → Bool) (pen : Int) (z : Int) (h1 : -2147483648 ≤ z) (h2 : z < 2147483648) : gX1_pen dc [.ref (ad 0), .int (iI z)] (mW ad dc S G pen) (pI (mW ad dc S G (if 0 ≤ z ∧ z ≤ 2 then z else pen)) (iI (zI (decide (0 ≤ z ∧ z ≤ 2))))) := by
  refine mG_of (own := RX1) (lv := [some (.ref (ad 0)), some (.int (iI z))]) (by decide) rfl (jIn_b [.ref (ad 0), .int (iI z)] 0 rfl) ?_
  intro X C E
  refine j_il1 C eX1_pen_0 ?_
  refine j_iflt C eX1_pen_1 (by omega) (fun c1 => ?_) (fun c1 => ?_)
  · refine j_iconst C eX1_pen_9 ?_
    exact j_zretv E eX1_pen_10 (zI_of_f (b := decide (0 ≤ z ∧ z ≤ 2)) (decide_eq_false (by omega))) ⟨by rw [if_neg (by omega)], rfl⟩
  · refine j_il1 C eX1_pen_4 ?_
    refine j_iconst C eX1_pen_5 ?_
    refine j_cle C eX1_pen_6 (by omega) (by omega) (fun c6 => ?_) (fun c6 => ?_)
    · refine j_al0 C eX1_pen_11 ?_
      refine j_il1 C eX1_pen_12 ?_
      refine m_put_pen C eX1_pen_13 ?_
      refine j_iconst C eX1_pen_16 ?_
      exact j_zretv E eX1_pen_17 (zI_of_t (b := decide (0 ≤ z ∧ z ≤ 2)) (decide_eq_true (by omega))) ⟨by rw [if_pos (by omega)], rfl⟩
    · refine j_iconst C eX1_pen_9 ?_
      exact j_zretv E eX1_pen_10 (zI_of_f (b := decide (0 ≤ z ∧ z ≤ 2)) (decide_eq_false (by omega))) ⟨by rw [if_neg (by omega)], rfl⟩
def nearB (x y a b c d : Int) : Bool := decide (a ≤ x ∧ x ≤ c ∧ -(c - a) ≤ 2 * ((c - a) * (y - b) - (d - b) * (x - a)) ∧ 2 * ((c - a) * (y - b) - (d - b) * (x - a)) < c - a)
theorem cm_nearest (ad : Nat → Nat) (dc : Nat → ClassId) (S G : Nat → Bool) (pen : Int) (x y a b c d : Int) (hx : 0 ≤ x ∧ x < 24) (hy : 0 ≤ y ∧ y < 24) (ha : 0 ≤ a ∧ a < 24) (hb : 0 ≤ b ∧ b < 24) (hc : 0 ≤ c ∧ c < 24) (hd : 0 ≤ d ∧ d < 24) : gX1_nearest dc [.ref (ad 0), .int (iI x), .int (iI y), .int (iI a), .int (iI b), .int (iI c), .int (iI d)] (mW ad dc S G pen) (pI (mW ad dc S G pen) (iI (zI (nearB x y a b c d)))) := by
  refine mG_of (own := RX1) (lv := [some (.ref (ad 0)), some (.int (iI x)), some (.int (iI y)), some (.int (iI a)), some (.int (iI b)), some (.int (iI c)), some (.int (iI d)), none, none]) (by decide) rfl (jIn_b [.ref (ad 0), .int (iI x), .int (iI y), .int (iI a), .int (iI b), .int (iI c), .int (iI d)] 2 rfl) ?_
  intro X C E
  refine j_il5 C eX1_nearest_0 ?_
  refine j_il3 C eX1_nearest_2 ?_
  refine j_isub C eX1_nearest_3 ?_
  refine j_is7 C eX1_nearest_4 (by decide) ?_
  refine j_iconst C eX1_nearest_6 ?_
  refine j_il7 C eX1_nearest_7 ?_
  refine j_il2 C eX1_nearest_9 ?_
  refine j_il4 C eX1_nearest_10 ?_
  refine j_isub C eX1_nearest_12 ?_
  refine j_imul C eX1_nearest_13 ?_
  refine j_il6 C eX1_nearest_14 ?_
  refine j_il4 C eX1_nearest_16 ?_
  refine j_isub C eX1_nearest_18 ?_
  refine j_il1 C eX1_nearest_19 ?_
  refine j_il3 C eX1_nearest_20 ?_
  refine j_isub C eX1_nearest_21 ?_
  refine j_imul C eX1_nearest_22 ?_
  refine j_isub C eX1_nearest_23 ?_
  refine j_imul C eX1_nearest_24 ?_
  refine j_is8 C eX1_nearest_25 (by decide) ?_
  have r1 := ab_le (a := c - a) (b := y - b) (by omega) (by omega) (by omega) (by omega)
  have r2 := ab_le (a := d - b) (b := x - a) (by omega) (by omega) (by omega) (by omega)
  refine j_il1 C eX1_nearest_27 ?_
  refine j_il3 C eX1_nearest_28 ?_
  refine j_clt C eX1_nearest_29 (by omega) (by omega) (fun c29 => ?_) (fun c29 => ?_)
  · refine j_iconst C eX1_nearest_57 ?_
    exact j_zretv E eX1_nearest_58 (by first | exact zI_of_t (decide_eq_true (by omega)) | exact zI_of_f (decide_eq_false (by omega))) ⟨rfl, rfl⟩
  · refine j_il1 C eX1_nearest_32 ?_
    refine j_il5 C eX1_nearest_33 ?_
    refine j_cgt C eX1_nearest_35 (by omega) (by omega) (fun c35 => ?_) (fun c35 => ?_)
    · refine j_iconst C eX1_nearest_57 ?_
      exact j_zretv E eX1_nearest_58 (by first | exact zI_of_t (decide_eq_true (by omega)) | exact zI_of_f (decide_eq_false (by omega))) ⟨rfl, rfl⟩
    · refine j_il8 C eX1_nearest_38 ?_
      refine j_il7 C eX1_nearest_40 ?_
      refine j_ineg C eX1_nearest_42 ?_
      refine j_clt C eX1_nearest_43 (by omega) (by omega) (fun c43 => ?_) (fun c43 => ?_)
      · refine j_iconst C eX1_nearest_57 ?_
        exact j_zretv E eX1_nearest_58 (by first | exact zI_of_t (decide_eq_true (by omega)) | exact zI_of_f (decide_eq_false (by omega))) ⟨rfl, rfl⟩
      · refine j_il8 C eX1_nearest_46 ?_
        refine j_il7 C eX1_nearest_48 ?_
        refine j_cge C eX1_nearest_50 (by omega) (by omega) (fun c50 => ?_) (fun c50 => ?_)
        · refine j_iconst C eX1_nearest_57 ?_
          exact j_zretv E eX1_nearest_58 (by first | exact zI_of_t (decide_eq_true (by omega)) | exact zI_of_f (decide_eq_false (by omega))) ⟨rfl, rfl⟩
        · refine j_iconst C eX1_nearest_53 ?_
          refine j_goto C eX1_nearest_54 ?_
          exact j_zretv E eX1_nearest_58 (by first | exact zI_of_t (decide_eq_true (by omega)) | exact zI_of_f (decide_eq_false (by omega))) ⟨rfl, rfl⟩
def onLineB (x y a b c d : Int) : Bool := if a = c ∧ b = d then decide (x = a ∧ y = b) else if (b - d).natAbs ≤ (a - c).natAbs then (if a < c then nearB x y a b c d else nearB x y c d a b) else (if b < d then nearB y x b a d c else nearB y x d c b a)
theorem cm_onLine (ad : Nat → Nat) (dc : Nat → ClassId) (S G : Nat → Bool) (pen : Int) (x y a b c d : Int) (hx : 0 ≤ x ∧ x < 24) (hy : 0 ≤ y ∧ y < 24) (ha : 0 ≤ a ∧ a < 24) (hb : 0 ≤ b ∧ b < 24) (hc : 0 ≤ c ∧ c < 24) (hd : 0 ≤ d ∧ d < 24) : gX1_onLine dc [.ref (ad 0), .int (iI x), .int (iI y), .int (iI a), .int (iI b), .int (iI c), .int (iI d)] (mW ad dc S G pen) (pI (mW ad dc S G pen) (iI (zI (onLineB x y a b c d)))) := by
  refine mG_of (own := RX1) (lv := [some (.ref (ad 0)), some (.int (iI x)), some (.int (iI y)), some (.int (iI a)), some (.int (iI b)), some (.int (iI c)), some (.int (iI d))]) (by decide) rfl (jIn_b [.ref (ad 0), .int (iI x), .int (iI y), .int (iI a), .int (iI b), .int (iI c), .int (iI d)] 0 rfl) ?_
  intro X C E
  refine j_il3 C eX1_onLine_0 ?_
  refine j_il5 C eX1_onLine_1 ?_
  refine j_cne C eX1_onLine_3 (by omega) (by omega) (fun c3 => ?_) (fun c3 => ?_)
  · refine j_al0 C eX1_onLine_30 ?_
    refine j_il3 C eX1_onLine_31 ?_
    refine j_il5 C eX1_onLine_32 ?_
    refine j_isub C eX1_onLine_34 ?_
    refine m_callI C kX1_20 (cm_size _ _ _ _ _ _ (by omega)) (by decide) rfl rfl (Nat.le_of_ble_eq_true rfl) eX1_onLine_35 ?_
    refine j_al0 C eX1_onLine_38 ?_
    refine j_il4 C eX1_onLine_39 ?_
    refine j_il6 C eX1_onLine_41 ?_
    refine j_isub C eX1_onLine_43 ?_
    refine m_callI C kX1_20 (cm_size _ _ _ _ _ _ (by omega)) (by decide) rfl rfl (Nat.le_of_ble_eq_true rfl) eX1_onLine_44 ?_
    refine j_clt C eX1_onLine_47 (by omega) (by omega) (fun c47 => ?_) (fun c47 => ?_)
    · refine j_il4 C eX1_onLine_86 ?_
      refine j_il6 C eX1_onLine_88 ?_
      refine j_cge C eX1_onLine_90 (by omega) (by omega) (fun c90 => ?_) (fun c90 => ?_)
      · refine j_al0 C eX1_onLine_109 ?_
        refine j_il2 C eX1_onLine_110 ?_
        refine j_il1 C eX1_onLine_111 ?_
        refine j_il6 C eX1_onLine_112 ?_
        refine j_il5 C eX1_onLine_114 ?_
        refine j_il4 C eX1_onLine_116 ?_
        refine j_il3 C eX1_onLine_118 ?_
        refine m_callI C kX1_24 (cm_nearest _ _ _ _ _ _ _ _ _ _ _ (by omega) (by omega) (by omega) (by omega) (by omega) (by omega)) (by decide) rfl rfl (Nat.le_of_ble_eq_true rfl) eX1_onLine_119 ?_
        exact j_zretv E eX1_onLine_122 (by unfold onLineB; rw [if_neg (by omega), if_neg (by omega)]; first | (exfalso; omega) | rw [if_pos (by omega)] | rw [if_neg (by omega)]) ⟨rfl, rfl⟩
      · refine j_al0 C eX1_onLine_93 ?_
        refine j_il2 C eX1_onLine_94 ?_
        refine j_il1 C eX1_onLine_95 ?_
        refine j_il4 C eX1_onLine_96 ?_
        refine j_il3 C eX1_onLine_98 ?_
        refine j_il6 C eX1_onLine_99 ?_
        refine j_il5 C eX1_onLine_101 ?_
        refine m_callI C kX1_24 (cm_nearest _ _ _ _ _ _ _ _ _ _ _ (by omega) (by omega) (by omega) (by omega) (by omega) (by omega)) (by decide) rfl rfl (Nat.le_of_ble_eq_true rfl) eX1_onLine_103 ?_
        refine j_goto C eX1_onLine_106 ?_
        exact j_zretv E eX1_onLine_122 (by unfold onLineB; rw [if_neg (by omega), if_neg (by omega)]; first | (exfalso; omega) | rw [if_pos (by omega)] | rw [if_neg (by omega)]) ⟨rfl, rfl⟩
    · refine j_il3 C eX1_onLine_50 ?_
      refine j_il5 C eX1_onLine_51 ?_
      refine j_cge C eX1_onLine_53 (by omega) (by omega) (fun c53 => ?_) (fun c53 => ?_)
      · refine j_al0 C eX1_onLine_72 ?_
        refine j_il1 C eX1_onLine_73 ?_
        refine j_il2 C eX1_onLine_74 ?_
        refine j_il5 C eX1_onLine_75 ?_
        refine j_il6 C eX1_onLine_77 ?_
        refine j_il3 C eX1_onLine_79 ?_
        refine j_il4 C eX1_onLine_80 ?_
        refine m_callI C kX1_24 (cm_nearest _ _ _ _ _ _ _ _ _ _ _ (by omega) (by omega) (by omega) (by omega) (by omega) (by omega)) (by decide) rfl rfl (Nat.le_of_ble_eq_true rfl) eX1_onLine_82 ?_
        exact j_zretv E eX1_onLine_85 (by unfold onLineB; rw [if_neg (by omega), if_pos (by omega)]; first | (exfalso; omega) | rw [if_pos (by omega)] | rw [if_neg (by omega)]) ⟨rfl, rfl⟩
      · refine j_al0 C eX1_onLine_56 ?_
        refine j_il1 C eX1_onLine_57 ?_
        refine j_il2 C eX1_onLine_58 ?_
        refine j_il3 C eX1_onLine_59 ?_
        refine j_il4 C eX1_onLine_60 ?_
        refine j_il5 C eX1_onLine_62 ?_
        refine j_il6 C eX1_onLine_64 ?_
        refine m_callI C kX1_24 (cm_nearest _ _ _ _ _ _ _ _ _ _ _ (by omega) (by omega) (by omega) (by omega) (by omega) (by omega)) (by decide) rfl rfl (Nat.le_of_ble_eq_true rfl) eX1_onLine_66 ?_
        refine j_goto C eX1_onLine_69 ?_
        exact j_zretv E eX1_onLine_85 (by unfold onLineB; rw [if_neg (by omega), if_pos (by omega)]; first | (exfalso; omega) | rw [if_pos (by omega)] | rw [if_neg (by omega)]) ⟨rfl, rfl⟩
  · refine j_il4 C eX1_onLine_6 ?_
    refine j_il6 C eX1_onLine_8 ?_
    refine j_cne C eX1_onLine_10 (by omega) (by omega) (fun c10 => ?_) (fun c10 => ?_)
    · refine j_al0 C eX1_onLine_30 ?_
      refine j_il3 C eX1_onLine_31 ?_
      refine j_il5 C eX1_onLine_32 ?_
      refine j_isub C eX1_onLine_34 ?_
      refine m_callI C kX1_20 (cm_size _ _ _ _ _ _ (by omega)) (by decide) rfl rfl (Nat.le_of_ble_eq_true rfl) eX1_onLine_35 ?_
      refine j_al0 C eX1_onLine_38 ?_
      refine j_il4 C eX1_onLine_39 ?_
      refine j_il6 C eX1_onLine_41 ?_
      refine j_isub C eX1_onLine_43 ?_
      refine m_callI C kX1_20 (cm_size _ _ _ _ _ _ (by omega)) (by decide) rfl rfl (Nat.le_of_ble_eq_true rfl) eX1_onLine_44 ?_
      refine j_clt C eX1_onLine_47 (by omega) (by omega) (fun c47 => ?_) (fun c47 => ?_)
      · refine j_il4 C eX1_onLine_86 ?_
        refine j_il6 C eX1_onLine_88 ?_
        refine j_cge C eX1_onLine_90 (by omega) (by omega) (fun c90 => ?_) (fun c90 => ?_)
        · refine j_al0 C eX1_onLine_109 ?_
          refine j_il2 C eX1_onLine_110 ?_
          refine j_il1 C eX1_onLine_111 ?_
          refine j_il6 C eX1_onLine_112 ?_
          refine j_il5 C eX1_onLine_114 ?_
          refine j_il4 C eX1_onLine_116 ?_
          refine j_il3 C eX1_onLine_118 ?_
          refine m_callI C kX1_24 (cm_nearest _ _ _ _ _ _ _ _ _ _ _ (by omega) (by omega) (by omega) (by omega) (by omega) (by omega)) (by decide) rfl rfl (Nat.le_of_ble_eq_true rfl) eX1_onLine_119 ?_
          exact j_zretv E eX1_onLine_122 (by unfold onLineB; rw [if_neg (by omega), if_neg (by omega)]; first | (exfalso; omega) | rw [if_pos (by omega)] | rw [if_neg (by omega)]) ⟨rfl, rfl⟩
        · refine j_al0 C eX1_onLine_93 ?_
          refine j_il2 C eX1_onLine_94 ?_
          refine j_il1 C eX1_onLine_95 ?_
          refine j_il4 C eX1_onLine_96 ?_
          refine j_il3 C eX1_onLine_98 ?_
          refine j_il6 C eX1_onLine_99 ?_
          refine j_il5 C eX1_onLine_101 ?_
          refine m_callI C kX1_24 (cm_nearest _ _ _ _ _ _ _ _ _ _ _ (by omega) (by omega) (by omega) (by omega) (by omega) (by omega)) (by decide) rfl rfl (Nat.le_of_ble_eq_true rfl) eX1_onLine_103 ?_
          refine j_goto C eX1_onLine_106 ?_
          exact j_zretv E eX1_onLine_122 (by unfold onLineB; rw [if_neg (by omega), if_neg (by omega)]; first | (exfalso; omega) | rw [if_pos (by omega)] | rw [if_neg (by omega)]) ⟨rfl, rfl⟩
      · refine j_il3 C eX1_onLine_50 ?_
        refine j_il5 C eX1_onLine_51 ?_
        refine j_cge C eX1_onLine_53 (by omega) (by omega) (fun c53 => ?_) (fun c53 => ?_)
        · refine j_al0 C eX1_onLine_72 ?_
          refine j_il1 C eX1_onLine_73 ?_
          refine j_il2 C eX1_onLine_74 ?_
          refine j_il5 C eX1_onLine_75 ?_
          refine j_il6 C eX1_onLine_77 ?_
          refine j_il3 C eX1_onLine_79 ?_
          refine j_il4 C eX1_onLine_80 ?_
          refine m_callI C kX1_24 (cm_nearest _ _ _ _ _ _ _ _ _ _ _ (by omega) (by omega) (by omega) (by omega) (by omega) (by omega)) (by decide) rfl rfl (Nat.le_of_ble_eq_true rfl) eX1_onLine_82 ?_
          exact j_zretv E eX1_onLine_85 (by unfold onLineB; rw [if_neg (by omega), if_pos (by omega)]; first | (exfalso; omega) | rw [if_pos (by omega)] | rw [if_neg (by omega)]) ⟨rfl, rfl⟩
        · refine j_al0 C eX1_onLine_56 ?_
          refine j_il1 C eX1_onLine_57 ?_
          refine j_il2 C eX1_onLine_58 ?_
          refine j_il3 C eX1_onLine_59 ?_
          refine j_il4 C eX1_onLine_60 ?_
          refine j_il5 C eX1_onLine_62 ?_
          refine j_il6 C eX1_onLine_64 ?_
          refine m_callI C kX1_24 (cm_nearest _ _ _ _ _ _ _ _ _ _ _ (by omega) (by omega) (by omega) (by omega) (by omega) (by omega)) (by decide) rfl rfl (Nat.le_of_ble_eq_true rfl) eX1_onLine_66 ?_
          refine j_goto C eX1_onLine_69 ?_
          exact j_zretv E eX1_onLine_85 (by unfold onLineB; rw [if_neg (by omega), if_pos (by omega)]; first | (exfalso; omega) | rw [if_pos (by omega)] | rw [if_neg (by omega)]) ⟨rfl, rfl⟩
    · refine j_il1 C eX1_onLine_13 ?_
      refine j_il3 C eX1_onLine_14 ?_
      refine j_cne C eX1_onLine_15 (by omega) (by omega) (fun c15 => ?_) (fun c15 => ?_)
      · refine j_iconst C eX1_onLine_28 ?_
        exact j_zretv E eX1_onLine_29 (by unfold onLineB; rw [if_pos (by omega)]; first | exact zI_of_t (decide_eq_true (by omega)) | exact zI_of_f (decide_eq_false (by omega))) ⟨rfl, rfl⟩
      · refine j_il2 C eX1_onLine_18 ?_
        refine j_il4 C eX1_onLine_19 ?_
        refine j_cne C eX1_onLine_21 (by omega) (by omega) (fun c21 => ?_) (fun c21 => ?_)
        · refine j_iconst C eX1_onLine_28 ?_
          exact j_zretv E eX1_onLine_29 (by unfold onLineB; rw [if_pos (by omega)]; first | exact zI_of_t (decide_eq_true (by omega)) | exact zI_of_f (decide_eq_false (by omega))) ⟨rfl, rfl⟩
        · refine j_iconst C eX1_onLine_24 ?_
          refine j_goto C eX1_onLine_25 ?_
          exact j_zretv E eX1_onLine_29 (by unfold onLineB; rw [if_pos (by omega)]; first | exact zI_of_t (decide_eq_true (by omega)) | exact zI_of_f (decide_eq_false (by omega))) ⟨rfl, rfl⟩
def rdB (z r : Int) : Bool := decide (isPx z = true ∧ 0 ≤ r ∧ r ≤ 30)
theorem cm_isRound (ad : Nat → Nat) (dc : Nat → ClassId) (S G : Nat → Bool) (pen : Int) (z r : Int) (h1 : -2147483648 ≤ z ∧ z < 2147483648) (h2 : -2147483648 ≤ r ∧ r < 2147483648) : gX1_isRound dc [.ref (ad 0), .int (iI z), .int (iI r)] (mW ad dc S G pen) (pI (mW ad dc S G pen) (iI (zI (rdB z r)))) := by
  refine mG_of (own := RX1) (lv := [some (.ref (ad 0)), some (.int (iI z)), some (.int (iI r))]) (by decide) rfl (jIn_b [.ref (ad 0), .int (iI z), .int (iI r)] 0 rfl) ?_
  intro X C E
  refine j_al0 C eX1_isRound_0 ?_
  refine j_il1 C eX1_isRound_1 ?_
  refine m_callI C kX1_28 (cm_isPixel _ _ _ _ _ _ h1.1 h1.2) (by decide) rfl rfl (Nat.le_of_ble_eq_true rfl) eX1_isRound_2 ?_
  refine j_ifeqB C eX1_isRound_5 (fun c5 => ?_) (fun c5 => ?_)
  · refine j_iconst C eX1_isRound_22 ?_
    exact j_zretv E eX1_isRound_23 (by first | exact zI_of_t (decide_eq_true ⟨c5, by omega, by omega⟩) | exact zI_of_f (decide_eq_false (fun q => by first | (rw [c5] at q; simp at q; done) | omega))) ⟨rfl, rfl⟩
  · refine j_il2 C eX1_isRound_8 ?_
    refine j_iflt C eX1_isRound_9 (by omega) (fun c9 => ?_) (fun c9 => ?_)
    · refine j_iconst C eX1_isRound_22 ?_
      exact j_zretv E eX1_isRound_23 (by first | exact zI_of_t (decide_eq_true ⟨c5, by omega, by omega⟩) | exact zI_of_f (decide_eq_false (fun q => by first | (rw [c5] at q; simp at q; done) | omega))) ⟨rfl, rfl⟩
    · refine j_il2 C eX1_isRound_12 ?_
      refine j_bipush C eX1_isRound_13 (by decide) ?_
      refine j_cgt C eX1_isRound_15 (by omega) (by omega) (fun c15 => ?_) (fun c15 => ?_)
      · refine j_iconst C eX1_isRound_22 ?_
        exact j_zretv E eX1_isRound_23 (by first | exact zI_of_t (decide_eq_true ⟨c5, by omega, by omega⟩) | exact zI_of_f (decide_eq_false (fun q => by first | (rw [c5] at q; simp at q; done) | omega))) ⟨rfl, rfl⟩
      · refine j_iconst C eX1_isRound_18 ?_
        refine j_goto C eX1_isRound_19 ?_
        exact j_zretv E eX1_isRound_23 (by first | exact zI_of_t (decide_eq_true ⟨c5, by omega, by omega⟩) | exact zI_of_f (decide_eq_false (fun q => by first | (rw [c5] at q; simp at q; done) | omega))) ⟨rfl, rfl⟩
def onArcB (u v r : Int) : Bool := decide (0 ≤ r * r - u * u ∧ (u.natAbs : Int) ≤ (v.natAbs : Int) ∧ r * r - u * u ≤ (v.natAbs : Int) * (v.natAbs : Int) + (v.natAbs : Int) ∧ ((v.natAbs : Int) = 0 ∨ (v.natAbs : Int) * (v.natAbs : Int) - (v.natAbs : Int) < r * r - u * u))
theorem cm_onArc (ad : Nat → Nat) (dc : Nat → ClassId) (S G : Nat → Bool) (pen : Int) (u v r : Int) (hu : -23 ≤ u ∧ u ≤ 23) (hv : -23 ≤ v ∧ v ≤ 23) (hr : 0 ≤ r ∧ r ≤ 30) : gX1_onArc dc [.ref (ad 0), .int (iI u), .int (iI v), .int (iI r)] (mW ad dc S G pen) (pI (mW ad dc S G pen) (iI (zI (onArcB u v r)))) := by
  refine mG_of (own := RX1) (lv := [some (.ref (ad 0)), some (.int (iI u)), some (.int (iI v)), some (.int (iI r)), none, none]) (by decide) rfl (jIn_b [.ref (ad 0), .int (iI u), .int (iI v), .int (iI r)] 2 rfl) ?_
  intro X C E
  have r1 := sq_le hr.1 hr.2
  have r2 := ab_le hu.1 hu.2 hu.1 hu.2
  have r3 := sq_le (x := (v.natAbs : Int)) (k := 23) (by omega) (by omega)
  refine j_al0 C eX1_onArc_0 ?_
  refine j_il2 C eX1_onArc_1 ?_
  refine m_callI C kX1_20 (cm_size _ _ _ _ _ _ (by omega)) (by decide) rfl rfl (Nat.le_of_ble_eq_true rfl) eX1_onArc_2 ?_
  refine j_is4 C eX1_onArc_5 (by decide) ?_
  refine j_il3 C eX1_onArc_7 ?_
  refine j_il3 C eX1_onArc_8 ?_
  refine j_imul C eX1_onArc_9 ?_
  refine j_il1 C eX1_onArc_10 ?_
  refine j_il1 C eX1_onArc_11 ?_
  refine j_imul C eX1_onArc_12 ?_
  refine j_isub C eX1_onArc_13 ?_
  refine j_is5 C eX1_onArc_14 (by decide) ?_
  refine j_il5 C eX1_onArc_16 ?_
  refine j_iflt C eX1_onArc_18 (by omega) (fun c18 => ?_) (fun c18 => ?_)
  · refine j_iconst C eX1_onArc_31 ?_
    exact j_zretv E eX1_onArc_32 (by first | exact zI_of_t (decide_eq_true (by omega)) | exact zI_of_f (decide_eq_false (by omega))) ⟨rfl, rfl⟩
  · refine j_al0 C eX1_onArc_21 ?_
    refine j_il1 C eX1_onArc_22 ?_
    refine m_callI C kX1_20 (cm_size _ _ _ _ _ _ (by omega)) (by decide) rfl rfl (Nat.le_of_ble_eq_true rfl) eX1_onArc_23 ?_
    refine j_il4 C eX1_onArc_26 ?_
    refine j_cle C eX1_onArc_28 (by omega) (by omega) (fun c28 => ?_) (fun c28 => ?_)
    · refine j_il5 C eX1_onArc_33 ?_
      refine j_il4 C eX1_onArc_35 ?_
      refine j_il4 C eX1_onArc_37 ?_
      refine j_imul C eX1_onArc_39 ?_
      refine j_il4 C eX1_onArc_40 ?_
      refine j_iadd C eX1_onArc_42 ?_
      refine j_cgt C eX1_onArc_43 (by omega) (by omega) (fun c43 => ?_) (fun c43 => ?_)
      · refine j_iconst C eX1_onArc_68 ?_
        exact j_zretv E eX1_onArc_69 (by first | exact zI_of_t (decide_eq_true (by omega)) | exact zI_of_f (decide_eq_false (by omega))) ⟨rfl, rfl⟩
      · refine j_il4 C eX1_onArc_46 ?_
        refine j_ifeq C eX1_onArc_48 (by omega) (fun c48 => ?_) (fun c48 => ?_)
        · refine j_iconst C eX1_onArc_64 ?_
          refine j_goto C eX1_onArc_65 ?_
          exact j_zretv E eX1_onArc_69 (by first | exact zI_of_t (decide_eq_true (by omega)) | exact zI_of_f (decide_eq_false (by omega))) ⟨rfl, rfl⟩
        · refine j_il5 C eX1_onArc_51 ?_
          refine j_il4 C eX1_onArc_53 ?_
          refine j_il4 C eX1_onArc_55 ?_
          refine j_imul C eX1_onArc_57 ?_
          refine j_il4 C eX1_onArc_58 ?_
          refine j_isub C eX1_onArc_60 ?_
          refine j_cle C eX1_onArc_61 (by omega) (by omega) (fun c61 => ?_) (fun c61 => ?_)
          · refine j_iconst C eX1_onArc_68 ?_
            exact j_zretv E eX1_onArc_69 (by first | exact zI_of_t (decide_eq_true (by omega)) | exact zI_of_f (decide_eq_false (by omega))) ⟨rfl, rfl⟩
          · refine j_iconst C eX1_onArc_64 ?_
            refine j_goto C eX1_onArc_65 ?_
            exact j_zretv E eX1_onArc_69 (by first | exact zI_of_t (decide_eq_true (by omega)) | exact zI_of_f (decide_eq_false (by omega))) ⟨rfl, rfl⟩
    · refine j_iconst C eX1_onArc_31 ?_
      exact j_zretv E eX1_onArc_32 (by first | exact zI_of_t (decide_eq_true (by omega)) | exact zI_of_f (decide_eq_false (by omega))) ⟨rfl, rfl⟩
theorem cm_side (ad : Nat → Nat) (dc : Nat → ClassId) (S G : Nat → Bool) (pen : Int) (x y f t : Int) (hf : 0 ≤ f ∧ f < 2147483648) (ht : 0 ≤ t ∧ t < 2147483648) : gX1_side dc [.ref (ad 0), .int (iI x), .int (iI y), .int (iI f), .int (iI t)] (mW ad dc S G pen) (pI (mW ad dc S G pen) (iI (sideV f t x y))) := by
  refine mG_of (own := RX1) (lv := [some (.ref (ad 0)), some (.int (iI x)), some (.int (iI y)), some (.int (iI f)), some (.int (iI t))]) (by decide) rfl (jIn_b [.ref (ad 0), .int (iI x), .int (iI y), .int (iI f), .int (iI t)] 0 rfl) ?_
  intro X C E
  refine j_il4 C eX1_side_0 ?_
  refine j_bipush C eX1_side_2 (by decide) ?_
  refine j_irem C eX1_side_4 (by omega) (by omega) (by omega) (by omega) ?_
  refine j_il3 C eX1_side_5 ?_
  refine j_bipush C eX1_side_6 (by decide) ?_
  refine j_irem C eX1_side_8 (by omega) (by omega) (by omega) (by omega) ?_
  refine j_isub C eX1_side_9 ?_
  refine j_il2 C eX1_side_10 ?_
  refine j_il3 C eX1_side_11 ?_
  refine j_bipush C eX1_side_12 (by decide) ?_
  refine j_idiv C eX1_side_14 (by omega) (by omega) (by omega) (by omega) ?_
  refine j_isub C eX1_side_15 ?_
  refine j_imul C eX1_side_16 ?_
  refine j_il4 C eX1_side_17 ?_
  refine j_bipush C eX1_side_19 (by decide) ?_
  refine j_idiv C eX1_side_21 (by omega) (by omega) (by omega) (by omega) ?_
  refine j_il3 C eX1_side_22 ?_
  refine j_bipush C eX1_side_23 (by decide) ?_
  refine j_idiv C eX1_side_25 (by omega) (by omega) (by omega) (by omega) ?_
  refine j_isub C eX1_side_26 ?_
  refine j_il1 C eX1_side_27 ?_
  refine j_il3 C eX1_side_28 ?_
  refine j_bipush C eX1_side_29 (by decide) ?_
  refine j_irem C eX1_side_31 (by omega) (by omega) (by omega) (by omega) ?_
  refine j_isub C eX1_side_32 ?_
  refine j_imul C eX1_side_33 ?_
  refine j_isub C eX1_side_34 ?_
  exact j_iret E eX1_side_35 ⟨rfl, rfl⟩
def btw (v a b c : Int) : Bool := decide ((a ≤ v ∨ b ≤ v ∨ c ≤ v) ∧ (v ≤ a ∨ v ≤ b ∨ v ≤ c))
theorem cm_between (ad : Nat → Nat) (dc : Nat → ClassId) (S G : Nat → Bool) (pen : Int) (v a b c : Int) (hv : -100000 ≤ v ∧ v ≤ 100000) (ha : -100000 ≤ a ∧ a ≤ 100000) (hb : -100000 ≤ b ∧ b ≤ 100000) (hc : -100000 ≤ c ∧ c ≤ 100000) : gX1_between dc [.ref (ad 0), .int (iI v), .int (iI a), .int (iI b), .int (iI c)] (mW ad dc S G pen) (pI (mW ad dc S G pen) (iI (zI (btw v a b c)))) := by
  refine mG_of (own := RX1) (lv := [some (.ref (ad 0)), some (.int (iI v)), some (.int (iI a)), some (.int (iI b)), some (.int (iI c))]) (by decide) rfl (jIn_b [.ref (ad 0), .int (iI v), .int (iI a), .int (iI b), .int (iI c)] 0 rfl) ?_
  intro X C E
  refine j_il1 C eX1_between_0 ?_
  refine j_il2 C eX1_between_1 ?_
  refine j_cge C eX1_between_2 (by omega) (by omega) (fun c2 => ?_) (fun c2 => ?_)
  · refine j_il1 C eX1_between_16 ?_
    refine j_il2 C eX1_between_17 ?_
    refine j_cle C eX1_between_18 (by omega) (by omega) (fun c18 => ?_) (fun c18 => ?_)
    · refine j_iconst C eX1_between_32 ?_
      refine j_goto C eX1_between_33 ?_
      exact j_zretv E eX1_between_37 (by first | exact zI_of_t (decide_eq_true (by omega)) | exact zI_of_f (decide_eq_false (by omega))) ⟨rfl, rfl⟩
    · refine j_il1 C eX1_between_21 ?_
      refine j_il3 C eX1_between_22 ?_
      refine j_cle C eX1_between_23 (by omega) (by omega) (fun c23 => ?_) (fun c23 => ?_)
      · refine j_iconst C eX1_between_32 ?_
        refine j_goto C eX1_between_33 ?_
        exact j_zretv E eX1_between_37 (by first | exact zI_of_t (decide_eq_true (by omega)) | exact zI_of_f (decide_eq_false (by omega))) ⟨rfl, rfl⟩
      · refine j_il1 C eX1_between_26 ?_
        refine j_il4 C eX1_between_27 ?_
        refine j_cgt C eX1_between_29 (by omega) (by omega) (fun c29 => ?_) (fun c29 => ?_)
        · refine j_iconst C eX1_between_36 ?_
          exact j_zretv E eX1_between_37 (by first | exact zI_of_t (decide_eq_true (by omega)) | exact zI_of_f (decide_eq_false (by omega))) ⟨rfl, rfl⟩
        · refine j_iconst C eX1_between_32 ?_
          refine j_goto C eX1_between_33 ?_
          exact j_zretv E eX1_between_37 (by first | exact zI_of_t (decide_eq_true (by omega)) | exact zI_of_f (decide_eq_false (by omega))) ⟨rfl, rfl⟩
  · refine j_il1 C eX1_between_5 ?_
    refine j_il3 C eX1_between_6 ?_
    refine j_cge C eX1_between_7 (by omega) (by omega) (fun c7 => ?_) (fun c7 => ?_)
    · refine j_il1 C eX1_between_16 ?_
      refine j_il2 C eX1_between_17 ?_
      refine j_cle C eX1_between_18 (by omega) (by omega) (fun c18 => ?_) (fun c18 => ?_)
      · refine j_iconst C eX1_between_32 ?_
        refine j_goto C eX1_between_33 ?_
        exact j_zretv E eX1_between_37 (by first | exact zI_of_t (decide_eq_true (by omega)) | exact zI_of_f (decide_eq_false (by omega))) ⟨rfl, rfl⟩
      · refine j_il1 C eX1_between_21 ?_
        refine j_il3 C eX1_between_22 ?_
        refine j_cle C eX1_between_23 (by omega) (by omega) (fun c23 => ?_) (fun c23 => ?_)
        · refine j_iconst C eX1_between_32 ?_
          refine j_goto C eX1_between_33 ?_
          exact j_zretv E eX1_between_37 (by first | exact zI_of_t (decide_eq_true (by omega)) | exact zI_of_f (decide_eq_false (by omega))) ⟨rfl, rfl⟩
        · refine j_il1 C eX1_between_26 ?_
          refine j_il4 C eX1_between_27 ?_
          refine j_cgt C eX1_between_29 (by omega) (by omega) (fun c29 => ?_) (fun c29 => ?_)
          · refine j_iconst C eX1_between_36 ?_
            exact j_zretv E eX1_between_37 (by first | exact zI_of_t (decide_eq_true (by omega)) | exact zI_of_f (decide_eq_false (by omega))) ⟨rfl, rfl⟩
          · refine j_iconst C eX1_between_32 ?_
            refine j_goto C eX1_between_33 ?_
            exact j_zretv E eX1_between_37 (by first | exact zI_of_t (decide_eq_true (by omega)) | exact zI_of_f (decide_eq_false (by omega))) ⟨rfl, rfl⟩
    · refine j_il1 C eX1_between_10 ?_
      refine j_il4 C eX1_between_11 ?_
      refine j_clt C eX1_between_13 (by omega) (by omega) (fun c13 => ?_) (fun c13 => ?_)
      · refine j_iconst C eX1_between_36 ?_
        exact j_zretv E eX1_between_37 (by first | exact zI_of_t (decide_eq_true (by omega)) | exact zI_of_f (decide_eq_false (by omega))) ⟨rfl, rfl⟩
      · refine j_il1 C eX1_between_16 ?_
        refine j_il2 C eX1_between_17 ?_
        refine j_cle C eX1_between_18 (by omega) (by omega) (fun c18 => ?_) (fun c18 => ?_)
        · refine j_iconst C eX1_between_32 ?_
          refine j_goto C eX1_between_33 ?_
          exact j_zretv E eX1_between_37 (by first | exact zI_of_t (decide_eq_true (by omega)) | exact zI_of_f (decide_eq_false (by omega))) ⟨rfl, rfl⟩
        · refine j_il1 C eX1_between_21 ?_
          refine j_il3 C eX1_between_22 ?_
          refine j_cle C eX1_between_23 (by omega) (by omega) (fun c23 => ?_) (fun c23 => ?_)
          · refine j_iconst C eX1_between_32 ?_
            refine j_goto C eX1_between_33 ?_
            exact j_zretv E eX1_between_37 (by first | exact zI_of_t (decide_eq_true (by omega)) | exact zI_of_f (decide_eq_false (by omega))) ⟨rfl, rfl⟩
          · refine j_il1 C eX1_between_26 ?_
            refine j_il4 C eX1_between_27 ?_
            refine j_cgt C eX1_between_29 (by omega) (by omega) (fun c29 => ?_) (fun c29 => ?_)
            · refine j_iconst C eX1_between_36 ?_
              exact j_zretv E eX1_between_37 (by first | exact zI_of_t (decide_eq_true (by omega)) | exact zI_of_f (decide_eq_false (by omega))) ⟨rfl, rfl⟩
            · refine j_iconst C eX1_between_32 ?_
              refine j_goto C eX1_between_33 ?_
              exact j_zretv E eX1_between_37 (by first | exact zI_of_t (decide_eq_true (by omega)) | exact zI_of_f (decide_eq_false (by omega))) ⟨rfl, rfl⟩
def inTriB (x y p q r : Int) : Bool := decide (triIn p q r x y) && (btw x (p % 32) (q % 32) (r % 32) && btw y (p / 32) (q / 32) (r / 32))
theorem cm_inTri (ad : Nat → Nat) (dc : Nat → ClassId) (S G : Nat → Bool) (pen : Int) (x y p q r : Int) (hx : 0 ≤ x ∧ x < 24) (hy : 0 ≤ y ∧ y < 24) (hp : 0 ≤ p ∧ p % 32 < 24 ∧ p / 32 < 24) (hq : 0 ≤ q ∧ q % 32 < 24 ∧ q / 32 < 24) (hr : 0 ≤ r ∧ r % 32 < 24 ∧ r / 32 < 24) : gX1_inTriangle dc [.ref (ad 0), .int (iI x), .int (iI y), .int (iI p), .int (iI q), .int (iI r)] (mW ad dc S G pen) (pI (mW ad dc S G pen) (iI (zI (inTriB x y p q r)))) := by
  refine mG_of (own := RX1) (lv := [some (.ref (ad 0)), some (.int (iI x)), some (.int (iI y)), some (.int (iI p)), some (.int (iI q)), some (.int (iI r)), none, none, none, none]) (by decide) rfl (jIn_b [.ref (ad 0), .int (iI x), .int (iI y), .int (iI p), .int (iI q), .int (iI r)] 4 rfl) ?_
  intro X C E
  refine j_al0 C eX1_inTriangle_0 ?_
  refine j_il1 C eX1_inTriangle_1 ?_
  refine j_il2 C eX1_inTriangle_2 ?_
  refine j_il3 C eX1_inTriangle_3 ?_
  refine j_il4 C eX1_inTriangle_4 ?_
  refine m_callI C kX1_47 (cm_side _ _ _ _ _ _ _ _ _ (by omega) (by omega)) (by decide) rfl rfl (Nat.le_of_ble_eq_true rfl) eX1_inTriangle_6 ?_
  refine j_is6 C eX1_inTriangle_9 (by decide) ?_
  refine j_al0 C eX1_inTriangle_11 ?_
  refine j_il1 C eX1_inTriangle_12 ?_
  refine j_il2 C eX1_inTriangle_13 ?_
  refine j_il4 C eX1_inTriangle_14 ?_
  refine j_il5 C eX1_inTriangle_16 ?_
  refine m_callI C kX1_47 (cm_side _ _ _ _ _ _ _ _ _ (by omega) (by omega)) (by decide) rfl rfl (Nat.le_of_ble_eq_true rfl) eX1_inTriangle_18 ?_
  refine j_is7 C eX1_inTriangle_21 (by decide) ?_
  refine j_al0 C eX1_inTriangle_23 ?_
  refine j_il1 C eX1_inTriangle_24 ?_
  refine j_il2 C eX1_inTriangle_25 ?_
  refine j_il5 C eX1_inTriangle_26 ?_
  refine j_il3 C eX1_inTriangle_28 ?_
  refine m_callI C kX1_47 (cm_side _ _ _ _ _ _ _ _ _ (by omega) (by omega)) (by decide) rfl rfl (Nat.le_of_ble_eq_true rfl) eX1_inTriangle_29 ?_
  refine j_is8 C eX1_inTriangle_32 (by decide) ?_
  have r1 := side_rng hp hq (show 0 ≤ x ∧ x ≤ 23 by omega) (show 0 ≤ y ∧ y ≤ 23 by omega)
  have r2 := side_rng hq hr (show 0 ≤ x ∧ x ≤ 23 by omega) (show 0 ≤ y ∧ y ≤ 23 by omega)
  have r3 := side_rng hr hp (show 0 ≤ x ∧ x ≤ 23 by omega) (show 0 ≤ y ∧ y ≤ 23 by omega)
  have t69 : J X (mW ad dc S G pen) 69 [some (.ref (ad 0)), some (.int (iI x)), some (.int (iI y)), some (.int (iI p)), some (.int (iI q)), some (.int (iI r)), some (.int (iI (sideV p q x y))), some (.int (iI (sideV q r x y))), some (.int (iI (sideV r p x y))), none] [.int (iI (zI (decide (triIn p q r x y))))] := by
    refine j_is9 C eX1_inTriangle_69 (by decide) ?_
    refine j_il9 C eX1_inTriangle_71 ?_
    refine j_ifeqB C eX1_inTriangle_73 (fun c73 => ?_) (fun c73 => ?_)
    · refine j_iconst C eX1_inTriangle_124 ?_
      exact j_zretv E eX1_inTriangle_125 (by first | exact zI_of_t (by unfold inTriB; rw [c73, c95, c117]; rfl) | exact zI_of_f (by unfold inTriB; rw [c73, c95, c117]; rfl) | exact zI_of_f (by unfold inTriB; rw [c73, c95]; rfl) | exact zI_of_f (by unfold inTriB; rw [c73]; rfl)) ⟨rfl, rfl⟩
    · refine j_al0 C eX1_inTriangle_76 ?_
      refine j_il1 C eX1_inTriangle_77 ?_
      refine j_il3 C eX1_inTriangle_78 ?_
      refine j_bipush C eX1_inTriangle_79 (by decide) ?_
      refine j_irem C eX1_inTriangle_81 (by omega) (by omega) (by omega) (by omega) ?_
      refine j_il4 C eX1_inTriangle_82 ?_
      refine j_bipush C eX1_inTriangle_84 (by decide) ?_
      refine j_irem C eX1_inTriangle_86 (by omega) (by omega) (by omega) (by omega) ?_
      refine j_il5 C eX1_inTriangle_87 ?_
      refine j_bipush C eX1_inTriangle_89 (by decide) ?_
      refine j_irem C eX1_inTriangle_91 (by omega) (by omega) (by omega) (by omega) ?_
      refine m_callI C kX1_51 (cm_between _ _ _ _ _ _ _ _ _ (by omega) (by omega) (by omega) (by omega)) (by decide) rfl rfl (Nat.le_of_ble_eq_true rfl) eX1_inTriangle_92 ?_
      refine j_ifeqB C eX1_inTriangle_95 (fun c95 => ?_) (fun c95 => ?_)
      · refine j_iconst C eX1_inTriangle_124 ?_
        exact j_zretv E eX1_inTriangle_125 (by first | exact zI_of_t (by unfold inTriB; rw [c73, c95, c117]; rfl) | exact zI_of_f (by unfold inTriB; rw [c73, c95, c117]; rfl) | exact zI_of_f (by unfold inTriB; rw [c73, c95]; rfl) | exact zI_of_f (by unfold inTriB; rw [c73]; rfl)) ⟨rfl, rfl⟩
      · refine j_al0 C eX1_inTriangle_98 ?_
        refine j_il2 C eX1_inTriangle_99 ?_
        refine j_il3 C eX1_inTriangle_100 ?_
        refine j_bipush C eX1_inTriangle_101 (by decide) ?_
        refine j_idiv C eX1_inTriangle_103 (by omega) (by omega) (by omega) (by omega) ?_
        refine j_il4 C eX1_inTriangle_104 ?_
        refine j_bipush C eX1_inTriangle_106 (by decide) ?_
        refine j_idiv C eX1_inTriangle_108 (by omega) (by omega) (by omega) (by omega) ?_
        refine j_il5 C eX1_inTriangle_109 ?_
        refine j_bipush C eX1_inTriangle_111 (by decide) ?_
        refine j_idiv C eX1_inTriangle_113 (by omega) (by omega) (by omega) (by omega) ?_
        refine m_callI C kX1_51 (cm_between _ _ _ _ _ _ _ _ _ (by omega) (by omega) (by omega) (by omega)) (by decide) rfl rfl (Nat.le_of_ble_eq_true rfl) eX1_inTriangle_114 ?_
        refine j_ifeqB C eX1_inTriangle_117 (fun c117 => ?_) (fun c117 => ?_)
        · refine j_iconst C eX1_inTriangle_124 ?_
          exact j_zretv E eX1_inTriangle_125 (by first | exact zI_of_t (by unfold inTriB; rw [c73, c95, c117]; rfl) | exact zI_of_f (by unfold inTriB; rw [c73, c95, c117]; rfl) | exact zI_of_f (by unfold inTriB; rw [c73, c95]; rfl) | exact zI_of_f (by unfold inTriB; rw [c73]; rfl)) ⟨rfl, rfl⟩
        · refine j_iconst C eX1_inTriangle_120 ?_
          refine j_goto C eX1_inTriangle_121 ?_
          exact j_zretv E eX1_inTriangle_125 (by first | exact zI_of_t (by unfold inTriB; rw [c73, c95, c117]; rfl) | exact zI_of_f (by unfold inTriB; rw [c73, c95, c117]; rfl) | exact zI_of_f (by unfold inTriB; rw [c73, c95]; rfl) | exact zI_of_f (by unfold inTriB; rw [c73]; rfl)) ⟨rfl, rfl⟩
  refine j_il6 C eX1_inTriangle_34 ?_
  refine j_iflt C eX1_inTriangle_36 (by omega) (fun c36 => ?_) (fun c36 => ?_)
  · refine j_il6 C eX1_inTriangle_49 ?_
    refine j_ifgt C eX1_inTriangle_51 (by omega) (fun c51 => ?_) (fun c51 => ?_)
    · refine j_iconst C eX1_inTriangle_68 ?_
      exact j_val (by first | exact zI_of_t (decide_eq_true (by omega)) | exact zI_of_f (decide_eq_false (by omega))) t69
    · refine j_il7 C eX1_inTriangle_54 ?_
      refine j_ifgt C eX1_inTriangle_56 (by omega) (fun c56 => ?_) (fun c56 => ?_)
      · refine j_iconst C eX1_inTriangle_68 ?_
        exact j_val (by first | exact zI_of_t (decide_eq_true (by omega)) | exact zI_of_f (decide_eq_false (by omega))) t69
      · refine j_il8 C eX1_inTriangle_59 ?_
        refine j_ifgt C eX1_inTriangle_61 (by omega) (fun c61 => ?_) (fun c61 => ?_)
        · refine j_iconst C eX1_inTriangle_68 ?_
          exact j_val (by first | exact zI_of_t (decide_eq_true (by omega)) | exact zI_of_f (decide_eq_false (by omega))) t69
        · refine j_iconst C eX1_inTriangle_64 ?_
          refine j_goto C eX1_inTriangle_65 ?_
          exact j_val (by first | exact zI_of_t (decide_eq_true (by omega)) | exact zI_of_f (decide_eq_false (by omega))) t69
  · refine j_il7 C eX1_inTriangle_39 ?_
    refine j_iflt C eX1_inTriangle_41 (by omega) (fun c41 => ?_) (fun c41 => ?_)
    · refine j_il6 C eX1_inTriangle_49 ?_
      refine j_ifgt C eX1_inTriangle_51 (by omega) (fun c51 => ?_) (fun c51 => ?_)
      · refine j_iconst C eX1_inTriangle_68 ?_
        exact j_val (by first | exact zI_of_t (decide_eq_true (by omega)) | exact zI_of_f (decide_eq_false (by omega))) t69
      · refine j_il7 C eX1_inTriangle_54 ?_
        refine j_ifgt C eX1_inTriangle_56 (by omega) (fun c56 => ?_) (fun c56 => ?_)
        · refine j_iconst C eX1_inTriangle_68 ?_
          exact j_val (by first | exact zI_of_t (decide_eq_true (by omega)) | exact zI_of_f (decide_eq_false (by omega))) t69
        · refine j_il8 C eX1_inTriangle_59 ?_
          refine j_ifgt C eX1_inTriangle_61 (by omega) (fun c61 => ?_) (fun c61 => ?_)
          · refine j_iconst C eX1_inTriangle_68 ?_
            exact j_val (by first | exact zI_of_t (decide_eq_true (by omega)) | exact zI_of_f (decide_eq_false (by omega))) t69
          · refine j_iconst C eX1_inTriangle_64 ?_
            refine j_goto C eX1_inTriangle_65 ?_
            exact j_val (by first | exact zI_of_t (decide_eq_true (by omega)) | exact zI_of_f (decide_eq_false (by omega))) t69
    · refine j_il8 C eX1_inTriangle_44 ?_
      refine j_ifge C eX1_inTriangle_46 (by omega) (fun c46 => ?_) (fun c46 => ?_)
      · refine j_iconst C eX1_inTriangle_64 ?_
        refine j_goto C eX1_inTriangle_65 ?_
        exact j_val (by first | exact zI_of_t (decide_eq_true (by omega)) | exact zI_of_f (decide_eq_false (by omega))) t69
      · refine j_il6 C eX1_inTriangle_49 ?_
        refine j_ifgt C eX1_inTriangle_51 (by omega) (fun c51 => ?_) (fun c51 => ?_)
        · refine j_iconst C eX1_inTriangle_68 ?_
          exact j_val (by first | exact zI_of_t (decide_eq_true (by omega)) | exact zI_of_f (decide_eq_false (by omega))) t69
        · refine j_il7 C eX1_inTriangle_54 ?_
          refine j_ifgt C eX1_inTriangle_56 (by omega) (fun c56 => ?_) (fun c56 => ?_)
          · refine j_iconst C eX1_inTriangle_68 ?_
            exact j_val (by first | exact zI_of_t (decide_eq_true (by omega)) | exact zI_of_f (decide_eq_false (by omega))) t69
          · refine j_il8 C eX1_inTriangle_59 ?_
            refine j_ifgt C eX1_inTriangle_61 (by omega) (fun c61 => ?_) (fun c61 => ?_)
            · refine j_iconst C eX1_inTriangle_68 ?_
              exact j_val (by first | exact zI_of_t (decide_eq_true (by omega)) | exact zI_of_f (decide_eq_false (by omega))) t69
            · refine j_iconst C eX1_inTriangle_64 ?_
              refine j_goto C eX1_inTriangle_65 ?_
              exact j_val (by first | exact zI_of_t (decide_eq_true (by omega)) | exact zI_of_f (decide_eq_false (by omega))) t69
def besB (G : Nat → Bool) (k : Nat) : Bool := decide ((0 < k % 24 ∧ G (k - 1) = true) ∨ (k % 24 < 23 ∧ G (k + 1) = true) ∨ (24 ≤ k ∧ G (k - 24) = true) ∨ (k < 552 ∧ G (k + 24) = true))
theorem besB_f {G : Nat → Bool} {k : Nat} (h1 : ¬ 0 < k % 24 ∨ G (k - 1) = false) (h2 : ¬ k % 24 < 23 ∨ G (k + 1) = false) (h3 : ¬ 24 ≤ k ∨ G (k - 24) = false) (h4 : ¬ k < 552 ∨ G (k + 24) = false) : besB G k = false := decide_eq_false (fun h => by
  rcases h with h | h | h | h
  · exact h1.elim (fun z => z h.1) (fun z => absurd (h.2.symm.trans z) (by decide))
  · exact h2.elim (fun z => z h.1) (fun z => absurd (h.2.symm.trans z) (by decide))
  · exact h3.elim (fun z => z h.1) (fun z => absurd (h.2.symm.trans z) (by decide))
  · exact h4.elim (fun z => z h.1) (fun z => absurd (h.2.symm.trans z) (by decide)))
theorem cm_beside (ad : Nat → Nat) (dc : Nat → ClassId) (S G : Nat → Bool) (pen : Int) (k : Nat) (hk : k < 576) : gX1_besideFigure dc [.ref (ad 0), .int (iI (k : Int))] (mW ad dc S G pen) (pI (mW ad dc S G pen) (iI (zI (besB G k)))) := by
  refine mG_of (own := RX1) (lv := [some (.ref (ad 0)), some (.int (iI (k : Int)))]) (by decide) rfl (jIn_b [.ref (ad 0), .int (iI (k : Int))] 0 rfl) ?_
  intro X C E
  refine j_il1 C eX1_besideFigure_0 ?_
  refine j_bipush C eX1_besideFigure_1 (by decide) ?_
  refine j_irem C eX1_besideFigure_3 (by omega) (by omega) (by omega) (by omega) ?_
  refine j_ifle C eX1_besideFigure_4 (by omega) (fun c4 => ?_) (fun c4 => ?_)
  · refine j_il1 C eX1_besideFigure_18 ?_
    refine j_bipush C eX1_besideFigure_19 (by decide) ?_
    refine j_irem C eX1_besideFigure_21 (by omega) (by omega) (by omega) (by omega) ?_
    refine j_bipush C eX1_besideFigure_22 (by decide) ?_
    refine j_cge C eX1_besideFigure_24 (by omega) (by omega) (fun c24 => ?_) (fun c24 => ?_)
    · refine j_il1 C eX1_besideFigure_40 ?_
      refine j_bipush C eX1_besideFigure_41 (by decide) ?_
      refine j_clt C eX1_besideFigure_43 (by omega) (by omega) (fun c43 => ?_) (fun c43 => ?_)
      · refine j_il1 C eX1_besideFigure_58 ?_
        refine j_sipush C eX1_besideFigure_59 (by decide) ?_
        refine j_cge C eX1_besideFigure_62 (by omega) (by omega) (fun c62 => ?_) (fun c62 => ?_)
        · refine j_iconst C eX1_besideFigure_81 ?_
          exact j_zretv E eX1_besideFigure_82 (by first | exact zI_of_t (decide_eq_true (Or.inl ⟨by omega, by assumption⟩)) | exact zI_of_t (decide_eq_true (Or.inr (Or.inl ⟨by omega, by assumption⟩))) | exact zI_of_t (decide_eq_true (Or.inr (Or.inr (Or.inl ⟨by omega, by assumption⟩)))) | exact zI_of_t (decide_eq_true (Or.inr (Or.inr (Or.inr ⟨by omega, by assumption⟩)))) | exact zI_of_f (besB_f (by first | exact Or.inl (by omega) | exact Or.inr (by assumption)) (by first | exact Or.inl (by omega) | exact Or.inr (by assumption)) (by first | exact Or.inl (by omega) | exact Or.inr (by assumption)) (by first | exact Or.inl (by omega) | exact Or.inr (by assumption)))) ⟨rfl, rfl⟩
        · refine j_al0 C eX1_besideFigure_65 ?_
          refine m_get_fig C eX1_besideFigure_66 ?_
          refine j_il1 C eX1_besideFigure_69 ?_
          refine j_bipush C eX1_besideFigure_70 (by decide) ?_
          refine j_iadd C eX1_besideFigure_72 ?_
          refine m_fig_ld C (i := (k + 24)) eX1_besideFigure_73 (by omega) (by omega) ?_
          refine j_ifeqB C eX1_besideFigure_74 (fun c74 => ?_) (fun c74 => ?_)
          · refine j_iconst C eX1_besideFigure_81 ?_
            exact j_zretv E eX1_besideFigure_82 (by first | exact zI_of_t (decide_eq_true (Or.inl ⟨by omega, by assumption⟩)) | exact zI_of_t (decide_eq_true (Or.inr (Or.inl ⟨by omega, by assumption⟩))) | exact zI_of_t (decide_eq_true (Or.inr (Or.inr (Or.inl ⟨by omega, by assumption⟩)))) | exact zI_of_t (decide_eq_true (Or.inr (Or.inr (Or.inr ⟨by omega, by assumption⟩)))) | exact zI_of_f (besB_f (by first | exact Or.inl (by omega) | exact Or.inr (by assumption)) (by first | exact Or.inl (by omega) | exact Or.inr (by assumption)) (by first | exact Or.inl (by omega) | exact Or.inr (by assumption)) (by first | exact Or.inl (by omega) | exact Or.inr (by assumption)))) ⟨rfl, rfl⟩
          · refine j_iconst C eX1_besideFigure_77 ?_
            refine j_goto C eX1_besideFigure_78 ?_
            exact j_zretv E eX1_besideFigure_82 (by first | exact zI_of_t (decide_eq_true (Or.inl ⟨by omega, by assumption⟩)) | exact zI_of_t (decide_eq_true (Or.inr (Or.inl ⟨by omega, by assumption⟩))) | exact zI_of_t (decide_eq_true (Or.inr (Or.inr (Or.inl ⟨by omega, by assumption⟩)))) | exact zI_of_t (decide_eq_true (Or.inr (Or.inr (Or.inr ⟨by omega, by assumption⟩)))) | exact zI_of_f (besB_f (by first | exact Or.inl (by omega) | exact Or.inr (by assumption)) (by first | exact Or.inl (by omega) | exact Or.inr (by assumption)) (by first | exact Or.inl (by omega) | exact Or.inr (by assumption)) (by first | exact Or.inl (by omega) | exact Or.inr (by assumption)))) ⟨rfl, rfl⟩
      · refine j_al0 C eX1_besideFigure_46 ?_
        refine m_get_fig C eX1_besideFigure_47 ?_
        refine j_il1 C eX1_besideFigure_50 ?_
        refine j_bipush C eX1_besideFigure_51 (by decide) ?_
        refine j_isub C eX1_besideFigure_53 ?_
        refine m_fig_ld C (i := (k - 24)) eX1_besideFigure_54 (by omega) (by omega) ?_
        refine j_ifneB C eX1_besideFigure_55 (fun c55 => ?_) (fun c55 => ?_)
        · refine j_iconst C eX1_besideFigure_77 ?_
          refine j_goto C eX1_besideFigure_78 ?_
          exact j_zretv E eX1_besideFigure_82 (by first | exact zI_of_t (decide_eq_true (Or.inl ⟨by omega, by assumption⟩)) | exact zI_of_t (decide_eq_true (Or.inr (Or.inl ⟨by omega, by assumption⟩))) | exact zI_of_t (decide_eq_true (Or.inr (Or.inr (Or.inl ⟨by omega, by assumption⟩)))) | exact zI_of_t (decide_eq_true (Or.inr (Or.inr (Or.inr ⟨by omega, by assumption⟩)))) | exact zI_of_f (besB_f (by first | exact Or.inl (by omega) | exact Or.inr (by assumption)) (by first | exact Or.inl (by omega) | exact Or.inr (by assumption)) (by first | exact Or.inl (by omega) | exact Or.inr (by assumption)) (by first | exact Or.inl (by omega) | exact Or.inr (by assumption)))) ⟨rfl, rfl⟩
        · refine j_il1 C eX1_besideFigure_58 ?_
          refine j_sipush C eX1_besideFigure_59 (by decide) ?_
          refine j_cge C eX1_besideFigure_62 (by omega) (by omega) (fun c62 => ?_) (fun c62 => ?_)
          · refine j_iconst C eX1_besideFigure_81 ?_
            exact j_zretv E eX1_besideFigure_82 (by first | exact zI_of_t (decide_eq_true (Or.inl ⟨by omega, by assumption⟩)) | exact zI_of_t (decide_eq_true (Or.inr (Or.inl ⟨by omega, by assumption⟩))) | exact zI_of_t (decide_eq_true (Or.inr (Or.inr (Or.inl ⟨by omega, by assumption⟩)))) | exact zI_of_t (decide_eq_true (Or.inr (Or.inr (Or.inr ⟨by omega, by assumption⟩)))) | exact zI_of_f (besB_f (by first | exact Or.inl (by omega) | exact Or.inr (by assumption)) (by first | exact Or.inl (by omega) | exact Or.inr (by assumption)) (by first | exact Or.inl (by omega) | exact Or.inr (by assumption)) (by first | exact Or.inl (by omega) | exact Or.inr (by assumption)))) ⟨rfl, rfl⟩
          · refine j_al0 C eX1_besideFigure_65 ?_
            refine m_get_fig C eX1_besideFigure_66 ?_
            refine j_il1 C eX1_besideFigure_69 ?_
            refine j_bipush C eX1_besideFigure_70 (by decide) ?_
            refine j_iadd C eX1_besideFigure_72 ?_
            refine m_fig_ld C (i := (k + 24)) eX1_besideFigure_73 (by omega) (by omega) ?_
            refine j_ifeqB C eX1_besideFigure_74 (fun c74 => ?_) (fun c74 => ?_)
            · refine j_iconst C eX1_besideFigure_81 ?_
              exact j_zretv E eX1_besideFigure_82 (by first | exact zI_of_t (decide_eq_true (Or.inl ⟨by omega, by assumption⟩)) | exact zI_of_t (decide_eq_true (Or.inr (Or.inl ⟨by omega, by assumption⟩))) | exact zI_of_t (decide_eq_true (Or.inr (Or.inr (Or.inl ⟨by omega, by assumption⟩)))) | exact zI_of_t (decide_eq_true (Or.inr (Or.inr (Or.inr ⟨by omega, by assumption⟩)))) | exact zI_of_f (besB_f (by first | exact Or.inl (by omega) | exact Or.inr (by assumption)) (by first | exact Or.inl (by omega) | exact Or.inr (by assumption)) (by first | exact Or.inl (by omega) | exact Or.inr (by assumption)) (by first | exact Or.inl (by omega) | exact Or.inr (by assumption)))) ⟨rfl, rfl⟩
            · refine j_iconst C eX1_besideFigure_77 ?_
              refine j_goto C eX1_besideFigure_78 ?_
              exact j_zretv E eX1_besideFigure_82 (by first | exact zI_of_t (decide_eq_true (Or.inl ⟨by omega, by assumption⟩)) | exact zI_of_t (decide_eq_true (Or.inr (Or.inl ⟨by omega, by assumption⟩))) | exact zI_of_t (decide_eq_true (Or.inr (Or.inr (Or.inl ⟨by omega, by assumption⟩)))) | exact zI_of_t (decide_eq_true (Or.inr (Or.inr (Or.inr ⟨by omega, by assumption⟩)))) | exact zI_of_f (besB_f (by first | exact Or.inl (by omega) | exact Or.inr (by assumption)) (by first | exact Or.inl (by omega) | exact Or.inr (by assumption)) (by first | exact Or.inl (by omega) | exact Or.inr (by assumption)) (by first | exact Or.inl (by omega) | exact Or.inr (by assumption)))) ⟨rfl, rfl⟩
    · refine j_al0 C eX1_besideFigure_27 ?_
      refine m_get_fig C eX1_besideFigure_28 ?_
      refine j_il1 C eX1_besideFigure_31 ?_
      refine j_iconst C eX1_besideFigure_32 ?_
      refine j_iadd C eX1_besideFigure_33 ?_
      refine m_fig_ld C (i := (k + 1)) eX1_besideFigure_34 (by omega) (by omega) ?_
      refine j_ifeqB C eX1_besideFigure_35 (fun c35 => ?_) (fun c35 => ?_)
      · refine j_il1 C eX1_besideFigure_40 ?_
        refine j_bipush C eX1_besideFigure_41 (by decide) ?_
        refine j_clt C eX1_besideFigure_43 (by omega) (by omega) (fun c43 => ?_) (fun c43 => ?_)
        · refine j_il1 C eX1_besideFigure_58 ?_
          refine j_sipush C eX1_besideFigure_59 (by decide) ?_
          refine j_cge C eX1_besideFigure_62 (by omega) (by omega) (fun c62 => ?_) (fun c62 => ?_)
          · refine j_iconst C eX1_besideFigure_81 ?_
            exact j_zretv E eX1_besideFigure_82 (by first | exact zI_of_t (decide_eq_true (Or.inl ⟨by omega, by assumption⟩)) | exact zI_of_t (decide_eq_true (Or.inr (Or.inl ⟨by omega, by assumption⟩))) | exact zI_of_t (decide_eq_true (Or.inr (Or.inr (Or.inl ⟨by omega, by assumption⟩)))) | exact zI_of_t (decide_eq_true (Or.inr (Or.inr (Or.inr ⟨by omega, by assumption⟩)))) | exact zI_of_f (besB_f (by first | exact Or.inl (by omega) | exact Or.inr (by assumption)) (by first | exact Or.inl (by omega) | exact Or.inr (by assumption)) (by first | exact Or.inl (by omega) | exact Or.inr (by assumption)) (by first | exact Or.inl (by omega) | exact Or.inr (by assumption)))) ⟨rfl, rfl⟩
          · refine j_al0 C eX1_besideFigure_65 ?_
            refine m_get_fig C eX1_besideFigure_66 ?_
            refine j_il1 C eX1_besideFigure_69 ?_
            refine j_bipush C eX1_besideFigure_70 (by decide) ?_
            refine j_iadd C eX1_besideFigure_72 ?_
            refine m_fig_ld C (i := (k + 24)) eX1_besideFigure_73 (by omega) (by omega) ?_
            refine j_ifeqB C eX1_besideFigure_74 (fun c74 => ?_) (fun c74 => ?_)
            · refine j_iconst C eX1_besideFigure_81 ?_
              exact j_zretv E eX1_besideFigure_82 (by first | exact zI_of_t (decide_eq_true (Or.inl ⟨by omega, by assumption⟩)) | exact zI_of_t (decide_eq_true (Or.inr (Or.inl ⟨by omega, by assumption⟩))) | exact zI_of_t (decide_eq_true (Or.inr (Or.inr (Or.inl ⟨by omega, by assumption⟩)))) | exact zI_of_t (decide_eq_true (Or.inr (Or.inr (Or.inr ⟨by omega, by assumption⟩)))) | exact zI_of_f (besB_f (by first | exact Or.inl (by omega) | exact Or.inr (by assumption)) (by first | exact Or.inl (by omega) | exact Or.inr (by assumption)) (by first | exact Or.inl (by omega) | exact Or.inr (by assumption)) (by first | exact Or.inl (by omega) | exact Or.inr (by assumption)))) ⟨rfl, rfl⟩
            · refine j_iconst C eX1_besideFigure_77 ?_
              refine j_goto C eX1_besideFigure_78 ?_
              exact j_zretv E eX1_besideFigure_82 (by first | exact zI_of_t (decide_eq_true (Or.inl ⟨by omega, by assumption⟩)) | exact zI_of_t (decide_eq_true (Or.inr (Or.inl ⟨by omega, by assumption⟩))) | exact zI_of_t (decide_eq_true (Or.inr (Or.inr (Or.inl ⟨by omega, by assumption⟩)))) | exact zI_of_t (decide_eq_true (Or.inr (Or.inr (Or.inr ⟨by omega, by assumption⟩)))) | exact zI_of_f (besB_f (by first | exact Or.inl (by omega) | exact Or.inr (by assumption)) (by first | exact Or.inl (by omega) | exact Or.inr (by assumption)) (by first | exact Or.inl (by omega) | exact Or.inr (by assumption)) (by first | exact Or.inl (by omega) | exact Or.inr (by assumption)))) ⟨rfl, rfl⟩
        · refine j_al0 C eX1_besideFigure_46 ?_
          refine m_get_fig C eX1_besideFigure_47 ?_
          refine j_il1 C eX1_besideFigure_50 ?_
          refine j_bipush C eX1_besideFigure_51 (by decide) ?_
          refine j_isub C eX1_besideFigure_53 ?_
          refine m_fig_ld C (i := (k - 24)) eX1_besideFigure_54 (by omega) (by omega) ?_
          refine j_ifneB C eX1_besideFigure_55 (fun c55 => ?_) (fun c55 => ?_)
          · refine j_iconst C eX1_besideFigure_77 ?_
            refine j_goto C eX1_besideFigure_78 ?_
            exact j_zretv E eX1_besideFigure_82 (by first | exact zI_of_t (decide_eq_true (Or.inl ⟨by omega, by assumption⟩)) | exact zI_of_t (decide_eq_true (Or.inr (Or.inl ⟨by omega, by assumption⟩))) | exact zI_of_t (decide_eq_true (Or.inr (Or.inr (Or.inl ⟨by omega, by assumption⟩)))) | exact zI_of_t (decide_eq_true (Or.inr (Or.inr (Or.inr ⟨by omega, by assumption⟩)))) | exact zI_of_f (besB_f (by first | exact Or.inl (by omega) | exact Or.inr (by assumption)) (by first | exact Or.inl (by omega) | exact Or.inr (by assumption)) (by first | exact Or.inl (by omega) | exact Or.inr (by assumption)) (by first | exact Or.inl (by omega) | exact Or.inr (by assumption)))) ⟨rfl, rfl⟩
          · refine j_il1 C eX1_besideFigure_58 ?_
            refine j_sipush C eX1_besideFigure_59 (by decide) ?_
            refine j_cge C eX1_besideFigure_62 (by omega) (by omega) (fun c62 => ?_) (fun c62 => ?_)
            · refine j_iconst C eX1_besideFigure_81 ?_
              exact j_zretv E eX1_besideFigure_82 (by first | exact zI_of_t (decide_eq_true (Or.inl ⟨by omega, by assumption⟩)) | exact zI_of_t (decide_eq_true (Or.inr (Or.inl ⟨by omega, by assumption⟩))) | exact zI_of_t (decide_eq_true (Or.inr (Or.inr (Or.inl ⟨by omega, by assumption⟩)))) | exact zI_of_t (decide_eq_true (Or.inr (Or.inr (Or.inr ⟨by omega, by assumption⟩)))) | exact zI_of_f (besB_f (by first | exact Or.inl (by omega) | exact Or.inr (by assumption)) (by first | exact Or.inl (by omega) | exact Or.inr (by assumption)) (by first | exact Or.inl (by omega) | exact Or.inr (by assumption)) (by first | exact Or.inl (by omega) | exact Or.inr (by assumption)))) ⟨rfl, rfl⟩
            · refine j_al0 C eX1_besideFigure_65 ?_
              refine m_get_fig C eX1_besideFigure_66 ?_
              refine j_il1 C eX1_besideFigure_69 ?_
              refine j_bipush C eX1_besideFigure_70 (by decide) ?_
              refine j_iadd C eX1_besideFigure_72 ?_
              refine m_fig_ld C (i := (k + 24)) eX1_besideFigure_73 (by omega) (by omega) ?_
              refine j_ifeqB C eX1_besideFigure_74 (fun c74 => ?_) (fun c74 => ?_)
              · refine j_iconst C eX1_besideFigure_81 ?_
                exact j_zretv E eX1_besideFigure_82 (by first | exact zI_of_t (decide_eq_true (Or.inl ⟨by omega, by assumption⟩)) | exact zI_of_t (decide_eq_true (Or.inr (Or.inl ⟨by omega, by assumption⟩))) | exact zI_of_t (decide_eq_true (Or.inr (Or.inr (Or.inl ⟨by omega, by assumption⟩)))) | exact zI_of_t (decide_eq_true (Or.inr (Or.inr (Or.inr ⟨by omega, by assumption⟩)))) | exact zI_of_f (besB_f (by first | exact Or.inl (by omega) | exact Or.inr (by assumption)) (by first | exact Or.inl (by omega) | exact Or.inr (by assumption)) (by first | exact Or.inl (by omega) | exact Or.inr (by assumption)) (by first | exact Or.inl (by omega) | exact Or.inr (by assumption)))) ⟨rfl, rfl⟩
              · refine j_iconst C eX1_besideFigure_77 ?_
                refine j_goto C eX1_besideFigure_78 ?_
                exact j_zretv E eX1_besideFigure_82 (by first | exact zI_of_t (decide_eq_true (Or.inl ⟨by omega, by assumption⟩)) | exact zI_of_t (decide_eq_true (Or.inr (Or.inl ⟨by omega, by assumption⟩))) | exact zI_of_t (decide_eq_true (Or.inr (Or.inr (Or.inl ⟨by omega, by assumption⟩)))) | exact zI_of_t (decide_eq_true (Or.inr (Or.inr (Or.inr ⟨by omega, by assumption⟩)))) | exact zI_of_f (besB_f (by first | exact Or.inl (by omega) | exact Or.inr (by assumption)) (by first | exact Or.inl (by omega) | exact Or.inr (by assumption)) (by first | exact Or.inl (by omega) | exact Or.inr (by assumption)) (by first | exact Or.inl (by omega) | exact Or.inr (by assumption)))) ⟨rfl, rfl⟩
      · refine j_iconst C eX1_besideFigure_38 ?_
        exact j_zretv E eX1_besideFigure_39 (by first | exact zI_of_t (decide_eq_true (Or.inl ⟨by omega, by assumption⟩)) | exact zI_of_t (decide_eq_true (Or.inr (Or.inl ⟨by omega, by assumption⟩))) | exact zI_of_t (decide_eq_true (Or.inr (Or.inr (Or.inl ⟨by omega, by assumption⟩)))) | exact zI_of_t (decide_eq_true (Or.inr (Or.inr (Or.inr ⟨by omega, by assumption⟩)))) | exact zI_of_f (besB_f (by first | exact Or.inl (by omega) | exact Or.inr (by assumption)) (by first | exact Or.inl (by omega) | exact Or.inr (by assumption)) (by first | exact Or.inl (by omega) | exact Or.inr (by assumption)) (by first | exact Or.inl (by omega) | exact Or.inr (by assumption)))) ⟨rfl, rfl⟩
  · refine j_al0 C eX1_besideFigure_7 ?_
    refine m_get_fig C eX1_besideFigure_8 ?_
    refine j_il1 C eX1_besideFigure_11 ?_
    refine j_iconst C eX1_besideFigure_12 ?_
    refine j_isub C eX1_besideFigure_13 ?_
    refine m_fig_ld C (i := (k - 1)) eX1_besideFigure_14 (by omega) (by omega) ?_
    refine j_ifneB C eX1_besideFigure_15 (fun c15 => ?_) (fun c15 => ?_)
    · refine j_iconst C eX1_besideFigure_38 ?_
      exact j_zretv E eX1_besideFigure_39 (by first | exact zI_of_t (decide_eq_true (Or.inl ⟨by omega, by assumption⟩)) | exact zI_of_t (decide_eq_true (Or.inr (Or.inl ⟨by omega, by assumption⟩))) | exact zI_of_t (decide_eq_true (Or.inr (Or.inr (Or.inl ⟨by omega, by assumption⟩)))) | exact zI_of_t (decide_eq_true (Or.inr (Or.inr (Or.inr ⟨by omega, by assumption⟩)))) | exact zI_of_f (besB_f (by first | exact Or.inl (by omega) | exact Or.inr (by assumption)) (by first | exact Or.inl (by omega) | exact Or.inr (by assumption)) (by first | exact Or.inl (by omega) | exact Or.inr (by assumption)) (by first | exact Or.inl (by omega) | exact Or.inr (by assumption)))) ⟨rfl, rfl⟩
    · refine j_il1 C eX1_besideFigure_18 ?_
      refine j_bipush C eX1_besideFigure_19 (by decide) ?_
      refine j_irem C eX1_besideFigure_21 (by omega) (by omega) (by omega) (by omega) ?_
      refine j_bipush C eX1_besideFigure_22 (by decide) ?_
      refine j_cge C eX1_besideFigure_24 (by omega) (by omega) (fun c24 => ?_) (fun c24 => ?_)
      · refine j_il1 C eX1_besideFigure_40 ?_
        refine j_bipush C eX1_besideFigure_41 (by decide) ?_
        refine j_clt C eX1_besideFigure_43 (by omega) (by omega) (fun c43 => ?_) (fun c43 => ?_)
        · refine j_il1 C eX1_besideFigure_58 ?_
          refine j_sipush C eX1_besideFigure_59 (by decide) ?_
          refine j_cge C eX1_besideFigure_62 (by omega) (by omega) (fun c62 => ?_) (fun c62 => ?_)
          · refine j_iconst C eX1_besideFigure_81 ?_
            exact j_zretv E eX1_besideFigure_82 (by first | exact zI_of_t (decide_eq_true (Or.inl ⟨by omega, by assumption⟩)) | exact zI_of_t (decide_eq_true (Or.inr (Or.inl ⟨by omega, by assumption⟩))) | exact zI_of_t (decide_eq_true (Or.inr (Or.inr (Or.inl ⟨by omega, by assumption⟩)))) | exact zI_of_t (decide_eq_true (Or.inr (Or.inr (Or.inr ⟨by omega, by assumption⟩)))) | exact zI_of_f (besB_f (by first | exact Or.inl (by omega) | exact Or.inr (by assumption)) (by first | exact Or.inl (by omega) | exact Or.inr (by assumption)) (by first | exact Or.inl (by omega) | exact Or.inr (by assumption)) (by first | exact Or.inl (by omega) | exact Or.inr (by assumption)))) ⟨rfl, rfl⟩
          · refine j_al0 C eX1_besideFigure_65 ?_
            refine m_get_fig C eX1_besideFigure_66 ?_
            refine j_il1 C eX1_besideFigure_69 ?_
            refine j_bipush C eX1_besideFigure_70 (by decide) ?_
            refine j_iadd C eX1_besideFigure_72 ?_
            refine m_fig_ld C (i := (k + 24)) eX1_besideFigure_73 (by omega) (by omega) ?_
            refine j_ifeqB C eX1_besideFigure_74 (fun c74 => ?_) (fun c74 => ?_)
            · refine j_iconst C eX1_besideFigure_81 ?_
              exact j_zretv E eX1_besideFigure_82 (by first | exact zI_of_t (decide_eq_true (Or.inl ⟨by omega, by assumption⟩)) | exact zI_of_t (decide_eq_true (Or.inr (Or.inl ⟨by omega, by assumption⟩))) | exact zI_of_t (decide_eq_true (Or.inr (Or.inr (Or.inl ⟨by omega, by assumption⟩)))) | exact zI_of_t (decide_eq_true (Or.inr (Or.inr (Or.inr ⟨by omega, by assumption⟩)))) | exact zI_of_f (besB_f (by first | exact Or.inl (by omega) | exact Or.inr (by assumption)) (by first | exact Or.inl (by omega) | exact Or.inr (by assumption)) (by first | exact Or.inl (by omega) | exact Or.inr (by assumption)) (by first | exact Or.inl (by omega) | exact Or.inr (by assumption)))) ⟨rfl, rfl⟩
            · refine j_iconst C eX1_besideFigure_77 ?_
              refine j_goto C eX1_besideFigure_78 ?_
              exact j_zretv E eX1_besideFigure_82 (by first | exact zI_of_t (decide_eq_true (Or.inl ⟨by omega, by assumption⟩)) | exact zI_of_t (decide_eq_true (Or.inr (Or.inl ⟨by omega, by assumption⟩))) | exact zI_of_t (decide_eq_true (Or.inr (Or.inr (Or.inl ⟨by omega, by assumption⟩)))) | exact zI_of_t (decide_eq_true (Or.inr (Or.inr (Or.inr ⟨by omega, by assumption⟩)))) | exact zI_of_f (besB_f (by first | exact Or.inl (by omega) | exact Or.inr (by assumption)) (by first | exact Or.inl (by omega) | exact Or.inr (by assumption)) (by first | exact Or.inl (by omega) | exact Or.inr (by assumption)) (by first | exact Or.inl (by omega) | exact Or.inr (by assumption)))) ⟨rfl, rfl⟩
        · refine j_al0 C eX1_besideFigure_46 ?_
          refine m_get_fig C eX1_besideFigure_47 ?_
          refine j_il1 C eX1_besideFigure_50 ?_
          refine j_bipush C eX1_besideFigure_51 (by decide) ?_
          refine j_isub C eX1_besideFigure_53 ?_
          refine m_fig_ld C (i := (k - 24)) eX1_besideFigure_54 (by omega) (by omega) ?_
          refine j_ifneB C eX1_besideFigure_55 (fun c55 => ?_) (fun c55 => ?_)
          · refine j_iconst C eX1_besideFigure_77 ?_
            refine j_goto C eX1_besideFigure_78 ?_
            exact j_zretv E eX1_besideFigure_82 (by first | exact zI_of_t (decide_eq_true (Or.inl ⟨by omega, by assumption⟩)) | exact zI_of_t (decide_eq_true (Or.inr (Or.inl ⟨by omega, by assumption⟩))) | exact zI_of_t (decide_eq_true (Or.inr (Or.inr (Or.inl ⟨by omega, by assumption⟩)))) | exact zI_of_t (decide_eq_true (Or.inr (Or.inr (Or.inr ⟨by omega, by assumption⟩)))) | exact zI_of_f (besB_f (by first | exact Or.inl (by omega) | exact Or.inr (by assumption)) (by first | exact Or.inl (by omega) | exact Or.inr (by assumption)) (by first | exact Or.inl (by omega) | exact Or.inr (by assumption)) (by first | exact Or.inl (by omega) | exact Or.inr (by assumption)))) ⟨rfl, rfl⟩
          · refine j_il1 C eX1_besideFigure_58 ?_
            refine j_sipush C eX1_besideFigure_59 (by decide) ?_
            refine j_cge C eX1_besideFigure_62 (by omega) (by omega) (fun c62 => ?_) (fun c62 => ?_)
            · refine j_iconst C eX1_besideFigure_81 ?_
              exact j_zretv E eX1_besideFigure_82 (by first | exact zI_of_t (decide_eq_true (Or.inl ⟨by omega, by assumption⟩)) | exact zI_of_t (decide_eq_true (Or.inr (Or.inl ⟨by omega, by assumption⟩))) | exact zI_of_t (decide_eq_true (Or.inr (Or.inr (Or.inl ⟨by omega, by assumption⟩)))) | exact zI_of_t (decide_eq_true (Or.inr (Or.inr (Or.inr ⟨by omega, by assumption⟩)))) | exact zI_of_f (besB_f (by first | exact Or.inl (by omega) | exact Or.inr (by assumption)) (by first | exact Or.inl (by omega) | exact Or.inr (by assumption)) (by first | exact Or.inl (by omega) | exact Or.inr (by assumption)) (by first | exact Or.inl (by omega) | exact Or.inr (by assumption)))) ⟨rfl, rfl⟩
            · refine j_al0 C eX1_besideFigure_65 ?_
              refine m_get_fig C eX1_besideFigure_66 ?_
              refine j_il1 C eX1_besideFigure_69 ?_
              refine j_bipush C eX1_besideFigure_70 (by decide) ?_
              refine j_iadd C eX1_besideFigure_72 ?_
              refine m_fig_ld C (i := (k + 24)) eX1_besideFigure_73 (by omega) (by omega) ?_
              refine j_ifeqB C eX1_besideFigure_74 (fun c74 => ?_) (fun c74 => ?_)
              · refine j_iconst C eX1_besideFigure_81 ?_
                exact j_zretv E eX1_besideFigure_82 (by first | exact zI_of_t (decide_eq_true (Or.inl ⟨by omega, by assumption⟩)) | exact zI_of_t (decide_eq_true (Or.inr (Or.inl ⟨by omega, by assumption⟩))) | exact zI_of_t (decide_eq_true (Or.inr (Or.inr (Or.inl ⟨by omega, by assumption⟩)))) | exact zI_of_t (decide_eq_true (Or.inr (Or.inr (Or.inr ⟨by omega, by assumption⟩)))) | exact zI_of_f (besB_f (by first | exact Or.inl (by omega) | exact Or.inr (by assumption)) (by first | exact Or.inl (by omega) | exact Or.inr (by assumption)) (by first | exact Or.inl (by omega) | exact Or.inr (by assumption)) (by first | exact Or.inl (by omega) | exact Or.inr (by assumption)))) ⟨rfl, rfl⟩
              · refine j_iconst C eX1_besideFigure_77 ?_
                refine j_goto C eX1_besideFigure_78 ?_
                exact j_zretv E eX1_besideFigure_82 (by first | exact zI_of_t (decide_eq_true (Or.inl ⟨by omega, by assumption⟩)) | exact zI_of_t (decide_eq_true (Or.inr (Or.inl ⟨by omega, by assumption⟩))) | exact zI_of_t (decide_eq_true (Or.inr (Or.inr (Or.inl ⟨by omega, by assumption⟩)))) | exact zI_of_t (decide_eq_true (Or.inr (Or.inr (Or.inr ⟨by omega, by assumption⟩)))) | exact zI_of_f (besB_f (by first | exact Or.inl (by omega) | exact Or.inr (by assumption)) (by first | exact Or.inl (by omega) | exact Or.inr (by assumption)) (by first | exact Or.inl (by omega) | exact Or.inr (by assumption)) (by first | exact Or.inl (by omega) | exact Or.inr (by assumption)))) ⟨rfl, rfl⟩
      · refine j_al0 C eX1_besideFigure_27 ?_
        refine m_get_fig C eX1_besideFigure_28 ?_
        refine j_il1 C eX1_besideFigure_31 ?_
        refine j_iconst C eX1_besideFigure_32 ?_
        refine j_iadd C eX1_besideFigure_33 ?_
        refine m_fig_ld C (i := (k + 1)) eX1_besideFigure_34 (by omega) (by omega) ?_
        refine j_ifeqB C eX1_besideFigure_35 (fun c35 => ?_) (fun c35 => ?_)
        · refine j_il1 C eX1_besideFigure_40 ?_
          refine j_bipush C eX1_besideFigure_41 (by decide) ?_
          refine j_clt C eX1_besideFigure_43 (by omega) (by omega) (fun c43 => ?_) (fun c43 => ?_)
          · refine j_il1 C eX1_besideFigure_58 ?_
            refine j_sipush C eX1_besideFigure_59 (by decide) ?_
            refine j_cge C eX1_besideFigure_62 (by omega) (by omega) (fun c62 => ?_) (fun c62 => ?_)
            · refine j_iconst C eX1_besideFigure_81 ?_
              exact j_zretv E eX1_besideFigure_82 (by first | exact zI_of_t (decide_eq_true (Or.inl ⟨by omega, by assumption⟩)) | exact zI_of_t (decide_eq_true (Or.inr (Or.inl ⟨by omega, by assumption⟩))) | exact zI_of_t (decide_eq_true (Or.inr (Or.inr (Or.inl ⟨by omega, by assumption⟩)))) | exact zI_of_t (decide_eq_true (Or.inr (Or.inr (Or.inr ⟨by omega, by assumption⟩)))) | exact zI_of_f (besB_f (by first | exact Or.inl (by omega) | exact Or.inr (by assumption)) (by first | exact Or.inl (by omega) | exact Or.inr (by assumption)) (by first | exact Or.inl (by omega) | exact Or.inr (by assumption)) (by first | exact Or.inl (by omega) | exact Or.inr (by assumption)))) ⟨rfl, rfl⟩
            · refine j_al0 C eX1_besideFigure_65 ?_
              refine m_get_fig C eX1_besideFigure_66 ?_
              refine j_il1 C eX1_besideFigure_69 ?_
              refine j_bipush C eX1_besideFigure_70 (by decide) ?_
              refine j_iadd C eX1_besideFigure_72 ?_
              refine m_fig_ld C (i := (k + 24)) eX1_besideFigure_73 (by omega) (by omega) ?_
              refine j_ifeqB C eX1_besideFigure_74 (fun c74 => ?_) (fun c74 => ?_)
              · refine j_iconst C eX1_besideFigure_81 ?_
                exact j_zretv E eX1_besideFigure_82 (by first | exact zI_of_t (decide_eq_true (Or.inl ⟨by omega, by assumption⟩)) | exact zI_of_t (decide_eq_true (Or.inr (Or.inl ⟨by omega, by assumption⟩))) | exact zI_of_t (decide_eq_true (Or.inr (Or.inr (Or.inl ⟨by omega, by assumption⟩)))) | exact zI_of_t (decide_eq_true (Or.inr (Or.inr (Or.inr ⟨by omega, by assumption⟩)))) | exact zI_of_f (besB_f (by first | exact Or.inl (by omega) | exact Or.inr (by assumption)) (by first | exact Or.inl (by omega) | exact Or.inr (by assumption)) (by first | exact Or.inl (by omega) | exact Or.inr (by assumption)) (by first | exact Or.inl (by omega) | exact Or.inr (by assumption)))) ⟨rfl, rfl⟩
              · refine j_iconst C eX1_besideFigure_77 ?_
                refine j_goto C eX1_besideFigure_78 ?_
                exact j_zretv E eX1_besideFigure_82 (by first | exact zI_of_t (decide_eq_true (Or.inl ⟨by omega, by assumption⟩)) | exact zI_of_t (decide_eq_true (Or.inr (Or.inl ⟨by omega, by assumption⟩))) | exact zI_of_t (decide_eq_true (Or.inr (Or.inr (Or.inl ⟨by omega, by assumption⟩)))) | exact zI_of_t (decide_eq_true (Or.inr (Or.inr (Or.inr ⟨by omega, by assumption⟩)))) | exact zI_of_f (besB_f (by first | exact Or.inl (by omega) | exact Or.inr (by assumption)) (by first | exact Or.inl (by omega) | exact Or.inr (by assumption)) (by first | exact Or.inl (by omega) | exact Or.inr (by assumption)) (by first | exact Or.inl (by omega) | exact Or.inr (by assumption)))) ⟨rfl, rfl⟩
          · refine j_al0 C eX1_besideFigure_46 ?_
            refine m_get_fig C eX1_besideFigure_47 ?_
            refine j_il1 C eX1_besideFigure_50 ?_
            refine j_bipush C eX1_besideFigure_51 (by decide) ?_
            refine j_isub C eX1_besideFigure_53 ?_
            refine m_fig_ld C (i := (k - 24)) eX1_besideFigure_54 (by omega) (by omega) ?_
            refine j_ifneB C eX1_besideFigure_55 (fun c55 => ?_) (fun c55 => ?_)
            · refine j_iconst C eX1_besideFigure_77 ?_
              refine j_goto C eX1_besideFigure_78 ?_
              exact j_zretv E eX1_besideFigure_82 (by first | exact zI_of_t (decide_eq_true (Or.inl ⟨by omega, by assumption⟩)) | exact zI_of_t (decide_eq_true (Or.inr (Or.inl ⟨by omega, by assumption⟩))) | exact zI_of_t (decide_eq_true (Or.inr (Or.inr (Or.inl ⟨by omega, by assumption⟩)))) | exact zI_of_t (decide_eq_true (Or.inr (Or.inr (Or.inr ⟨by omega, by assumption⟩)))) | exact zI_of_f (besB_f (by first | exact Or.inl (by omega) | exact Or.inr (by assumption)) (by first | exact Or.inl (by omega) | exact Or.inr (by assumption)) (by first | exact Or.inl (by omega) | exact Or.inr (by assumption)) (by first | exact Or.inl (by omega) | exact Or.inr (by assumption)))) ⟨rfl, rfl⟩
            · refine j_il1 C eX1_besideFigure_58 ?_
              refine j_sipush C eX1_besideFigure_59 (by decide) ?_
              refine j_cge C eX1_besideFigure_62 (by omega) (by omega) (fun c62 => ?_) (fun c62 => ?_)
              · refine j_iconst C eX1_besideFigure_81 ?_
                exact j_zretv E eX1_besideFigure_82 (by first | exact zI_of_t (decide_eq_true (Or.inl ⟨by omega, by assumption⟩)) | exact zI_of_t (decide_eq_true (Or.inr (Or.inl ⟨by omega, by assumption⟩))) | exact zI_of_t (decide_eq_true (Or.inr (Or.inr (Or.inl ⟨by omega, by assumption⟩)))) | exact zI_of_t (decide_eq_true (Or.inr (Or.inr (Or.inr ⟨by omega, by assumption⟩)))) | exact zI_of_f (besB_f (by first | exact Or.inl (by omega) | exact Or.inr (by assumption)) (by first | exact Or.inl (by omega) | exact Or.inr (by assumption)) (by first | exact Or.inl (by omega) | exact Or.inr (by assumption)) (by first | exact Or.inl (by omega) | exact Or.inr (by assumption)))) ⟨rfl, rfl⟩
              · refine j_al0 C eX1_besideFigure_65 ?_
                refine m_get_fig C eX1_besideFigure_66 ?_
                refine j_il1 C eX1_besideFigure_69 ?_
                refine j_bipush C eX1_besideFigure_70 (by decide) ?_
                refine j_iadd C eX1_besideFigure_72 ?_
                refine m_fig_ld C (i := (k + 24)) eX1_besideFigure_73 (by omega) (by omega) ?_
                refine j_ifeqB C eX1_besideFigure_74 (fun c74 => ?_) (fun c74 => ?_)
                · refine j_iconst C eX1_besideFigure_81 ?_
                  exact j_zretv E eX1_besideFigure_82 (by first | exact zI_of_t (decide_eq_true (Or.inl ⟨by omega, by assumption⟩)) | exact zI_of_t (decide_eq_true (Or.inr (Or.inl ⟨by omega, by assumption⟩))) | exact zI_of_t (decide_eq_true (Or.inr (Or.inr (Or.inl ⟨by omega, by assumption⟩)))) | exact zI_of_t (decide_eq_true (Or.inr (Or.inr (Or.inr ⟨by omega, by assumption⟩)))) | exact zI_of_f (besB_f (by first | exact Or.inl (by omega) | exact Or.inr (by assumption)) (by first | exact Or.inl (by omega) | exact Or.inr (by assumption)) (by first | exact Or.inl (by omega) | exact Or.inr (by assumption)) (by first | exact Or.inl (by omega) | exact Or.inr (by assumption)))) ⟨rfl, rfl⟩
                · refine j_iconst C eX1_besideFigure_77 ?_
                  refine j_goto C eX1_besideFigure_78 ?_
                  exact j_zretv E eX1_besideFigure_82 (by first | exact zI_of_t (decide_eq_true (Or.inl ⟨by omega, by assumption⟩)) | exact zI_of_t (decide_eq_true (Or.inr (Or.inl ⟨by omega, by assumption⟩))) | exact zI_of_t (decide_eq_true (Or.inr (Or.inr (Or.inl ⟨by omega, by assumption⟩)))) | exact zI_of_t (decide_eq_true (Or.inr (Or.inr (Or.inr ⟨by omega, by assumption⟩)))) | exact zI_of_f (besB_f (by first | exact Or.inl (by omega) | exact Or.inr (by assumption)) (by first | exact Or.inl (by omega) | exact Or.inr (by assumption)) (by first | exact Or.inl (by omega) | exact Or.inr (by assumption)) (by first | exact Or.inl (by omega) | exact Or.inr (by assumption)))) ⟨rfl, rfl⟩
        · refine j_iconst C eX1_besideFigure_38 ?_
          exact j_zretv E eX1_besideFigure_39 (by first | exact zI_of_t (decide_eq_true (Or.inl ⟨by omega, by assumption⟩)) | exact zI_of_t (decide_eq_true (Or.inr (Or.inl ⟨by omega, by assumption⟩))) | exact zI_of_t (decide_eq_true (Or.inr (Or.inr (Or.inl ⟨by omega, by assumption⟩)))) | exact zI_of_t (decide_eq_true (Or.inr (Or.inr (Or.inr ⟨by omega, by assumption⟩)))) | exact zI_of_f (besB_f (by first | exact Or.inl (by omega) | exact Or.inr (by assumption)) (by first | exact Or.inl (by omega) | exact Or.inr (by assumption)) (by first | exact Or.inl (by omega) | exact Or.inr (by assumption)) (by first | exact Or.inl (by omega) | exact Or.inr (by assumption)))) ⟨rfl, rfl⟩
end
section
def inkS (pen : Int) (S G : Nat → Bool) (j : Nat) : Nat → Bool := fun k => if k < j then penOp pen (S k) (G k) else S k
def inkN (pen : Int) (S G : Nat → Bool) (j : Nat) : Nat := cnt (fun k => S k ^^ penOp pen (S k) (G k)) j
theorem inkS_0 (pen : Int) (S G : Nat → Bool) : inkS pen S G 0 = S := by funext k; simp [inkS]
theorem inkS_j (pen : Int) (S G : Nat → Bool) (j : Nat) : inkS pen S G j j = S j := by simp [inkS]
theorem inkS_put (pen : Int) (S G : Nat → Bool) (j : Nat) {b : Bool} (h : b = penOp pen (S j) (G j)) : up (inkS pen S G j) j b = inkS pen S G (j + 1) := by
  funext k
  unfold up inkS
  by_cases e : k = j
  · subst e
    rw [if_pos rfl, if_pos (by omega), h]
  · by_cases e2 : k < j
    · rw [if_neg e, if_pos e2, if_pos (by omega)]
    · rw [if_neg e, if_neg e2, if_neg (by omega)]
theorem inkS_keep (pen : Int) (S G : Nat → Bool) (j : Nat) (h : S j = penOp pen (S j) (G j)) : inkS pen S G j = inkS pen S G (j + 1) := by
  rw [← inkS_put pen S G j h]
  funext k
  unfold up
  by_cases e : k = j
  · subst e; rw [if_pos rfl, inkS_j]
  · rw [if_neg e]
theorem inkN_keep (pen : Int) (S G : Nat → Bool) (j : Nat) (h : S j = penOp pen (S j) (G j)) : inkN pen S G (j + 1) = inkN pen S G j := by
  unfold inkN
  rw [cnt, ← h]
  simp
theorem inkN_put (pen : Int) (S G : Nat → Bool) (j : Nat) (h : S j ≠ penOp pen (S j) (G j)) : inkN pen S G (j + 1) = inkN pen S G j + 1 := by
  unfold inkN
  rw [cnt]
  congr 1
  rw [if_pos]
  cases h1 : S j <;> cases h2 : penOp pen (S j) (G j) <;> simp_all
def nowB (pen : Int) (s : Bool) : Bool := decide (pen = 0 ∨ (pen = 2 ∧ s = false))
theorem now_f (pen : Int) (s : Bool) : penOp pen s false = s := by
  unfold penOp
  split
  · cases s <;> rfl
  · split
    · cases s <;> rfl
    · cases s <;> rfl
theorem now_t (pen : Int) (s : Bool) (hp : 0 ≤ pen ∧ pen ≤ 2) : penOp pen s true = nowB pen s := by
  unfold penOp nowB
  rcases (show pen = 0 ∨ pen = 1 ∨ pen = 2 by omega) with rfl | rfl | rfl <;> cases s <;> rfl
theorem m_S {X : jX} {ad : Nat → Nat} {dc : Nat → ClassId} {pen : Int} {S S' G : Nat → Bool} {pc : Nat} {lv : List (Option Value)} {st : List Value} (h : S = S') (k : J X (mW ad dc S' G pen) pc lv st) : J X (mW ad dc S G pen) pc lv st := h ▸ k
theorem m_G {X : jX} {ad : Nat → Nat} {dc : Nat → ClassId} {pen : Int} {S G G' : Nat → Bool} {pc : Nat} {lv : List (Option Value)} {st : List Value} (h : G = G') (k : J X (mW ad dc S G' pen) pc lv st) : J X (mW ad dc S G pen) pc lv st := h ▸ k
theorem mink_loop {X : jX} (ad : Nat → Nat) (dc : Nat → ClassId) (S G : Nat → Bool) (pen : Int) (hp : 0 ≤ pen ∧ pen ≤ 2) (C : jC X cX1_ink RX1 4 (mTy dc) 0 0) (E : jE X cX1_ink (some .int) (pI (mW ad dc (inkS pen S G 576) G pen) (iI (inkN pen S G 576 : Int)))) : ∀ (n j : Nat) (v3 : Option Value), 576 < j + n → j ≤ 576 → J X (mW ad dc (inkS pen S G j) G pen) 4 [some (.ref (ad 0)), some (.int (iI (inkN pen S G j : Int))), some (.int (iI (j : Int))), v3] [] := by
  intro n
  induction n with
  | zero => intro j v3 h1 h2; omega
  | succ n ih =>
    intro j v3 h1 h2
    refine j_il2 C eX1_ink_4 ?_
    refine j_sipush C eX1_ink_5 (by decide) ?_
    refine j_cge C eX1_ink_8 (by omega) (by omega) (fun c8 => ?_) (fun c8 => ?_)
    · obtain rfl : j = 576 := by omega
      refine j_il1 C eX1_ink_76 ?_
      exact j_iret E eX1_ink_77 ⟨rfl, rfl⟩
    · have t40 : ∀ u : Option Value, J X (mW ad dc (inkS pen S G j) G pen) 40 [some (.ref (ad 0)), some (.int (iI (inkN pen S G j : Int))), some (.int (iI (j : Int))), u] [.int (iI (zI (nowB pen (S j))))] := by
        intro u
        refine j_is3 C eX1_ink_40 (by decide) ?_
        refine j_al0 C eX1_ink_41 ?_
        refine m_get_fig C eX1_ink_42 ?_
        refine j_il2 C eX1_ink_45 ?_
        refine m_fig_ld C (i := j) eX1_ink_46 rfl (by omega) ?_
        refine j_ifeqB C eX1_ink_47 (fun c47 => ?_) (fun c47 => ?_)
        · refine m_S (inkS_keep pen S G j (by rw [c47, now_f])) ?_
          rw [show (inkN pen S G j : Int) = (inkN pen S G (j + 1) : Int) from by rw [inkN_keep pen S G j (by rw [c47, now_f])]]
          refine j_inc2 C eX1_ink_70 (by decide) ?_
          refine j_goto C eX1_ink_73 ?_
          exact ih (j + 1) _ (by omega) (by omega)
        · refine j_al0 C eX1_ink_50 ?_
          refine m_get_set C eX1_ink_51 ?_
          refine j_il2 C eX1_ink_54 ?_
          refine m_set_ld C (i := j) eX1_ink_55 rfl (by omega) ?_
          rw [inkS_j]
          refine j_il3 C eX1_ink_56 ?_
          refine j_ceqB C eX1_ink_57 (fun c57 => ?_) (fun c57 => ?_)
          · refine m_S (inkS_keep pen S G j (by rw [c47, now_t pen _ hp]; exact c57)) ?_
            rw [show (inkN pen S G j : Int) = (inkN pen S G (j + 1) : Int) from by rw [inkN_keep pen S G j (by rw [c47, now_t pen _ hp]; exact c57)]]
            refine j_inc2 C eX1_ink_70 (by decide) ?_
            refine j_goto C eX1_ink_73 ?_
            exact ih (j + 1) _ (by omega) (by omega)
          · refine j_al0 C eX1_ink_60 ?_
            refine m_get_set C eX1_ink_61 ?_
            refine j_il2 C eX1_ink_64 ?_
            refine j_il3 C eX1_ink_65 ?_
            refine m_set_st C (i := j) eX1_ink_66 rfl (by omega) ?_
            refine m_S (inkS_put pen S G j (by rw [c47, now_t pen _ hp])) ?_
            refine j_inc1 C eX1_ink_67 (by decide) ?_
            rw [show (inkN pen S G j : Int) + 1 = (inkN pen S G (j + 1) : Int) from by rw [inkN_put pen S G j (by rw [c47, now_t pen _ hp]; exact c57)]; rfl]
            refine j_inc2 C eX1_ink_70 (by decide) ?_
            refine j_goto C eX1_ink_73 ?_
            exact ih (j + 1) _ (by omega) (by omega)
      refine j_al0 C eX1_ink_11 ?_
      refine m_get_pen C eX1_ink_12 ?_
      refine j_ifeq C eX1_ink_15 (by omega) (fun c15 => ?_) (fun c15 => ?_)
      · refine j_iconst C eX1_ink_35 ?_
        refine j_goto C eX1_ink_36 ?_
        exact j_val (by first | exact zI_of_t (decide_eq_true (Or.inl (by omega))) | exact zI_of_t (decide_eq_true (Or.inr ⟨by omega, c32⟩)) | exact zI_of_f (decide_eq_false (fun q => by first | omega | (rw [c32] at q; simp at q; omega)))) (t40 _)
      · refine j_al0 C eX1_ink_18 ?_
        refine m_get_pen C eX1_ink_19 ?_
        refine j_iconst C eX1_ink_22 ?_
        refine j_cne C eX1_ink_23 (by omega) (by omega) (fun c23 => ?_) (fun c23 => ?_)
        · refine j_iconst C eX1_ink_39 ?_
          exact j_val (by first | exact zI_of_t (decide_eq_true (Or.inl (by omega))) | exact zI_of_t (decide_eq_true (Or.inr ⟨by omega, c32⟩)) | exact zI_of_f (decide_eq_false (fun q => by first | omega | (rw [c32] at q; simp at q; omega)))) (t40 _)
        · refine j_al0 C eX1_ink_26 ?_
          refine m_get_set C eX1_ink_27 ?_
          refine j_il2 C eX1_ink_30 ?_
          refine m_set_ld C (i := j) eX1_ink_31 rfl (by omega) ?_
          rw [inkS_j]
          refine j_ifneB C eX1_ink_32 (fun c32 => ?_) (fun c32 => ?_)
          · refine j_iconst C eX1_ink_39 ?_
            exact j_val (by first | exact zI_of_t (decide_eq_true (Or.inl (by omega))) | exact zI_of_t (decide_eq_true (Or.inr ⟨by omega, c32⟩)) | exact zI_of_f (decide_eq_false (fun q => by first | omega | (rw [c32] at q; simp at q; omega)))) (t40 _)
          · refine j_iconst C eX1_ink_35 ?_
            refine j_goto C eX1_ink_36 ?_
            exact j_val (by first | exact zI_of_t (decide_eq_true (Or.inl (by omega))) | exact zI_of_t (decide_eq_true (Or.inr ⟨by omega, c32⟩)) | exact zI_of_f (decide_eq_false (fun q => by first | omega | (rw [c32] at q; simp at q; omega)))) (t40 _)
theorem cm_ink (ad : Nat → Nat) (dc : Nat → ClassId) (S G : Nat → Bool) (pen : Int) (hp : 0 ≤ pen ∧ pen ≤ 2) : gX1_ink dc [.ref (ad 0)] (mW ad dc S G pen) (pI (mW ad dc (inkS pen S G 576) G pen) (iI (inkN pen S G 576 : Int))) := by
  refine mG_of (own := RX1) (lv := [some (.ref (ad 0)), none, none, none]) (by decide) rfl (jIn_b [.ref (ad 0)] 3 rfl) ?_
  intro X C E
  refine j_iconst C eX1_ink_0 ?_
  refine j_is1 C eX1_ink_1 (by decide) ?_
  refine j_iconst C eX1_ink_2 ?_
  refine j_is2 C eX1_ink_3 (by decide) ?_
  have k := mink_loop ad dc S G pen hp C E 577 0 none (by omega) (by omega)
  rw [inkS_0] at k
  exact k
theorem mcount_loop {X : jX} (ad : Nat → Nat) (dc : Nat → ClassId) (S G : Nat → Bool) (pen : Int) (C : jC X cX1_count RX1 3 (mTy dc) 0 0) (E : jE X cX1_count (some .int) (pI (mW ad dc S G pen) (iI (cnt S 576 : Int)))) : ∀ (n j : Nat), 576 < j + n → j ≤ 576 → J X (mW ad dc S G pen) 4 [some (.ref (ad 0)), some (.int (iI (cnt S j : Int))), some (.int (iI (j : Int)))] [] := by
  intro n
  induction n with
  | zero => intro j h1 h2; omega
  | succ n ih =>
    intro j h1 h2
    refine j_il2 C eX1_count_4 ?_
    refine j_sipush C eX1_count_5 (by decide) ?_
    refine j_cge C eX1_count_8 (by omega) (by omega) (fun c8 => ?_) (fun c8 => ?_)
    · obtain rfl : j = 576 := by omega
      refine j_il1 C eX1_count_29 ?_
      exact j_iret E eX1_count_30 ⟨rfl, rfl⟩
    · refine j_al0 C eX1_count_11 ?_
      refine m_get_set C eX1_count_12 ?_
      refine j_il2 C eX1_count_15 ?_
      refine m_set_ld C (i := j) eX1_count_16 rfl (by omega) ?_
      refine j_ifeqB C eX1_count_17 (fun c17 => ?_) (fun c17 => ?_)
      · rw [show (cnt S j : Int) = (cnt S (j + 1) : Int) from by rw [cnt, c17]; rfl]
        refine j_inc2 C eX1_count_23 (by decide) ?_
        refine j_goto C eX1_count_26 ?_
        exact ih (j + 1) (by omega) (by omega)
      · refine j_inc1 C eX1_count_20 (by decide) ?_
        rw [show (cnt S j : Int) + 1 = (cnt S (j + 1) : Int) from by rw [cnt, c17]; rfl]
        refine j_inc2 C eX1_count_23 (by decide) ?_
        refine j_goto C eX1_count_26 ?_
        exact ih (j + 1) (by omega) (by omega)
theorem cm_count (ad : Nat → Nat) (dc : Nat → ClassId) (S G : Nat → Bool) (pen : Int)  : gX1_count dc [.ref (ad 0)] (mW ad dc S G pen) (pI (mW ad dc S G pen) (iI (cnt S 576 : Int))) := by
  refine mG_of (own := RX1) (lv := [some (.ref (ad 0)), none, none]) (by decide) rfl (jIn_b [.ref (ad 0)] 2 rfl) ?_
  intro X C E
  refine j_iconst C eX1_count_0 ?_
  refine j_is1 C eX1_count_1 (by decide) ?_
  refine j_iconst C eX1_count_2 ?_
  refine j_is2 C eX1_count_3 (by decide) ?_
  exact mcount_loop ad dc S G pen C E 577 0 (by omega) (by omega)
def mgetV (S : Nat → Bool) (z : Int) : Int := if isPx z = true then zI (S (24 * (z / 32) + z % 32).toNat) else -1
theorem cm_get (ad : Nat → Nat) (dc : Nat → ClassId) (S G : Nat → Bool) (pen : Int) (z : Int) (h1 : -2147483648 ≤ z) (h2 : z < 2147483648) : gX1_get dc [.ref (ad 0), .int (iI z)] (mW ad dc S G pen) (pI (mW ad dc S G pen) (iI (mgetV S z))) := by
  refine mG_of (own := RX1) (lv := [some (.ref (ad 0)), some (.int (iI z))]) (by decide) rfl (jIn_b [.ref (ad 0), .int (iI z)] 0 rfl) ?_
  intro X C E
  refine j_al0 C eX1_get_0 ?_
  refine j_il1 C eX1_get_1 ?_
  refine m_callI C kX1_28 (cm_isPixel _ _ _ _ _ _ h1 h2) (by decide) rfl rfl (Nat.le_of_ble_eq_true rfl) eX1_get_2 ?_
  refine j_ifneB C eX1_get_5 (fun c5 => ?_) (fun c5 => ?_)
  · have hz : 0 ≤ z ∧ z % 32 < 24 ∧ z / 32 < 24 := of_decide_eq_true c5
    obtain ⟨k, hk⟩ := Int.eq_ofNat_of_zero_le (show 0 ≤ 24 * (z / 32) + z % 32 by omega)
    refine j_al0 C eX1_get_10 ?_
    refine m_get_set C eX1_get_11 ?_
    refine j_bipush C eX1_get_14 (by decide) ?_
    refine j_il1 C eX1_get_16 ?_
    refine j_bipush C eX1_get_17 (by decide) ?_
    refine j_idiv C eX1_get_19 (by omega) (by omega) (by omega) (by omega) ?_
    refine j_imul C eX1_get_20 ?_
    refine j_il1 C eX1_get_21 ?_
    refine j_bipush C eX1_get_22 (by decide) ?_
    refine j_irem C eX1_get_24 (by omega) (by omega) (by omega) (by omega) ?_
    refine j_iadd C eX1_get_25 ?_
    refine m_set_ld C (i := k) eX1_get_26 hk (by omega) ?_
    refine j_ifeqB C eX1_get_27 (fun c27 => ?_) (fun c27 => ?_)
    · refine j_iconst C eX1_get_34 ?_
      exact j_iretv E eX1_get_35 (by unfold mgetV; rw [if_pos c5, hk, show ((k : Nat) : Int).toNat = k from rfl, c27]; rfl) ⟨rfl, rfl⟩
    · refine j_iconst C eX1_get_30 ?_
      refine j_goto C eX1_get_31 ?_
      exact j_iretv E eX1_get_35 (by unfold mgetV; rw [if_pos c5, hk, show ((k : Nat) : Int).toNat = k from rfl, c27]; rfl) ⟨rfl, rfl⟩
  · refine j_iconst C eX1_get_8 ?_
    exact j_iretv E eX1_get_9 (by unfold mgetV; rw [if_neg (by rw [c5]; decide)]) ⟨rfl, rfl⟩
def rowS (S : Nat → Bool) (y j : Nat) : Nat → Bool := fun i => decide (i < j) && S (24 * y + i)
theorem rowS_f (S : Nat → Bool) (y j : Nat) (h : S (24 * y + j) = false) : rowS S y j = rowS S y (j + 1) := by
  funext i
  unfold rowS
  by_cases e : i = j
  · subst e; rw [h]; simp
  · rw [decide_eq_decide.mpr (show i < j ↔ i < j + 1 by omega)]
theorem rowS_t (S : Nat → Bool) (y j : Nat) (h : S (24 * y + j) = true) : (fun i => rowS S y j i || decide (i = j)) = rowS S y (j + 1) := by
  funext i
  unfold rowS
  by_cases e : i = j
  · subst e; rw [h]; simp
  · rw [decide_eq_decide.mpr (show i < j ↔ i < j + 1 by omega), decide_eq_false e, Bool.or_false]
def mrowV (S : Nat → Bool) (z : Int) : Int32 := if 0 ≤ z ∧ z < 24 then bI (rowS S z.toNat 24) else iI (-1)
theorem mrow_loop {X : jX} (ad : Nat → Nat) (dc : Nat → ClassId) (S G : Nat → Bool) (pen : Int) (y : Nat) (hy : y < 24) (C : jC X cX1_row RX1 4 (mTy dc) 0 0) (E : jE X cX1_row (some .int) (pI (mW ad dc S G pen) (bI (rowS S y 24)))) : ∀ (n j : Nat), 24 < j + n → j ≤ 24 → J X (mW ad dc S G pen) 16 [some (.ref (ad 0)), some (.int (iI (y : Int))), some (.int (bI (rowS S y j))), some (.int (iI (j : Int)))] [] := by
  intro n
  induction n with
  | zero => intro j h1 h2; omega
  | succ n ih =>
    intro j h1 h2
    refine j_il3 C eX1_row_16 ?_
    refine j_bipush C eX1_row_17 (by decide) ?_
    refine j_cge C eX1_row_19 (by omega) (by omega) (fun c19 => ?_) (fun c19 => ?_)
    · obtain rfl : j = 24 := by omega
      refine j_il2 C eX1_row_48 ?_
      exact j_iret E eX1_row_49 ⟨rfl, rfl⟩
    · refine j_al0 C eX1_row_22 ?_
      refine m_get_set C eX1_row_23 ?_
      refine j_bipush C eX1_row_26 (by decide) ?_
      refine j_il1 C eX1_row_28 ?_
      refine j_imul C eX1_row_29 ?_
      refine j_il3 C eX1_row_30 ?_
      refine j_iadd C eX1_row_31 ?_
      refine m_set_ld C (i := (24 * y + j)) eX1_row_32 (by omega) (by omega) ?_
      refine j_ifeqB C eX1_row_33 (fun c33 => ?_) (fun c33 => ?_)
      · rw [rowS_f S y j c33]
        refine j_inc3 C eX1_row_42 (by decide) ?_
        refine j_goto C eX1_row_45 ?_
        exact ih (j + 1) (by omega) (by omega)
      · refine j_il2 C eX1_row_36 ?_
        refine j_iconst C eX1_row_37 ?_
        refine j_il3 C eX1_row_38 ?_
        refine j_ishl C eX1_row_39 ?_
        refine j_val (bI_one j (by omega)) ?_
        refine j_ior C eX1_row_40 ?_
        refine j_val (bI_or _ _) ?_
        rw [rowS_t S y j c33]
        refine j_is2 C eX1_row_41 (by decide) ?_
        refine j_inc3 C eX1_row_42 (by decide) ?_
        refine j_goto C eX1_row_45 ?_
        exact ih (j + 1) (by omega) (by omega)
theorem cm_row (ad : Nat → Nat) (dc : Nat → ClassId) (S G : Nat → Bool) (pen : Int) (z : Int) (h1 : -2147483648 ≤ z) (h2 : z < 2147483648) : gX1_row dc [.ref (ad 0), .int (iI z)] (mW ad dc S G pen) (pI (mW ad dc S G pen) (mrowV S z)) := by
  refine mG_of (own := RX1) (lv := [some (.ref (ad 0)), some (.int (iI z)), none, none]) (by decide) rfl (jIn_b [.ref (ad 0), .int (iI z)] 2 rfl) ?_
  intro X C E
  refine j_il1 C eX1_row_0 ?_
  refine j_iflt C eX1_row_1 (by omega) (fun c1 => ?_) (fun c1 => ?_)
  · refine j_iconst C eX1_row_10 ?_
    exact j_iretv E eX1_row_11 (by unfold mrowV; rw [if_neg (by omega)]) ⟨rfl, rfl⟩
  · refine j_il1 C eX1_row_4 ?_
    refine j_bipush C eX1_row_5 (by decide) ?_
    refine j_cle C eX1_row_7 (by omega) (by omega) (fun c7 => ?_) (fun c7 => ?_)
    · obtain ⟨y, rfl⟩ := Int.eq_ofNat_of_zero_le c1
      rw [show mrowV S (y : Int) = bI (rowS S y 24) from by unfold mrowV; rw [if_pos (by omega)]; rfl] at E
      refine j_iconst C eX1_row_12 ?_
      refine j_val (show iI 0 = bI (rowS S y 0) from by rw [← bI_0]; exact bI_ext (fun i _ => rfl)) ?_
      refine j_is2 C eX1_row_13 (by decide) ?_
      refine j_iconst C eX1_row_14 ?_
      refine j_is3 C eX1_row_15 (by decide) ?_
      exact mrow_loop ad dc S G pen y (by omega) C E 25 0 (by omega) (by omega)
    · refine j_iconst C eX1_row_10 ?_
      exact j_iretv E eX1_row_11 (by unfold mrowV; rw [if_neg (by omega)]) ⟨rfl, rfl⟩
end
section
def setG (f G : Nat → Bool) (j : Nat) : Nat → Bool := fun k => if k < j then f k else G k
theorem setG_0 (f G : Nat → Bool) : setG f G 0 = G := by funext k; simp [setG]
theorem setG_s (f G : Nat → Bool) (j : Nat) : up (setG f G j) j (f j) = setG f G (j + 1) := by
  funext k
  unfold up setG
  by_cases e : k = j
  · subst e
    rw [if_pos rfl, if_pos (by omega)]
  · by_cases e2 : k < j
    · rw [if_neg e, if_pos e2, if_pos (by omega)]
    · rw [if_neg e, if_neg e2, if_neg (by omega)]
def lineB (z y : Int) (k : Nat) : Bool := onLineB ((k : Int) % 24) ((k : Int) / 24) (z % 32) (z / 32) (y % 32) (y / 32)
def discB (z r : Int) (k : Nat) : Bool := decide (((k : Int) % 24 - z % 32) * ((k : Int) % 24 - z % 32) + ((k : Int) / 24 - z / 32) * ((k : Int) / 24 - z / 32) ≤ r * r)
def ringB (z r : Int) (k : Nat) : Bool := onArcB ((k : Int) % 24 - z % 32) ((k : Int) / 24 - z / 32) r || onArcB ((k : Int) / 24 - z / 32) ((k : Int) % 24 - z % 32) r
def blotB (z p q : Int) (k : Nat) : Bool := decide (q * q * ((k : Int) % 24 - z % 32) * ((k : Int) % 24 - z % 32) + p * p * ((k : Int) / 24 - z / 32) * ((k : Int) / 24 - z / 32) ≤ p * p * q * q)
def trigB (p q r : Int) (k : Nat) : Bool := inTriB ((k : Int) % 24) ((k : Int) / 24) p q r
theorem mline_loop {X : jX} (ad : Nat → Nat) (dc : Nat → ClassId) (S G : Nat → Bool) (pen : Int) (hp : 0 ≤ pen ∧ pen ≤ 2) (z y : Int) (hz : 0 ≤ z ∧ z % 32 < 24 ∧ z / 32 < 24) (hy : 0 ≤ y ∧ y % 32 < 24 ∧ y / 32 < 24) (C : jC X cX1_line RX1 4 (mTy dc) 2 54) (E : jE X cX1_line (some .int) (pI (mW ad dc (inkS pen S (setG (lineB z y) G 576) 576) (setG (lineB z y) G 576) pen) (iI (inkN pen S (setG (lineB z y) G 576) 576 : Int)))) : ∀ (n j : Nat), 576 < j + n → j ≤ 576 → J X (mW ad dc S (setG (lineB z y) G j) pen) 20 [some (.ref (ad 0)), some (.int (iI z)), some (.int (iI y)), some (.int (iI (j : Int)))] [] := by
  intro n
  induction n with
  | zero => intro j h1 h2; omega
  | succ n ih =>
    intro j h1 h2
    refine j_il3 C eX1_line_20 ?_
    refine j_sipush C eX1_line_21 (by decide) ?_
    refine j_cge C eX1_line_24 (by omega) (by omega) (fun c24 => ?_) (fun c24 => ?_)
    · obtain rfl : j = 576 := by omega
      refine j_al0 C eX1_line_67 ?_
      refine m_callI C kX1_35 (cm_ink _ _ _ _ _ hp) (by decide) rfl rfl (Nat.le_of_ble_eq_true rfl) eX1_line_68 ?_
      exact j_iret E eX1_line_71 ⟨rfl, rfl⟩
    · refine j_al0 C eX1_line_27 ?_
      refine m_get_fig C eX1_line_28 ?_
      refine j_il3 C eX1_line_31 ?_
      refine j_al0 C eX1_line_32 ?_
      refine j_il3 C eX1_line_33 ?_
      refine j_bipush C eX1_line_34 (by decide) ?_
      refine j_irem C eX1_line_36 (by omega) (by omega) (by omega) (by omega) ?_
      refine j_il3 C eX1_line_37 ?_
      refine j_bipush C eX1_line_38 (by decide) ?_
      refine j_idiv C eX1_line_40 (by omega) (by omega) (by omega) (by omega) ?_
      refine j_il1 C eX1_line_41 ?_
      refine j_bipush C eX1_line_42 (by decide) ?_
      refine j_irem C eX1_line_44 (by omega) (by omega) (by omega) (by omega) ?_
      refine j_il1 C eX1_line_45 ?_
      refine j_bipush C eX1_line_46 (by decide) ?_
      refine j_idiv C eX1_line_48 (by omega) (by omega) (by omega) (by omega) ?_
      refine j_il2 C eX1_line_49 ?_
      refine j_bipush C eX1_line_50 (by decide) ?_
      refine j_irem C eX1_line_52 (by omega) (by omega) (by omega) (by omega) ?_
      refine j_il2 C eX1_line_53 ?_
      refine j_bipush C eX1_line_54 (by decide) ?_
      refine j_idiv C eX1_line_56 (by omega) (by omega) (by omega) (by omega) ?_
      refine m_callI C kX1_32 (cm_onLine _ _ _ _ _ _ _ _ _ _ _ (by omega) (by omega) (by omega) (by omega) (by omega) (by omega)) (by decide) rfl rfl (Nat.le_of_ble_eq_true rfl) eX1_line_57 ?_
      refine m_fig_st C (i := j) eX1_line_60 rfl (by omega) ?_
      rw [show onLineB _ _ _ _ _ _ = lineB z y j from rfl, setG_s]
      refine j_inc3 C eX1_line_61 (by decide) ?_
      refine j_goto C eX1_line_64 ?_
      exact ih (j + 1) (by omega) (by omega)
theorem cm_line (ad : Nat → Nat) (dc : Nat → ClassId) (S G : Nat → Bool) (pen : Int) (hp : 0 ≤ pen ∧ pen ≤ 2) (z y : Int) (kz : -2147483648 ≤ z ∧ z < 2147483648) (ky : -2147483648 ≤ y ∧ y < 2147483648) : gX1_line dc [.ref (ad 0), .int (iI z), .int (iI y)] (mW ad dc S G pen) (pI (mW ad dc (if isPx z = true ∧ isPx y = true then inkS pen S (setG (lineB z y) G 576) 576 else S) (if isPx z = true ∧ isPx y = true then (setG (lineB z y) G 576) else G) pen) (iI (if isPx z = true ∧ isPx y = true then (inkN pen S (setG (lineB z y) G 576) 576 : Int) else -1))) := by
  refine mG_of (own := RX1) (lv := [some (.ref (ad 0)), some (.int (iI z)), some (.int (iI y)), none]) (by decide) rfl (jIn_b [.ref (ad 0), .int (iI z), .int (iI y)] 1 rfl) ?_
  intro X C E
  refine j_al0 C eX1_line_0 ?_
  refine j_il1 C eX1_line_1 ?_
  refine m_callI C kX1_28 (cm_isPixel _ _ _ _ _ _ kz.1 kz.2) (by decide) rfl rfl (Nat.le_of_ble_eq_true rfl) eX1_line_2 ?_
  refine j_ifeqB C eX1_line_5 (fun c5 => ?_) (fun c5 => ?_)
  · refine j_iconst C eX1_line_16 ?_
    exact j_iretv E eX1_line_17 (by rw [if_neg (by rw [c5]; simp)]) ⟨by rw [if_neg (by rw [c5]; simp), if_neg (by rw [c5]; simp)], rfl⟩
  · refine j_al0 C eX1_line_8 ?_
    refine j_il2 C eX1_line_9 ?_
    refine m_callI C kX1_28 (cm_isPixel _ _ _ _ _ _ ky.1 ky.2) (by decide) rfl rfl (Nat.le_of_ble_eq_true rfl) eX1_line_10 ?_
    refine j_ifneB C eX1_line_13 (fun c13 => ?_) (fun c13 => ?_)
    · have hz : 0 ≤ z ∧ z % 32 < 24 ∧ z / 32 < 24 := of_decide_eq_true c5
      have hy : 0 ≤ y ∧ y % 32 < 24 ∧ y / 32 < 24 := of_decide_eq_true c13
      rw [if_pos ⟨c5, c13⟩, if_pos ⟨c5, c13⟩, if_pos ⟨c5, c13⟩] at E
      refine j_iconst C eX1_line_18 ?_
      refine j_is3 C eX1_line_19 (by decide) ?_
      have k := mline_loop ad dc S G pen hp z y hz hy C E 577 0 (by omega) (by omega)
      rw [setG_0] at k
      exact k
    · refine j_iconst C eX1_line_16 ?_
      exact j_iretv E eX1_line_17 (by rw [if_neg (by rw [c13]; simp)]) ⟨by rw [if_neg (by rw [c13]; simp), if_neg (by rw [c13]; simp)], rfl⟩
theorem cm_disc_loop {X : jX} (ad : Nat → Nat) (dc : Nat → ClassId) (S G : Nat → Bool) (pen : Int) (hp : 0 ≤ pen ∧ pen ≤ 2) (z r : Int) (hz : 0 ≤ z ∧ z % 32 < 24 ∧ z / 32 < 24) (hr : 0 ≤ r ∧ r ≤ 30) (C : jC X cX1_disc RX1 6 (mTy dc) 2 43) (E : jE X cX1_disc (some .int) (pI (mW ad dc (inkS pen S (setG (discB z r) G 576) 576) (setG (discB z r) G 576) pen) (iI (inkN pen S (setG (discB z r) G 576) 576 : Int)))) : ∀ (n j : Nat) (v4 : Option Value) (v5 : Option Value), 576 < j + n → j ≤ 576 → J X (mW ad dc S (setG (discB z r) G j) pen) 13 [some (.ref (ad 0)), some (.int (iI z)), some (.int (iI r)), some (.int (iI (j : Int))), v4, v5] [] := by
  intro n
  induction n with
  | zero => intro j v4 v5 h1 h2; omega
  | succ n ih =>
    intro j v4 v5 h1 h2
    refine j_il3 C eX1_disc_13 ?_
    refine j_sipush C eX1_disc_14 (by decide) ?_
    refine j_cge C eX1_disc_17 (by omega) (by omega) (fun c17 => ?_) (fun c17 => ?_)
    · obtain rfl : j = 576 := by omega
      refine j_al0 C eX1_disc_76 ?_
      refine m_callI C kX1_35 (cm_ink _ _ _ _ _ hp) (by decide) rfl rfl (Nat.le_of_ble_eq_true rfl) eX1_disc_77 ?_
      exact j_iret E eX1_disc_80 ⟨rfl, rfl⟩
    · have r1 := ab_le (a := (j : Int) % 24 - z % 32) (b := (j : Int) % 24 - z % 32) (by omega) (by omega) (by omega) (by omega)
      have r2 := ab_le (a := (j : Int) / 24 - z / 32) (b := (j : Int) / 24 - z / 32) (by omega) (by omega) (by omega) (by omega)
      have r3 := sq_le hr.1 hr.2
      refine j_il3 C eX1_disc_20 ?_
      refine j_bipush C eX1_disc_21 (by decide) ?_
      refine j_irem C eX1_disc_23 (by omega) (by omega) (by omega) (by omega) ?_
      refine j_il1 C eX1_disc_24 ?_
      refine j_bipush C eX1_disc_25 (by decide) ?_
      refine j_irem C eX1_disc_27 (by omega) (by omega) (by omega) (by omega) ?_
      refine j_isub C eX1_disc_28 ?_
      refine j_is4 C eX1_disc_29 (by decide) ?_
      refine j_il3 C eX1_disc_31 ?_
      refine j_bipush C eX1_disc_32 (by decide) ?_
      refine j_idiv C eX1_disc_34 (by omega) (by omega) (by omega) (by omega) ?_
      refine j_il1 C eX1_disc_35 ?_
      refine j_bipush C eX1_disc_36 (by decide) ?_
      refine j_idiv C eX1_disc_38 (by omega) (by omega) (by omega) (by omega) ?_
      refine j_isub C eX1_disc_39 ?_
      refine j_is5 C eX1_disc_40 (by decide) ?_
      refine j_al0 C eX1_disc_42 ?_
      refine m_get_fig C eX1_disc_43 ?_
      refine j_il3 C eX1_disc_46 ?_
      refine j_il4 C eX1_disc_47 ?_
      refine j_il4 C eX1_disc_49 ?_
      refine j_imul C eX1_disc_51 ?_
      refine j_il5 C eX1_disc_52 ?_
      refine j_il5 C eX1_disc_54 ?_
      refine j_imul C eX1_disc_56 ?_
      refine j_iadd C eX1_disc_57 ?_
      refine j_il2 C eX1_disc_58 ?_
      refine j_il2 C eX1_disc_59 ?_
      refine j_imul C eX1_disc_60 ?_
      refine j_cgt C eX1_disc_61 (by omega) (by omega) (fun c61 => ?_) (fun c61 => ?_)
      · refine j_iconst C eX1_disc_68 ?_
        refine j_val (y := iI (zI (discB z r j))) (by first | exact zI_of_t (decide_eq_true (by omega)) | exact zI_of_f (decide_eq_false (by omega))) ?_
        refine m_fig_st C (i := j) eX1_disc_69 rfl (by omega) ?_
        rw [setG_s]
        refine j_inc3 C eX1_disc_70 (by decide) ?_
        refine j_goto C eX1_disc_73 ?_
        exact ih (j + 1) _ _ (by omega) (by omega)
      · refine j_iconst C eX1_disc_64 ?_
        refine j_goto C eX1_disc_65 ?_
        refine j_val (y := iI (zI (discB z r j))) (by first | exact zI_of_t (decide_eq_true (by omega)) | exact zI_of_f (decide_eq_false (by omega))) ?_
        refine m_fig_st C (i := j) eX1_disc_69 rfl (by omega) ?_
        rw [setG_s]
        refine j_inc3 C eX1_disc_70 (by decide) ?_
        refine j_goto C eX1_disc_73 ?_
        exact ih (j + 1) _ _ (by omega) (by omega)
theorem cm_disc (ad : Nat → Nat) (dc : Nat → ClassId) (S G : Nat → Bool) (pen : Int) (hp : 0 ≤ pen ∧ pen ≤ 2) (z r : Int) (kz : -2147483648 ≤ z ∧ z < 2147483648) (kr : -2147483648 ≤ r ∧ r < 2147483648) : gX1_disc dc [.ref (ad 0), .int (iI z), .int (iI r)] (mW ad dc S G pen) (pI (mW ad dc (if isPx z = true ∧ 0 ≤ r ∧ r ≤ 30 then inkS pen S (setG (discB z r) G 576) 576 else S) (if isPx z = true ∧ 0 ≤ r ∧ r ≤ 30 then (setG (discB z r) G 576) else G) pen) (iI (if isPx z = true ∧ 0 ≤ r ∧ r ≤ 30 then (inkN pen S (setG (discB z r) G 576) 576 : Int) else -1))) := by
  refine mG_of (own := RX1) (lv := [some (.ref (ad 0)), some (.int (iI z)), some (.int (iI r)), none, none, none]) (by decide) rfl (jIn_b [.ref (ad 0), .int (iI z), .int (iI r)] 3 rfl) ?_
  intro X C E
  refine j_al0 C eX1_disc_0 ?_
  refine j_il1 C eX1_disc_1 ?_
  refine j_il2 C eX1_disc_2 ?_
  refine m_callI C kX1_39 (cm_isRound _ _ _ _ _ _ _ kz kr) (by decide) rfl rfl (Nat.le_of_ble_eq_true rfl) eX1_disc_3 ?_
  refine j_ifneB C eX1_disc_6 (fun c6 => ?_) (fun c6 => ?_)
  · have c7 : isPx z = true ∧ 0 ≤ r ∧ r ≤ 30 := of_decide_eq_true c6
    have hz : 0 ≤ z ∧ z % 32 < 24 ∧ z / 32 < 24 := of_decide_eq_true c7.1
    rw [if_pos c7, if_pos c7, if_pos c7] at E
    refine j_iconst C eX1_disc_11 ?_
    refine j_is3 C eX1_disc_12 (by decide) ?_
    have k := cm_disc_loop ad dc S G pen hp z r hz c7.2 C E 577 0 none none (by omega) (by omega)
    rw [setG_0] at k
    exact k
  · have c7 : ¬ (isPx z = true ∧ 0 ≤ r ∧ r ≤ 30) := of_decide_eq_false c6
    refine j_iconst C eX1_disc_9 ?_
    exact j_iretv E eX1_disc_10 (by rw [if_neg c7]) ⟨by rw [if_neg c7, if_neg c7], rfl⟩
theorem cm_ring_loop {X : jX} (ad : Nat → Nat) (dc : Nat → ClassId) (S G : Nat → Bool) (pen : Int) (hp : 0 ≤ pen ∧ pen ≤ 2) (z r : Int) (hz : 0 ≤ z ∧ z % 32 < 24 ∧ z / 32 < 24) (hr : 0 ≤ r ∧ r ≤ 30) (C : jC X cX1_ring RX1 6 (mTy dc) 2 46) (E : jE X cX1_ring (some .int) (pI (mW ad dc (inkS pen S (setG (ringB z r) G 576) 576) (setG (ringB z r) G 576) pen) (iI (inkN pen S (setG (ringB z r) G 576) 576 : Int)))) : ∀ (n j : Nat) (v4 : Option Value) (v5 : Option Value), 576 < j + n → j ≤ 576 → J X (mW ad dc S (setG (ringB z r) G j) pen) 13 [some (.ref (ad 0)), some (.int (iI z)), some (.int (iI r)), some (.int (iI (j : Int))), v4, v5] [] := by
  intro n
  induction n with
  | zero => intro j v4 v5 h1 h2; omega
  | succ n ih =>
    intro j v4 v5 h1 h2
    refine j_il3 C eX1_ring_13 ?_
    refine j_sipush C eX1_ring_14 (by decide) ?_
    refine j_cge C eX1_ring_17 (by omega) (by omega) (fun c17 => ?_) (fun c17 => ?_)
    · obtain rfl : j = 576 := by omega
      refine j_al0 C eX1_ring_83 ?_
      refine m_callI C kX1_35 (cm_ink _ _ _ _ _ hp) (by decide) rfl rfl (Nat.le_of_ble_eq_true rfl) eX1_ring_84 ?_
      exact j_iret E eX1_ring_87 ⟨rfl, rfl⟩
    · have r1 := ab_le (a := (j : Int) % 24 - z % 32) (b := (j : Int) % 24 - z % 32) (by omega) (by omega) (by omega) (by omega)
      have r2 := ab_le (a := (j : Int) / 24 - z / 32) (b := (j : Int) / 24 - z / 32) (by omega) (by omega) (by omega) (by omega)
      have r3 := sq_le hr.1 hr.2
      refine j_il3 C eX1_ring_20 ?_
      refine j_bipush C eX1_ring_21 (by decide) ?_
      refine j_irem C eX1_ring_23 (by omega) (by omega) (by omega) (by omega) ?_
      refine j_il1 C eX1_ring_24 ?_
      refine j_bipush C eX1_ring_25 (by decide) ?_
      refine j_irem C eX1_ring_27 (by omega) (by omega) (by omega) (by omega) ?_
      refine j_isub C eX1_ring_28 ?_
      refine j_is4 C eX1_ring_29 (by decide) ?_
      refine j_il3 C eX1_ring_31 ?_
      refine j_bipush C eX1_ring_32 (by decide) ?_
      refine j_idiv C eX1_ring_34 (by omega) (by omega) (by omega) (by omega) ?_
      refine j_il1 C eX1_ring_35 ?_
      refine j_bipush C eX1_ring_36 (by decide) ?_
      refine j_idiv C eX1_ring_38 (by omega) (by omega) (by omega) (by omega) ?_
      refine j_isub C eX1_ring_39 ?_
      refine j_is5 C eX1_ring_40 (by decide) ?_
      refine j_al0 C eX1_ring_42 ?_
      refine m_get_fig C eX1_ring_43 ?_
      refine j_il3 C eX1_ring_46 ?_
      refine j_al0 C eX1_ring_47 ?_
      refine j_il4 C eX1_ring_48 ?_
      refine j_il5 C eX1_ring_50 ?_
      refine j_il2 C eX1_ring_52 ?_
      refine m_callI C kX1_43 (cm_onArc _ _ _ _ _ _ _ _ (by omega) (by omega) hr) (by decide) rfl rfl (Nat.le_of_ble_eq_true rfl) eX1_ring_53 ?_
      refine j_ifneB C eX1_ring_56 (fun c56 => ?_) (fun c56 => ?_)
      · refine j_iconst C eX1_ring_71 ?_
        refine j_goto C eX1_ring_72 ?_
        refine j_val (y := iI (zI (ringB z r j))) (by first | exact zI_of_t (by unfold ringB; rw [c56, c68]; rfl) | exact zI_of_f (by unfold ringB; rw [c56, c68]; rfl) | exact zI_of_t (by unfold ringB; rw [c56]; rfl)) ?_
        refine m_fig_st C (i := j) eX1_ring_76 rfl (by omega) ?_
        rw [setG_s]
        refine j_inc3 C eX1_ring_77 (by decide) ?_
        refine j_goto C eX1_ring_80 ?_
        exact ih (j + 1) _ _ (by omega) (by omega)
      · refine j_al0 C eX1_ring_59 ?_
        refine j_il5 C eX1_ring_60 ?_
        refine j_il4 C eX1_ring_62 ?_
        refine j_il2 C eX1_ring_64 ?_
        refine m_callI C kX1_43 (cm_onArc _ _ _ _ _ _ _ _ (by omega) (by omega) hr) (by decide) rfl rfl (Nat.le_of_ble_eq_true rfl) eX1_ring_65 ?_
        refine j_ifeqB C eX1_ring_68 (fun c68 => ?_) (fun c68 => ?_)
        · refine j_iconst C eX1_ring_75 ?_
          refine j_val (y := iI (zI (ringB z r j))) (by first | exact zI_of_t (by unfold ringB; rw [c56, c68]; rfl) | exact zI_of_f (by unfold ringB; rw [c56, c68]; rfl) | exact zI_of_t (by unfold ringB; rw [c56]; rfl)) ?_
          refine m_fig_st C (i := j) eX1_ring_76 rfl (by omega) ?_
          rw [setG_s]
          refine j_inc3 C eX1_ring_77 (by decide) ?_
          refine j_goto C eX1_ring_80 ?_
          exact ih (j + 1) _ _ (by omega) (by omega)
        · refine j_iconst C eX1_ring_71 ?_
          refine j_goto C eX1_ring_72 ?_
          refine j_val (y := iI (zI (ringB z r j))) (by first | exact zI_of_t (by unfold ringB; rw [c56, c68]; rfl) | exact zI_of_f (by unfold ringB; rw [c56, c68]; rfl) | exact zI_of_t (by unfold ringB; rw [c56]; rfl)) ?_
          refine m_fig_st C (i := j) eX1_ring_76 rfl (by omega) ?_
          rw [setG_s]
          refine j_inc3 C eX1_ring_77 (by decide) ?_
          refine j_goto C eX1_ring_80 ?_
          exact ih (j + 1) _ _ (by omega) (by omega)
theorem cm_ring (ad : Nat → Nat) (dc : Nat → ClassId) (S G : Nat → Bool) (pen : Int) (hp : 0 ≤ pen ∧ pen ≤ 2) (z r : Int) (kz : -2147483648 ≤ z ∧ z < 2147483648) (kr : -2147483648 ≤ r ∧ r < 2147483648) : gX1_ring dc [.ref (ad 0), .int (iI z), .int (iI r)] (mW ad dc S G pen) (pI (mW ad dc (if isPx z = true ∧ 0 ≤ r ∧ r ≤ 30 then inkS pen S (setG (ringB z r) G 576) 576 else S) (if isPx z = true ∧ 0 ≤ r ∧ r ≤ 30 then (setG (ringB z r) G 576) else G) pen) (iI (if isPx z = true ∧ 0 ≤ r ∧ r ≤ 30 then (inkN pen S (setG (ringB z r) G 576) 576 : Int) else -1))) := by
  refine mG_of (own := RX1) (lv := [some (.ref (ad 0)), some (.int (iI z)), some (.int (iI r)), none, none, none]) (by decide) rfl (jIn_b [.ref (ad 0), .int (iI z), .int (iI r)] 3 rfl) ?_
  intro X C E
  refine j_al0 C eX1_ring_0 ?_
  refine j_il1 C eX1_ring_1 ?_
  refine j_il2 C eX1_ring_2 ?_
  refine m_callI C kX1_39 (cm_isRound _ _ _ _ _ _ _ kz kr) (by decide) rfl rfl (Nat.le_of_ble_eq_true rfl) eX1_ring_3 ?_
  refine j_ifneB C eX1_ring_6 (fun c6 => ?_) (fun c6 => ?_)
  · have c7 : isPx z = true ∧ 0 ≤ r ∧ r ≤ 30 := of_decide_eq_true c6
    have hz : 0 ≤ z ∧ z % 32 < 24 ∧ z / 32 < 24 := of_decide_eq_true c7.1
    rw [if_pos c7, if_pos c7, if_pos c7] at E
    refine j_iconst C eX1_ring_11 ?_
    refine j_is3 C eX1_ring_12 (by decide) ?_
    have k := cm_ring_loop ad dc S G pen hp z r hz c7.2 C E 577 0 none none (by omega) (by omega)
    rw [setG_0] at k
    exact k
  · have c7 : ¬ (isPx z = true ∧ 0 ≤ r ∧ r ≤ 30) := of_decide_eq_false c6
    refine j_iconst C eX1_ring_9 ?_
    exact j_iretv E eX1_ring_10 (by rw [if_neg c7]) ⟨by rw [if_neg c7, if_neg c7], rfl⟩
theorem qu_rng {q u : Int} (h0 : 0 ≤ q) (h1 : q ≤ 30) (h2 : -23 ≤ u) (h3 : u ≤ 23) : -1000000 ≤ q * q * u * u ∧ q * q * u * u ≤ 1000000 := by
  have e1 : q * q * u * u = q * q * (u.natAbs : Int) * (u.natAbs : Int) := by
    rcases Int.le_total 0 u with h | h
    · rw [show (u.natAbs : Int) = u by omega]
    · rw [show (u.natAbs : Int) = -u by omega]
      grind
  have := qq_rng (q := q) (x := (u.natAbs : Int)) h0 h1 (by omega) (by omega)
  omega
theorem mblot_loop {X : jX} (ad : Nat → Nat) (dc : Nat → ClassId) (S G : Nat → Bool) (pen : Int) (hp : 0 ≤ pen ∧ pen ≤ 2) (z p q : Int) (hz : 0 ≤ z ∧ z % 32 < 24 ∧ z / 32 < 24) (hp2 : 0 ≤ p ∧ p ≤ 30) (hq : 0 ≤ q ∧ q ≤ 30) (C : jC X cX1_blot RX1 7 (mTy dc) 2 43) (E : jE X cX1_blot (some .int) (pI (mW ad dc (inkS pen S (setG (blotB z p q) G 576) 576) (setG (blotB z p q) G 576) pen) (iI (inkN pen S (setG (blotB z p q) G 576) 576 : Int)))) : ∀ (n j : Nat) (v5 : Option Value) (v6 : Option Value), 576 < j + n → j ≤ 576 → J X (mW ad dc S (setG (blotB z p q) G j) pen) 23 [some (.ref (ad 0)), some (.int (iI z)), some (.int (iI p)), some (.int (iI q)), some (.int (iI (j : Int))), v5, v6] [] := by
  intro n
  induction n with
  | zero => intro j v5 v6 h1 h2; omega
  | succ n ih =>
    intro j v5 v6 h1 h2
    refine j_il4 C eX1_blot_23 ?_
    refine j_sipush C eX1_blot_25 (by decide) ?_
    refine j_cge C eX1_blot_28 (by omega) (by omega) (fun c28 => ?_) (fun c28 => ?_)
    · obtain rfl : j = 576 := by omega
      refine j_al0 C eX1_blot_102 ?_
      refine m_callI C kX1_35 (cm_ink _ _ _ _ _ hp) (by decide) rfl rfl (Nat.le_of_ble_eq_true rfl) eX1_blot_103 ?_
      exact j_iret E eX1_blot_106 ⟨rfl, rfl⟩
    · have r1 := qu_rng hq.1 hq.2 (show -23 ≤ (j : Int) % 24 - z % 32 by omega) (by omega)
      have r2 := qu_rng hp2.1 hp2.2 (show -23 ≤ (j : Int) / 24 - z / 32 by omega) (by omega)
      have r3 := qq_rng hp2.1 hp2.2 hq.1 (show q ≤ 31 by omega)
      refine j_il4 C eX1_blot_31 ?_
      refine j_bipush C eX1_blot_33 (by decide) ?_
      refine j_irem C eX1_blot_35 (by omega) (by omega) (by omega) (by omega) ?_
      refine j_il1 C eX1_blot_36 ?_
      refine j_bipush C eX1_blot_37 (by decide) ?_
      refine j_irem C eX1_blot_39 (by omega) (by omega) (by omega) (by omega) ?_
      refine j_isub C eX1_blot_40 ?_
      refine j_is5 C eX1_blot_41 (by decide) ?_
      refine j_il4 C eX1_blot_43 ?_
      refine j_bipush C eX1_blot_45 (by decide) ?_
      refine j_idiv C eX1_blot_47 (by omega) (by omega) (by omega) (by omega) ?_
      refine j_il1 C eX1_blot_48 ?_
      refine j_bipush C eX1_blot_49 (by decide) ?_
      refine j_idiv C eX1_blot_51 (by omega) (by omega) (by omega) (by omega) ?_
      refine j_isub C eX1_blot_52 ?_
      refine j_is6 C eX1_blot_53 (by decide) ?_
      refine j_al0 C eX1_blot_55 ?_
      refine m_get_fig C eX1_blot_56 ?_
      refine j_il4 C eX1_blot_59 ?_
      refine j_il3 C eX1_blot_61 ?_
      refine j_il3 C eX1_blot_62 ?_
      refine j_imul C eX1_blot_63 ?_
      refine j_il5 C eX1_blot_64 ?_
      refine j_imul C eX1_blot_66 ?_
      refine j_il5 C eX1_blot_67 ?_
      refine j_imul C eX1_blot_69 ?_
      refine j_il2 C eX1_blot_70 ?_
      refine j_il2 C eX1_blot_71 ?_
      refine j_imul C eX1_blot_72 ?_
      refine j_il6 C eX1_blot_73 ?_
      refine j_imul C eX1_blot_75 ?_
      refine j_il6 C eX1_blot_76 ?_
      refine j_imul C eX1_blot_78 ?_
      refine j_iadd C eX1_blot_79 ?_
      refine j_il2 C eX1_blot_80 ?_
      refine j_il2 C eX1_blot_81 ?_
      refine j_imul C eX1_blot_82 ?_
      refine j_il3 C eX1_blot_83 ?_
      refine j_imul C eX1_blot_84 ?_
      refine j_il3 C eX1_blot_85 ?_
      refine j_imul C eX1_blot_86 ?_
      refine j_cgt C eX1_blot_87 (by omega) (by omega) (fun c87 => ?_) (fun c87 => ?_)
      · refine j_iconst C eX1_blot_94 ?_
        refine j_val (y := iI (zI (blotB z p q j))) (by first | exact zI_of_t (decide_eq_true (by omega)) | exact zI_of_f (decide_eq_false (by omega))) ?_
        refine m_fig_st C (i := j) eX1_blot_95 rfl (by omega) ?_
        rw [setG_s]
        refine j_inc4 C eX1_blot_96 (by decide) ?_
        refine j_goto C eX1_blot_99 ?_
        exact ih (j + 1) _ _ (by omega) (by omega)
      · refine j_iconst C eX1_blot_90 ?_
        refine j_goto C eX1_blot_91 ?_
        refine j_val (y := iI (zI (blotB z p q j))) (by first | exact zI_of_t (decide_eq_true (by omega)) | exact zI_of_f (decide_eq_false (by omega))) ?_
        refine m_fig_st C (i := j) eX1_blot_95 rfl (by omega) ?_
        rw [setG_s]
        refine j_inc4 C eX1_blot_96 (by decide) ?_
        refine j_goto C eX1_blot_99 ?_
        exact ih (j + 1) _ _ (by omega) (by omega)
theorem cm_blot (ad : Nat → Nat) (dc : Nat → ClassId) (S G : Nat → Bool) (pen : Int) (hp : 0 ≤ pen ∧ pen ≤ 2) (z p q : Int) (kz : -2147483648 ≤ z ∧ z < 2147483648) (kp : -2147483648 ≤ p ∧ p < 2147483648) (kq : -2147483648 ≤ q ∧ q < 2147483648) : gX1_blot dc [.ref (ad 0), .int (iI z), .int (iI p), .int (iI q)] (mW ad dc S G pen) (pI (mW ad dc (if isPx z = true ∧ 0 ≤ p ∧ p ≤ 30 ∧ 0 ≤ q ∧ q ≤ 30 then inkS pen S (setG (blotB z p q) G 576) 576 else S) (if isPx z = true ∧ 0 ≤ p ∧ p ≤ 30 ∧ 0 ≤ q ∧ q ≤ 30 then (setG (blotB z p q) G 576) else G) pen) (iI (if isPx z = true ∧ 0 ≤ p ∧ p ≤ 30 ∧ 0 ≤ q ∧ q ≤ 30 then (inkN pen S (setG (blotB z p q) G 576) 576 : Int) else -1))) := by
  refine mG_of (own := RX1) (lv := [some (.ref (ad 0)), some (.int (iI z)), some (.int (iI p)), some (.int (iI q)), none, none, none]) (by decide) rfl (jIn_b [.ref (ad 0), .int (iI z), .int (iI p), .int (iI q)] 3 rfl) ?_
  intro X C E
  refine j_al0 C eX1_blot_0 ?_
  refine j_il1 C eX1_blot_1 ?_
  refine j_il2 C eX1_blot_2 ?_
  refine m_callI C kX1_39 (cm_isRound _ _ _ _ _ _ _ kz kp) (by decide) rfl rfl (Nat.le_of_ble_eq_true rfl) eX1_blot_3 ?_
  refine j_ifeqB C eX1_blot_6 (fun c6 => ?_) (fun c6 => ?_)
  · have c7 : ¬ (isPx z = true ∧ 0 ≤ p ∧ p ≤ 30) := of_decide_eq_false c6
    refine j_iconst C eX1_blot_18 ?_
    exact j_iretv E eX1_blot_19 (by rw [if_neg (fun h => c7 ⟨h.1, h.2.1, h.2.2.1⟩)]) ⟨by rw [if_neg (fun h => c7 ⟨h.1, h.2.1, h.2.2.1⟩), if_neg (fun h => c7 ⟨h.1, h.2.1, h.2.2.1⟩)], rfl⟩
  · have c7 : isPx z = true ∧ 0 ≤ p ∧ p ≤ 30 := of_decide_eq_true c6
    refine j_al0 C eX1_blot_9 ?_
    refine j_il1 C eX1_blot_10 ?_
    refine j_il3 C eX1_blot_11 ?_
    refine m_callI C kX1_39 (cm_isRound _ _ _ _ _ _ _ kz kq) (by decide) rfl rfl (Nat.le_of_ble_eq_true rfl) eX1_blot_12 ?_
    refine j_ifneB C eX1_blot_15 (fun c15 => ?_) (fun c15 => ?_)
    · have c16 : isPx z = true ∧ 0 ≤ q ∧ q ≤ 30 := of_decide_eq_true c15
      have hz : 0 ≤ z ∧ z % 32 < 24 ∧ z / 32 < 24 := of_decide_eq_true c16.1
      have c17 : isPx z = true ∧ 0 ≤ p ∧ p ≤ 30 ∧ 0 ≤ q ∧ q ≤ 30 := ⟨c7.1, c7.2.1, c7.2.2, c16.2⟩
      rw [if_pos c17, if_pos c17, if_pos c17] at E
      refine j_iconst C eX1_blot_20 ?_
      refine j_is4 C eX1_blot_21 (by decide) ?_
      have k := mblot_loop ad dc S G pen hp z p q hz c7.2 c16.2 C E 577 0 none none (by omega) (by omega)
      rw [setG_0] at k
      exact k
    · have c16 : ¬ (isPx z = true ∧ 0 ≤ q ∧ q ≤ 30) := of_decide_eq_false c15
      refine j_iconst C eX1_blot_18 ?_
      exact j_iretv E eX1_blot_19 (by rw [if_neg (fun h => c16 ⟨h.1, h.2.2.2.1, h.2.2.2.2⟩)]) ⟨by rw [if_neg (fun h => c16 ⟨h.1, h.2.2.2.1, h.2.2.2.2⟩), if_neg (fun h => c16 ⟨h.1, h.2.2.2.1, h.2.2.2.2⟩)], rfl⟩
theorem mtri_loop {X : jX} (ad : Nat → Nat) (dc : Nat → ClassId) (S G : Nat → Bool) (pen : Int) (hp : 0 ≤ pen ∧ pen ≤ 2) (p q r : Int) (hp2 : 0 ≤ p ∧ p % 32 < 24 ∧ p / 32 < 24) (hq : 0 ≤ q ∧ q % 32 < 24 ∧ q / 32 < 24) (hr : 0 ≤ r ∧ r % 32 < 24 ∧ r / 32 < 24) (C : jC X cX1_triangle RX1 5 (mTy dc) 2 53) (E : jE X cX1_triangle (some .int) (pI (mW ad dc (inkS pen S (setG (trigB p q r) G 576) 576) (setG (trigB p q r) G 576) pen) (iI (inkN pen S (setG (trigB p q r) G 576) 576 : Int)))) : ∀ (n j : Nat), 576 < j + n → j ≤ 576 → J X (mW ad dc S (setG (trigB p q r) G j) pen) 29 [some (.ref (ad 0)), some (.int (iI p)), some (.int (iI q)), some (.int (iI r)), some (.int (iI (j : Int)))] [] := by
  intro n
  induction n with
  | zero => intro j h1 h2; omega
  | succ n ih =>
    intro j h1 h2
    refine j_il4 C eX1_triangle_29 ?_
    refine j_sipush C eX1_triangle_31 (by decide) ?_
    refine j_cge C eX1_triangle_34 (by omega) (by omega) (fun c34 => ?_) (fun c34 => ?_)
    · obtain rfl : j = 576 := by omega
      refine j_al0 C eX1_triangle_67 ?_
      refine m_callI C kX1_35 (cm_ink _ _ _ _ _ hp) (by decide) rfl rfl (Nat.le_of_ble_eq_true rfl) eX1_triangle_68 ?_
      exact j_iret E eX1_triangle_71 ⟨rfl, rfl⟩
    · refine j_al0 C eX1_triangle_37 ?_
      refine m_get_fig C eX1_triangle_38 ?_
      refine j_il4 C eX1_triangle_41 ?_
      refine j_al0 C eX1_triangle_43 ?_
      refine j_il4 C eX1_triangle_44 ?_
      refine j_bipush C eX1_triangle_46 (by decide) ?_
      refine j_irem C eX1_triangle_48 (by omega) (by omega) (by omega) (by omega) ?_
      refine j_il4 C eX1_triangle_49 ?_
      refine j_bipush C eX1_triangle_51 (by decide) ?_
      refine j_idiv C eX1_triangle_53 (by omega) (by omega) (by omega) (by omega) ?_
      refine j_il1 C eX1_triangle_54 ?_
      refine j_il2 C eX1_triangle_55 ?_
      refine j_il3 C eX1_triangle_56 ?_
      refine m_callI C kX1_55 (cm_inTri _ _ _ _ _ _ _ _ _ _ (by omega) (by omega) hp2 hq hr) (by decide) rfl rfl (Nat.le_of_ble_eq_true rfl) eX1_triangle_57 ?_
      refine m_fig_st C (i := j) eX1_triangle_60 rfl (by omega) ?_
      rw [show inTriB _ _ _ _ _ = trigB p q r j from rfl, setG_s]
      refine j_inc4 C eX1_triangle_61 (by decide) ?_
      refine j_goto C eX1_triangle_64 ?_
      exact ih (j + 1) (by omega) (by omega)
theorem cm_triangle (ad : Nat → Nat) (dc : Nat → ClassId) (S G : Nat → Bool) (pen : Int) (hp : 0 ≤ pen ∧ pen ≤ 2) (p q r : Int) (kp : -2147483648 ≤ p ∧ p < 2147483648) (kq : -2147483648 ≤ q ∧ q < 2147483648) (kr : -2147483648 ≤ r ∧ r < 2147483648) : gX1_triangle dc [.ref (ad 0), .int (iI p), .int (iI q), .int (iI r)] (mW ad dc S G pen) (pI (mW ad dc (if isPx p = true ∧ isPx q = true ∧ isPx r = true then inkS pen S (setG (trigB p q r) G 576) 576 else S) (if isPx p = true ∧ isPx q = true ∧ isPx r = true then (setG (trigB p q r) G 576) else G) pen) (iI (if isPx p = true ∧ isPx q = true ∧ isPx r = true then (inkN pen S (setG (trigB p q r) G 576) 576 : Int) else -1))) := by
  refine mG_of (own := RX1) (lv := [some (.ref (ad 0)), some (.int (iI p)), some (.int (iI q)), some (.int (iI r)), none]) (by decide) rfl (jIn_b [.ref (ad 0), .int (iI p), .int (iI q), .int (iI r)] 1 rfl) ?_
  intro X C E
  refine j_al0 C eX1_triangle_0 ?_
  refine j_il1 C eX1_triangle_1 ?_
  refine m_callI C kX1_28 (cm_isPixel _ _ _ _ _ _ kp.1 kp.2) (by decide) rfl rfl (Nat.le_of_ble_eq_true rfl) eX1_triangle_2 ?_
  refine j_ifeqB C eX1_triangle_5 (fun c5 => ?_) (fun c5 => ?_)
  · refine j_iconst C eX1_triangle_24 ?_
    exact j_iretv E eX1_triangle_25 (by rw [if_neg (by rw [c5]; simp)]) ⟨by rw [if_neg (by rw [c5]; simp), if_neg (by rw [c5]; simp)], rfl⟩
  · refine j_al0 C eX1_triangle_8 ?_
    refine j_il2 C eX1_triangle_9 ?_
    refine m_callI C kX1_28 (cm_isPixel _ _ _ _ _ _ kq.1 kq.2) (by decide) rfl rfl (Nat.le_of_ble_eq_true rfl) eX1_triangle_10 ?_
    refine j_ifeqB C eX1_triangle_13 (fun c13 => ?_) (fun c13 => ?_)
    · refine j_iconst C eX1_triangle_24 ?_
      exact j_iretv E eX1_triangle_25 (by rw [if_neg (by rw [c13]; simp)]) ⟨by rw [if_neg (by rw [c13]; simp), if_neg (by rw [c13]; simp)], rfl⟩
    · refine j_al0 C eX1_triangle_16 ?_
      refine j_il3 C eX1_triangle_17 ?_
      refine m_callI C kX1_28 (cm_isPixel _ _ _ _ _ _ kr.1 kr.2) (by decide) rfl rfl (Nat.le_of_ble_eq_true rfl) eX1_triangle_18 ?_
      refine j_ifneB C eX1_triangle_21 (fun c21 => ?_) (fun c21 => ?_)
      · have hp2 : 0 ≤ p ∧ p % 32 < 24 ∧ p / 32 < 24 := of_decide_eq_true c5
        have hq : 0 ≤ q ∧ q % 32 < 24 ∧ q / 32 < 24 := of_decide_eq_true c13
        have hr : 0 ≤ r ∧ r % 32 < 24 ∧ r / 32 < 24 := of_decide_eq_true c21
        rw [if_pos ⟨c5, c13, c21⟩, if_pos ⟨c5, c13, c21⟩, if_pos ⟨c5, c13, c21⟩] at E
        refine j_iconst C eX1_triangle_26 ?_
        refine j_is4 C eX1_triangle_27 (by decide) ?_
        have k := mtri_loop ad dc S G pen hp p q r hp2 hq hr C E 577 0 (by omega) (by omega)
        rw [setG_0] at k
        exact k
      · refine j_iconst C eX1_triangle_24 ?_
        exact j_iretv E eX1_triangle_25 (by rw [if_neg (by rw [c21]; simp)]) ⟨by rw [if_neg (by rw [c21]; simp), if_neg (by rw [c21]; simp)], rfl⟩
end
section
def mvB (Q : Nat → Bool) (dx dy : Int) (k : Nat) : Bool := decide (0 ≤ (k : Int) % 24 - dx ∧ (k : Int) % 24 - dx ≤ 23 ∧ 0 ≤ (k : Int) / 24 - dy ∧ (k : Int) / 24 - dy ≤ 23) && Q (24 * ((k : Int) / 24 - dy) + ((k : Int) % 24 - dx)).toNat
theorem mmove_loop1 {X : jX} (ad : Nat → Nat) (dc : Nat → ClassId) (S G : Nat → Bool) (pen : Int) (dx dy b0 : Int) (C : jC X cX1_move RX1 8 (mTy dc) 1 22) (K : J X (mW ad dc S (setG S G 576) pen) 62 [some (.ref (ad 0)), some (.int (iI dx)), some (.int (iI dy)), some (.int (iI b0)), some (.int (iI ((576 : Nat) : Int))), none, none, none] []) : ∀ (n j : Nat), 576 < j + n → j ≤ 576 → J X (mW ad dc S (setG S G j) pen) 34 [some (.ref (ad 0)), some (.int (iI dx)), some (.int (iI dy)), some (.int (iI b0)), some (.int (iI (j : Int))), none, none, none] [] := by
  intro n
  induction n with
  | zero => intro j h1 h2; omega
  | succ n ih =>
    intro j h1 h2
    refine j_il4 C eX1_move_34 ?_
    refine j_sipush C eX1_move_36 (by decide) ?_
    refine j_cge C eX1_move_39 (by omega) (by omega) (fun c39 => ?_) (fun c39 => ?_)
    · obtain rfl : j = 576 := by omega
      exact K
    · refine j_al0 C eX1_move_42 ?_
      refine m_get_fig C eX1_move_43 ?_
      refine j_il4 C eX1_move_46 ?_
      refine j_al0 C eX1_move_48 ?_
      refine m_get_set C eX1_move_49 ?_
      refine j_il4 C eX1_move_52 ?_
      refine m_set_ld C (i := j) eX1_move_54 rfl (by omega) ?_
      refine m_fig_st C (i := j) eX1_move_55 rfl (by omega) ?_
      rw [setG_s]
      refine j_inc4 C eX1_move_56 (by decide) ?_
      refine j_goto C eX1_move_59 ?_
      exact ih (j + 1) (by omega) (by omega)
theorem mmove_loop2 {X : jX} (ad : Nat → Nat) (dc : Nat → ClassId) (S G : Nat → Bool) (pen : Int) (dx dy b0 : Int) (hdx : -24 ≤ dx ∧ dx ≤ 24) (hdy : -24 ≤ dy ∧ dy ≤ 24) (C : jC X cX1_move RX1 8 (mTy dc) 1 22) (E : jE X cX1_move (some .int) (pI (mW ad dc (setG (mvB G dx dy) S 576) G pen) (iI (b0 - (cnt (setG (mvB G dx dy) S 576) 576 : Int))))) : ∀ (n j : Nat) (v5 v6 v7 : Option Value), 576 < j + n → j ≤ 576 → J X (mW ad dc (setG (mvB G dx dy) S j) G pen) 65 [some (.ref (ad 0)), some (.int (iI dx)), some (.int (iI dy)), some (.int (iI b0)), some (.int (iI (j : Int))), v5, v6, v7] [] := by
  intro n
  induction n with
  | zero => intro j v5 v6 v7 h1 h2; omega
  | succ n ih =>
    intro j v5 v6 v7 h1 h2
    refine j_il4 C eX1_move_65 ?_
    refine j_sipush C eX1_move_67 (by decide) ?_
    refine j_cge C eX1_move_70 (by omega) (by omega) (fun c70 => ?_) (fun c70 => ?_)
    · obtain rfl : j = 576 := by omega
      refine j_il3 C eX1_move_161 ?_
      refine j_al0 C eX1_move_162 ?_
      refine m_callI C kX1_62 (cm_count _ _ _ _ _) (by decide) rfl rfl (Nat.le_of_ble_eq_true rfl) eX1_move_163 ?_
      refine j_isub C eX1_move_166 ?_
      exact j_iret E eX1_move_167 ⟨rfl, rfl⟩
    · have t120 : ∀ u : Option Value, J X (mW ad dc (setG (mvB G dx dy) S j) G pen) 120 [some (.ref (ad 0)), some (.int (iI dx)), some (.int (iI dy)), some (.int (iI b0)), some (.int (iI (j : Int))), some (.int (iI ((j : Int) % 24 - dx))), some (.int (iI ((j : Int) / 24 - dy))), u] [.int (iI (zI (decide (0 ≤ (j : Int) % 24 - dx ∧ (j : Int) % 24 - dx ≤ 23 ∧ 0 ≤ (j : Int) / 24 - dy ∧ (j : Int) / 24 - dy ≤ 23))))] := by
        intro u
        refine j_is7 C eX1_move_120 (by decide) ?_
        refine j_al0 C eX1_move_122 ?_
        refine m_get_set C eX1_move_123 ?_
        refine j_il4 C eX1_move_126 ?_
        refine j_il7 C eX1_move_128 ?_
        refine j_ifeqB C eX1_move_130 (fun c130 => ?_) (fun c130 => ?_)
        · refine j_iconst C eX1_move_153 ?_
          refine j_val (y := iI (zI (mvB G dx dy j))) (by first | exact zI_of_t (by unfold mvB; rw [c130, ei, show ((i : Nat) : Int).toNat = i from rfl, c150]; rfl) | exact zI_of_f (by unfold mvB; rw [c130, ei, show ((i : Nat) : Int).toNat = i from rfl, c150]; rfl) | exact zI_of_f (by unfold mvB; rw [c130]; rfl)) ?_
          refine m_set_st C (i := j) eX1_move_154 rfl (by omega) ?_
          rw [setG_s]
          refine j_inc4 C eX1_move_155 (by decide) ?_
          refine j_goto C eX1_move_158 ?_
          exact ih (j + 1) _ _ _ (by omega) (by omega)
        · have c131 := of_decide_eq_true c130
          obtain ⟨i, ei⟩ := Int.eq_ofNat_of_zero_le (show 0 ≤ 24 * ((j : Int) / 24 - dy) + ((j : Int) % 24 - dx) by omega)
          refine j_al0 C eX1_move_133 ?_
          refine m_get_fig C eX1_move_134 ?_
          refine j_bipush C eX1_move_137 (by decide) ?_
          refine j_il6 C eX1_move_139 ?_
          refine j_imul C eX1_move_141 ?_
          refine j_il5 C eX1_move_142 ?_
          refine j_iadd C eX1_move_144 ?_
          refine m_fig_ld C (i := i) eX1_move_145 ei (by omega) ?_
          refine j_ifeqB C eX1_move_146 (fun c150 => ?_) (fun c150 => ?_)
          · refine j_iconst C eX1_move_153 ?_
            refine j_val (y := iI (zI (mvB G dx dy j))) (by first | exact zI_of_t (by unfold mvB; rw [c130, ei, show ((i : Nat) : Int).toNat = i from rfl, c150]; rfl) | exact zI_of_f (by unfold mvB; rw [c130, ei, show ((i : Nat) : Int).toNat = i from rfl, c150]; rfl) | exact zI_of_f (by unfold mvB; rw [c130]; rfl)) ?_
            refine m_set_st C (i := j) eX1_move_154 rfl (by omega) ?_
            rw [setG_s]
            refine j_inc4 C eX1_move_155 (by decide) ?_
            refine j_goto C eX1_move_158 ?_
            exact ih (j + 1) _ _ _ (by omega) (by omega)
          · refine j_iconst C eX1_move_149 ?_
            refine j_goto C eX1_move_150 ?_
            refine j_val (y := iI (zI (mvB G dx dy j))) (by first | exact zI_of_t (by unfold mvB; rw [c130, ei, show ((i : Nat) : Int).toNat = i from rfl, c150]; rfl) | exact zI_of_f (by unfold mvB; rw [c130, ei, show ((i : Nat) : Int).toNat = i from rfl, c150]; rfl) | exact zI_of_f (by unfold mvB; rw [c130]; rfl)) ?_
            refine m_set_st C (i := j) eX1_move_154 rfl (by omega) ?_
            rw [setG_s]
            refine j_inc4 C eX1_move_155 (by decide) ?_
            refine j_goto C eX1_move_158 ?_
            exact ih (j + 1) _ _ _ (by omega) (by omega)
      refine j_il4 C eX1_move_73 ?_
      refine j_bipush C eX1_move_75 (by decide) ?_
      refine j_irem C eX1_move_77 (by omega) (by omega) (by omega) (by omega) ?_
      refine j_il1 C eX1_move_78 ?_
      refine j_isub C eX1_move_79 ?_
      refine j_is5 C eX1_move_80 (by decide) ?_
      refine j_il4 C eX1_move_82 ?_
      refine j_bipush C eX1_move_84 (by decide) ?_
      refine j_idiv C eX1_move_86 (by omega) (by omega) (by omega) (by omega) ?_
      refine j_il2 C eX1_move_87 ?_
      refine j_isub C eX1_move_88 ?_
      refine j_is6 C eX1_move_89 (by decide) ?_
      refine j_il5 C eX1_move_91 ?_
      refine j_iflt C eX1_move_93 (by omega) (fun c93 => ?_) (fun c93 => ?_)
      · refine j_iconst C eX1_move_119 ?_
        exact j_val (by first | exact zI_of_t (decide_eq_true (by omega)) | exact zI_of_f (decide_eq_false (by omega))) (t120 _)
      · refine j_il5 C eX1_move_96 ?_
        refine j_bipush C eX1_move_98 (by decide) ?_
        refine j_cgt C eX1_move_100 (by omega) (by omega) (fun c100 => ?_) (fun c100 => ?_)
        · refine j_iconst C eX1_move_119 ?_
          exact j_val (by first | exact zI_of_t (decide_eq_true (by omega)) | exact zI_of_f (decide_eq_false (by omega))) (t120 _)
        · refine j_il6 C eX1_move_103 ?_
          refine j_iflt C eX1_move_105 (by omega) (fun c105 => ?_) (fun c105 => ?_)
          · refine j_iconst C eX1_move_119 ?_
            exact j_val (by first | exact zI_of_t (decide_eq_true (by omega)) | exact zI_of_f (decide_eq_false (by omega))) (t120 _)
          · refine j_il6 C eX1_move_108 ?_
            refine j_bipush C eX1_move_110 (by decide) ?_
            refine j_cgt C eX1_move_112 (by omega) (by omega) (fun c112 => ?_) (fun c112 => ?_)
            · refine j_iconst C eX1_move_119 ?_
              exact j_val (by first | exact zI_of_t (decide_eq_true (by omega)) | exact zI_of_f (decide_eq_false (by omega))) (t120 _)
            · refine j_iconst C eX1_move_115 ?_
              refine j_goto C eX1_move_116 ?_
              exact j_val (by first | exact zI_of_t (decide_eq_true (by omega)) | exact zI_of_f (decide_eq_false (by omega))) (t120 _)
theorem cm_move (ad : Nat → Nat) (dc : Nat → ClassId) (S G : Nat → Bool) (pen : Int) (dx dy : Int) (h1 : -2147483648 ≤ dx ∧ dx < 2147483648) (h2 : -2147483648 ≤ dy ∧ dy < 2147483648) : gX1_move dc [.ref (ad 0), .int (iI dx), .int (iI dy)] (mW ad dc S G pen) (pI (mW ad dc (if -24 ≤ dx ∧ dx ≤ 24 ∧ -24 ≤ dy ∧ dy ≤ 24 then (setG (mvB (setG S G 576) dx dy) S 576) else S) (if -24 ≤ dx ∧ dx ≤ 24 ∧ -24 ≤ dy ∧ dy ≤ 24 then setG S G 576 else G) pen) (iI (if -24 ≤ dx ∧ dx ≤ 24 ∧ -24 ≤ dy ∧ dy ≤ 24 then (cnt S 576 : Int) - (cnt (setG (mvB (setG S G 576) dx dy) S 576) 576 : Int) else -1))) := by
  refine mG_of (own := RX1) (lv := [some (.ref (ad 0)), some (.int (iI dx)), some (.int (iI dy)), none, none, none, none, none]) (by decide) rfl (jIn_b [.ref (ad 0), .int (iI dx), .int (iI dy)] 5 rfl) ?_
  intro X C E
  refine j_il1 C eX1_move_0 ?_
  refine j_bipush C eX1_move_1 (by decide) ?_
  refine j_clt C eX1_move_3 (by omega) (by omega) (fun c3 => ?_) (fun c3 => ?_)
  · refine j_iconst C eX1_move_24 ?_
    exact j_iretv E eX1_move_25 (by rw [if_neg (by omega)]) ⟨by rw [if_neg (by omega), if_neg (by omega)], rfl⟩
  · refine j_il1 C eX1_move_6 ?_
    refine j_bipush C eX1_move_7 (by decide) ?_
    refine j_cgt C eX1_move_9 (by omega) (by omega) (fun c9 => ?_) (fun c9 => ?_)
    · refine j_iconst C eX1_move_24 ?_
      exact j_iretv E eX1_move_25 (by rw [if_neg (by omega)]) ⟨by rw [if_neg (by omega), if_neg (by omega)], rfl⟩
    · refine j_il2 C eX1_move_12 ?_
      refine j_bipush C eX1_move_13 (by decide) ?_
      refine j_clt C eX1_move_15 (by omega) (by omega) (fun c15 => ?_) (fun c15 => ?_)
      · refine j_iconst C eX1_move_24 ?_
        exact j_iretv E eX1_move_25 (by rw [if_neg (by omega)]) ⟨by rw [if_neg (by omega), if_neg (by omega)], rfl⟩
      · refine j_il2 C eX1_move_18 ?_
        refine j_bipush C eX1_move_19 (by decide) ?_
        refine j_cle C eX1_move_21 (by omega) (by omega) (fun c21 => ?_) (fun c21 => ?_)
        · refine j_al0 C eX1_move_26 ?_
          refine m_callI C kX1_62 (cm_count _ _ _ _ _) (by decide) rfl rfl (Nat.le_of_ble_eq_true rfl) eX1_move_27 ?_
          refine j_is3 C eX1_move_30 (by decide) ?_
          refine j_iconst C eX1_move_31 ?_
          refine j_is4 C eX1_move_32 (by decide) ?_
          rw [if_pos (by omega), if_pos (by omega), if_pos (by omega)] at E
          have k := mmove_loop1 ad dc S G pen dx dy (cnt S 576) C ?_ 577 0 (by omega) (by omega)
          · rw [setG_0] at k; exact k
          have k2 := mmove_loop2 ad dc S (setG S G 576) pen dx dy (cnt S 576) (by omega) (by omega) C E 577 0 none none none (by omega) (by omega)
          rw [setG_0] at k2
          refine j_iconst C eX1_move_62 ?_
          refine j_is4 C eX1_move_63 (by decide) ?_
          exact k2
        · refine j_iconst C eX1_move_24 ?_
          exact j_iretv E eX1_move_25 (by rw [if_neg (by omega)]) ⟨by rw [if_neg (by omega), if_neg (by omega)], rfl⟩
def closedM (S : Nat → Bool) (f : Nat) (T : Nat → Bool) : Prop := ∀ k, k < 576 → S k = S f → besB T k = true → T k = true
def mfI (S : Nat → Bool) (f : Nat) (G : Nat → Bool) : Prop := G f = true ∧ (∀ k, k < 576 → G k = true → S k = S f) ∧ (∀ T, closedM S f T → T f = true → ∀ k, k < 576 → G k = true → T k = true)
theorem besB_mono {G T : Nat → Bool} {k : Nat} (hk : k < 576) (h : ∀ k, k < 576 → G k = true → T k = true) (hb : besB G k = true) : besB T k = true := by
  have h1 := of_decide_eq_true hb
  refine decide_eq_true ?_
  rcases h1 with q | q | q | q
  · exact Or.inl ⟨q.1, h _ (by omega) q.2⟩
  · exact Or.inr (Or.inl ⟨q.1, h _ (by omega) q.2⟩)
  · exact Or.inr (Or.inr (Or.inl ⟨q.1, h _ (by omega) q.2⟩))
  · exact Or.inr (Or.inr (Or.inr ⟨q.1, h _ (by omega) q.2⟩))
theorem mfI_add {S : Nat → Bool} {f : Nat} {G : Nat → Bool} (h : mfI S f G) {k : Nat} (hk : k < 576) (hs : S k = S f) (hb : besB G k = true) : mfI S f (up G k true) := by
  obtain ⟨h1, h2, h3⟩ := h
  refine ⟨?_, fun i q1 q2 => ?_, fun T t1 t2 i q1 q2 => ?_⟩
  · unfold up; split
    · rfl
    · exact h1
  · unfold up at q2
    split at q2
    · rename_i e; rw [e]; exact hs
    · exact h2 i q1 q2
  · unfold up at q2
    split at q2
    · rename_i e
      rw [e]
      exact t1 k hk hs (besB_mono hk (h3 T t1 t2) hb)
    · exact h3 T t1 t2 i q1 q2
theorem cnt_up {G : Nat → Bool} {k : Nat} (hk : k < 576) (hG : G k = false) : cnt (up G k true) 576 = cnt G 576 + 1 := by
  refine cnt_one (a := k) hk (fun i hi => ?_) hG
  unfold up
  by_cases e : i = k
  · subst e; rw [if_pos rfl, hG, decide_eq_true rfl]; rfl
  · rw [if_neg e, decide_eq_false e, Bool.or_false]
def xorS (S G : Nat → Bool) (n : Nat) : Nat → Bool := fun k => if k < n then S k ^^ G k else S k
theorem xorS_0 (S G : Nat → Bool) : xorS S G 0 = S := by funext k; simp [xorS]
theorem xorS_j (S G : Nat → Bool) (j : Nat) : xorS S G j j = S j := by simp [xorS]
theorem xorS_put (S G : Nat → Bool) (j : Nat) {b : Bool} (h : b = (S j ^^ G j)) : up (xorS S G j) j b = xorS S G (j + 1) := by
  funext k
  unfold up xorS
  by_cases e : k = j
  · subst e
    rw [if_pos rfl, if_pos (by omega), h]
  · by_cases e2 : k < j
    · rw [if_neg e, if_pos e2, if_pos (by omega)]
    · rw [if_neg e, if_neg e2, if_neg (by omega)]
theorem xorS_keep (S G : Nat → Bool) (j : Nat) (h : G j = false) : xorS S G j = xorS S G (j + 1) := by
  rw [← xorS_put S G j (b := S j) (by rw [h]; simp)]
  funext k
  unfold up
  by_cases e : k = j
  · subst e; rw [if_pos rfl, xorS_j]
  · rw [if_neg e]
def mfPost (ad : Nat → Nat) (dc : Nat → ClassId) (S : Nat → Bool) (pen : Int) (f : Nat) : va_W → Option Value → Prop := fun w r => ∃ G' : Nat → Bool, closedM S f G' ∧ mfI S f G' ∧ w = mW ad dc (xorS S G' 576) G' pen ∧ r = some (.int (iI (cnt G' 576 : Int)))
theorem mflood_xor {X : jX} (ad : Nat → Nat) (dc : Nat → ClassId) (S G : Nat → Bool) (pen : Int) (z : Int) (f : Nat) (v3 : Option Value) (hc : closedM S f G) (hi : mfI S f G) (C : jC X cX1_flood RX1 6 (mTy dc) 1 21) (E : jE X cX1_flood (some .int) (mfPost ad dc S pen f)) : ∀ (n j : Nat), 576 < j + n → j ≤ 576 → J X (mW ad dc (xorS S G j) G pen) 147 [some (.ref (ad 0)), some (.int (iI z)), some (.int (iI (f : Int))), v3, some (.int (iI (cnt G j : Int))), some (.int (iI (j : Int)))] [] := by
  intro n
  induction n with
  | zero => intro j h1 h2; omega
  | succ n ih =>
    intro j h1 h2
    refine j_il5 C eX1_flood_147 ?_
    refine j_sipush C eX1_flood_149 (by decide) ?_
    refine j_cge C eX1_flood_152 (by omega) (by omega) (fun c152 => ?_) (fun c152 => ?_)
    · obtain rfl : j = 576 := by omega
      refine j_il4 C eX1_flood_196 ?_
      exact j_iret E eX1_flood_198 ⟨G, hc, hi, rfl, rfl⟩
    · refine j_al0 C eX1_flood_155 ?_
      refine m_get_fig C eX1_flood_156 ?_
      refine j_il5 C eX1_flood_159 ?_
      refine m_fig_ld C (i := j) eX1_flood_161 rfl (by omega) ?_
      refine j_ifeqB C eX1_flood_162 (fun c162 => ?_) (fun c162 => ?_)
      · refine m_S (xorS_keep S G j c162) ?_
        rw [show (cnt G j : Int) = (cnt G (j + 1) : Int) from by rw [cnt, c162]; rfl]
        refine j_inc5 C eX1_flood_190 (by decide) ?_
        refine j_goto C eX1_flood_193 ?_
        exact ih (j + 1) (by omega) (by omega)
      · refine j_al0 C eX1_flood_165 ?_
        refine m_get_set C eX1_flood_166 ?_
        refine j_il5 C eX1_flood_169 ?_
        refine j_al0 C eX1_flood_171 ?_
        refine m_get_set C eX1_flood_172 ?_
        refine j_il5 C eX1_flood_175 ?_
        refine m_set_ld C (i := j) eX1_flood_177 rfl (by omega) ?_
        rw [xorS_j]
        refine j_ifneB C eX1_flood_178 (fun c178 => ?_) (fun c178 => ?_)
        · refine j_iconst C eX1_flood_185 ?_
          refine j_val (y := iI (zI (S j ^^ G j))) (by first | exact zI_of_t (by rw [c162, c178]; rfl) | exact zI_of_f (by rw [c162, c178]; rfl)) ?_
          refine m_set_st C (i := j) eX1_flood_186 rfl (by omega) ?_
          refine m_S (xorS_put S G j rfl) ?_
          refine j_inc4 C eX1_flood_187 (by decide) ?_
          rw [show (cnt G j : Int) + 1 = (cnt G (j + 1) : Int) from by rw [cnt, c162]; rfl]
          refine j_inc5 C eX1_flood_190 (by decide) ?_
          refine j_goto C eX1_flood_193 ?_
          exact ih (j + 1) (by omega) (by omega)
        · refine j_iconst C eX1_flood_181 ?_
          refine j_goto C eX1_flood_182 ?_
          refine j_val (y := iI (zI (S j ^^ G j))) (by first | exact zI_of_t (by rw [c162, c178]; rfl) | exact zI_of_f (by rw [c162, c178]; rfl)) ?_
          refine m_set_st C (i := j) eX1_flood_186 rfl (by omega) ?_
          refine m_S (xorS_put S G j rfl) ?_
          refine j_inc4 C eX1_flood_187 (by decide) ?_
          rw [show (cnt G j : Int) + 1 = (cnt G (j + 1) : Int) from by rw [cnt, c162]; rfl]
          refine j_inc5 C eX1_flood_190 (by decide) ?_
          refine j_goto C eX1_flood_193 ?_
          exact ih (j + 1) (by omega) (by omega)
theorem mflood_inner {X : jX} (ad : Nat → Nat) (dc : Nat → ClassId) (S : Nat → Bool) (pen : Int) (z : Int) (f i : Nat) (hf : f < 576) (G0 : Nat → Bool) (C : jC X cX1_flood RX1 6 (mTy dc) 1 21) (K : ∀ (G : Nat → Bool) (mo : Bool), (mo = false → G = G0 ∧ ∀ t, t < 576 → ¬ (G t = false ∧ S t = S f ∧ besB G t = true)) → (mo = true → cnt G0 576 + 1 ≤ cnt G 576) → mfI S f G → J X (mW ad dc S G pen) 135 [some (.ref (ad 0)), some (.int (iI z)), some (.int (iI (f : Int))), some (.int (iI (zI mo))), some (.int (iI (i : Int))), some (.int (iI ((576 : Nat) : Int)))] []) : ∀ (n j : Nat) (G : Nat → Bool) (mo : Bool), 576 < j + n → j ≤ 576 → (mo = false → G = G0 ∧ ∀ t, t < j → ¬ (G t = false ∧ S t = S f ∧ besB G t = true)) → (mo = true → cnt G0 576 + 1 ≤ cnt G 576) → mfI S f G → J X (mW ad dc S G pen) 76 [some (.ref (ad 0)), some (.int (iI z)), some (.int (iI (f : Int))), some (.int (iI (zI mo))), some (.int (iI (i : Int))), some (.int (iI (j : Int)))] [] := by
  intro n
  induction n with
  | zero => intro j G mo h1 h2; omega
  | succ n ih =>
    intro j G mo h1 h2 h3 h4 h5
    refine j_il5 C eX1_flood_76 ?_
    refine j_sipush C eX1_flood_78 (by decide) ?_
    refine j_cge C eX1_flood_81 (by omega) (by omega) (fun c81 => ?_) (fun c81 => ?_)
    · obtain rfl : j = 576 := by omega
      exact K G mo h3 h4 h5
    · refine j_al0 C eX1_flood_84 ?_
      refine m_get_fig C eX1_flood_85 ?_
      refine j_il5 C eX1_flood_88 ?_
      refine m_fig_ld C (i := j) eX1_flood_90 rfl (by omega) ?_
      refine j_ifneB C eX1_flood_91 (fun c91 => ?_) (fun c91 => ?_)
      · refine j_inc5 C eX1_flood_129 (by decide) ?_
        refine j_goto C eX1_flood_132 ?_
        exact ih (j + 1) G mo (by omega) (by omega) (fun q => ⟨(h3 q).1, fun t ht => by
                rcases Nat.lt_or_ge t j with e | e
                · exact (h3 q).2 t e
                · rw [show t = j from by omega]
                  exact fun z => absurd (c91.symm.trans z.1) (by decide)⟩) h4 h5
      · refine j_al0 C eX1_flood_94 ?_
        refine m_get_set C eX1_flood_95 ?_
        refine j_il5 C eX1_flood_98 ?_
        refine m_set_ld C (i := j) eX1_flood_100 rfl (by omega) ?_
        refine j_al0 C eX1_flood_101 ?_
        refine m_get_set C eX1_flood_102 ?_
        refine j_il2 C eX1_flood_105 ?_
        refine m_set_ld C (i := f) eX1_flood_106 rfl (by omega) ?_
        refine j_cneB C eX1_flood_107 (fun c107 => ?_) (fun c107 => ?_)
        · refine j_inc5 C eX1_flood_129 (by decide) ?_
          refine j_goto C eX1_flood_132 ?_
          exact ih (j + 1) G mo (by omega) (by omega) (fun q => ⟨(h3 q).1, fun t ht => by
                  rcases Nat.lt_or_ge t j with e | e
                  · exact (h3 q).2 t e
                  · rw [show t = j from by omega]
                    exact fun z => c107 z.2.1⟩) h4 h5
        · refine j_al0 C eX1_flood_110 ?_
          refine j_il5 C eX1_flood_111 ?_
          refine m_callI C kX1_59 (cm_beside _ _ _ _ _ _ (by omega)) (by decide) rfl rfl (Nat.le_of_ble_eq_true rfl) eX1_flood_113 ?_
          refine j_ifeqB C eX1_flood_116 (fun c116 => ?_) (fun c116 => ?_)
          · refine j_inc5 C eX1_flood_129 (by decide) ?_
            refine j_goto C eX1_flood_132 ?_
            exact ih (j + 1) G mo (by omega) (by omega) (fun q => ⟨(h3 q).1, fun t ht => by
                    rcases Nat.lt_or_ge t j with e | e
                    · exact (h3 q).2 t e
                    · rw [show t = j from by omega]
                      exact fun z => absurd (c116.symm.trans z.2.2) (by decide)⟩) h4 h5
          · refine j_al0 C eX1_flood_119 ?_
            refine m_get_fig C eX1_flood_120 ?_
            refine j_il5 C eX1_flood_123 ?_
            refine j_iconst C eX1_flood_125 ?_
            refine j_val (show iI 1 = iI (zI true) from rfl) ?_
            refine m_fig_st C (i := j) eX1_flood_126 rfl (by omega) ?_
            refine j_iconst C eX1_flood_127 ?_
            refine j_val (show iI 1 = iI (zI true) from rfl) ?_
            refine j_is3 C eX1_flood_128 (by decide) ?_
            refine j_inc5 C eX1_flood_129 (by decide) ?_
            refine j_goto C eX1_flood_132 ?_
            have e1 := cnt_up (show j < 576 by omega) c91
            exact ih (j + 1) (up G j true) true (by omega) (by omega) (fun q => absurd q (by decide)) (fun _ => by
                    cases mo with
                    | true => have := h4 rfl; omega
                    | false => have := (h3 rfl).1; rw [this] at e1 ⊢; omega) (mfI_add h5 (by omega) c107 c116)
theorem mflood_loop {X : jX} (ad : Nat → Nat) (dc : Nat → ClassId) (S : Nat → Bool) (pen : Int) (z : Int) (f : Nat) (hf : f < 576) (C : jC X cX1_flood RX1 6 (mTy dc) 1 21) (E : jE X cX1_flood (some .int) (mfPost ad dc S pen f)) : ∀ (n i : Nat) (G : Nat → Bool) (mo : Bool) (v5 : Option Value), 576 < i + n → i ≤ 576 → (mo = false → closedM S f G) → (mo = true → i + 1 ≤ cnt G 576) → mfI S f G → J X (mW ad dc S G pen) 59 [some (.ref (ad 0)), some (.int (iI z)), some (.int (iI (f : Int))), some (.int (iI (zI mo))), some (.int (iI (i : Int))), v5] [] := by
  intro n
  induction n with
  | zero => intro i G mo v5 h1 h2; omega
  | succ n ih =>
    intro i G mo v5 h1 h2 h3 h4 h5
    refine j_il4 C eX1_flood_59 ?_
    refine j_sipush C eX1_flood_61 (by decide) ?_
    refine j_cge C eX1_flood_64 (by omega) (by omega) (fun c64 => ?_) (fun c64 => ?_)
    · have hm : mo = false := by
        cases mo with
        | false => rfl
        | true => have := h4 rfl; have := cnt_le G 576; omega
      refine j_iconst C eX1_flood_141 ?_
      refine j_is4 C eX1_flood_142 (by decide) ?_
      refine j_iconst C eX1_flood_144 ?_
      refine j_is5 C eX1_flood_145 (by decide) ?_
      have kk := mflood_xor ad dc S G pen z f (some (.int (iI (zI mo)))) (h3 hm) h5 C E 577 0 (by omega) (by omega)
      rw [xorS_0] at kk
      exact kk
    · refine j_il3 C eX1_flood_67 ?_
      refine j_ifeqB C eX1_flood_68 (fun c68 => ?_) (fun c68 => ?_)
      · refine j_iconst C eX1_flood_141 ?_
        refine j_is4 C eX1_flood_142 (by decide) ?_
        refine j_iconst C eX1_flood_144 ?_
        refine j_is5 C eX1_flood_145 (by decide) ?_
        have kk := mflood_xor ad dc S G pen z f (some (.int (iI (zI mo)))) (h3 c68) h5 C E 577 0 (by omega) (by omega)
        rw [xorS_0] at kk
        exact kk
      · refine j_iconst C eX1_flood_71 ?_
        refine j_val (show iI 0 = iI (zI false) from rfl) ?_
        refine j_is3 C eX1_flood_72 (by decide) ?_
        refine j_iconst C eX1_flood_73 ?_
        refine j_is5 C eX1_flood_74 (by decide) ?_
        refine mflood_inner ad dc S pen z f i hf G C (fun G1 mo1 q1 q2 q3 => ?_) 577 0 G false (by omega) (by omega) (fun _ => ⟨rfl, fun t ht => by omega⟩) (fun q => absurd q (by decide)) h5
        refine j_inc4 C eX1_flood_135 (by decide) ?_
        refine j_goto C eX1_flood_138 ?_
        exact ih (i + 1) G1 mo1 _ (by omega) (by omega) (fun q t ht hs hb => by
          cases e : G1 t with
          | true => rfl
          | false => exact absurd ⟨e, hs, hb⟩ ((q1 q).2 t ht)) (fun q => by have := q2 q; have := h4 c68; omega) q3
theorem one_f (f : Nat) (G : Nat → Bool) (S : Nat → Bool) (hf : f < 576) : mfI S f (setG (fun k => decide (k = f)) G 576) ∧ 1 ≤ cnt (setG (fun k => decide (k = f)) G 576) 576 := by
  have e : ∀ k, k < 576 → setG (fun k => decide (k = f)) G 576 k = decide (k = f) := fun k hk => by unfold setG; rw [if_pos hk]
  refine ⟨⟨by rw [e f hf]; exact decide_eq_true rfl, fun k q1 q2 => ?_, fun T t1 t2 k q1 q2 => ?_⟩, ?_⟩
  · rw [e k q1] at q2; rw [of_decide_eq_true q2]
  · rw [e k q1] at q2; rw [of_decide_eq_true q2]; exact t2
  · have := cnt_one (f := setG (fun k => decide (k = f)) G 576) (g := fun _ => false) (n := 576) (a := f) hf (fun i hi => by rw [e i hi]; rfl) rfl
    omega
theorem mflood_first {X : jX} (ad : Nat → Nat) (dc : Nat → ClassId) (S G : Nat → Bool) (pen : Int) (z : Int) (f : Nat) (hf : f < 576) (C : jC X cX1_flood RX1 6 (mTy dc) 1 21) (K : J X (mW ad dc S (setG (fun k => decide (k = f)) G 576) pen) 54 [some (.ref (ad 0)), some (.int (iI z)), some (.int (iI (f : Int))), some (.int (iI ((576 : Nat) : Int))), none, none] []) : ∀ (n j : Nat), 576 < j + n → j ≤ 576 → J X (mW ad dc S (setG (fun k => decide (k = f)) G j) pen) 25 [some (.ref (ad 0)), some (.int (iI z)), some (.int (iI (f : Int))), some (.int (iI (j : Int))), none, none] [] := by
  intro n
  induction n with
  | zero => intro j h1 h2; omega
  | succ n ih =>
    intro j h1 h2
    refine j_il3 C eX1_flood_25 ?_
    refine j_sipush C eX1_flood_26 (by decide) ?_
    refine j_cge C eX1_flood_29 (by omega) (by omega) (fun c29 => ?_) (fun c29 => ?_)
    · obtain rfl : j = 576 := by omega
      exact K
    · refine j_al0 C eX1_flood_32 ?_
      refine m_get_fig C eX1_flood_33 ?_
      refine j_il3 C eX1_flood_36 ?_
      refine j_il3 C eX1_flood_37 ?_
      refine j_il2 C eX1_flood_38 ?_
      refine j_cne C eX1_flood_39 (by omega) (by omega) (fun c39 => ?_) (fun c39 => ?_)
      · refine j_iconst C eX1_flood_46 ?_
        refine j_val (y := iI (zI (decide (j = f)))) (by first | exact zI_of_t (decide_eq_true (by omega)) | exact zI_of_f (decide_eq_false (by omega))) ?_
        refine m_fig_st C (i := j) eX1_flood_47 rfl (by omega) ?_
        rw [setG_s (fun k => decide (k = f))]
        refine j_inc3 C eX1_flood_48 (by decide) ?_
        refine j_goto C eX1_flood_51 ?_
        exact ih (j + 1) (by omega) (by omega)
      · refine j_iconst C eX1_flood_42 ?_
        refine j_goto C eX1_flood_43 ?_
        refine j_val (y := iI (zI (decide (j = f)))) (by first | exact zI_of_t (decide_eq_true (by omega)) | exact zI_of_f (decide_eq_false (by omega))) ?_
        refine m_fig_st C (i := j) eX1_flood_47 rfl (by omega) ?_
        rw [setG_s (fun k => decide (k = f))]
        refine j_inc3 C eX1_flood_48 (by decide) ?_
        refine j_goto C eX1_flood_51 ?_
        exact ih (j + 1) (by omega) (by omega)
theorem cm_flood (ad : Nat → Nat) (dc : Nat → ClassId) (S G : Nat → Bool) (pen : Int) (z : Int) (h1 : -2147483648 ≤ z) (h2 : z < 2147483648) : gX1_flood dc [.ref (ad 0), .int (iI z)] (mW ad dc S G pen) (fun w r => (isPx z = true → mfPost ad dc S pen (24 * (z / 32) + z % 32).toNat w r) ∧ (isPx z = false → w = mW ad dc S G pen ∧ r = some (.int (iI (-1))))) := by
  refine mG_of (own := RX1) (lv := [some (.ref (ad 0)), some (.int (iI z)), none, none, none, none]) (by decide) rfl (jIn_b [.ref (ad 0), .int (iI z)] 4 rfl) ?_
  intro X C E
  refine j_al0 C eX1_flood_0 ?_
  refine j_il1 C eX1_flood_1 ?_
  refine m_callI C kX1_28 (cm_isPixel _ _ _ _ _ _ h1 h2) (by decide) rfl rfl (Nat.le_of_ble_eq_true rfl) eX1_flood_2 ?_
  refine j_ifneB C eX1_flood_5 (fun c5 => ?_) (fun c5 => ?_)
  · have hz : 0 ≤ z ∧ z % 32 < 24 ∧ z / 32 < 24 := of_decide_eq_true c5
    obtain ⟨f, ef⟩ := Int.eq_ofNat_of_zero_le (show 0 ≤ 24 * (z / 32) + z % 32 by omega)
    have E : jE X cX1_flood (some .int) (mfPost ad dc S pen f) := fun w v pc q lv hp hn d => E w v pc q lv ⟨fun _ => by rw [ef]; exact hp, fun z => absurd (c5.symm.trans z) (by decide)⟩ hn d
    refine j_bipush C eX1_flood_10 (by decide) ?_
    refine j_il1 C eX1_flood_12 ?_
    refine j_bipush C eX1_flood_13 (by decide) ?_
    refine j_idiv C eX1_flood_15 (by omega) (by omega) (by omega) (by omega) ?_
    refine j_imul C eX1_flood_16 ?_
    refine j_il1 C eX1_flood_17 ?_
    refine j_bipush C eX1_flood_18 (by decide) ?_
    refine j_irem C eX1_flood_20 (by omega) (by omega) (by omega) (by omega) ?_
    refine j_iadd C eX1_flood_21 ?_
    rw [ef]
    refine j_is2 C eX1_flood_22 (by decide) ?_
    refine j_iconst C eX1_flood_23 ?_
    refine j_is3 C eX1_flood_24 (by decide) ?_
    have hf : f < 576 := by omega
    have hone := one_f f G S hf
    have k := mflood_first ad dc S G pen z f hf C ?_ 577 0 (by omega) (by omega)
    · rw [setG_0] at k; exact k
    refine j_iconst C eX1_flood_54 ?_
    refine j_val (show iI 1 = iI (zI true) from rfl) ?_
    refine j_is3 C eX1_flood_55 (by decide) ?_
    refine j_iconst C eX1_flood_56 ?_
    refine j_is4 C eX1_flood_57 (by decide) ?_
    exact mflood_loop ad dc S pen z f hf C E 577 0 _ true none (by omega) (by omega) (fun q => absurd q (by decide)) (fun _ => by omega) hone.1
  · refine j_iconst C eX1_flood_8 ?_
    exact j_iret E eX1_flood_9 ⟨fun z => absurd (c5.symm.trans z) (by decide), fun _ => ⟨rfl, rfl⟩⟩
end
section
/-! the plain law: what the class computes is what the reference computes -/
theorem cnt_add (f : Nat → Bool) (a b : Nat) : cnt f (a + b) = cnt f a + cnt (fun i => f (a + i)) b := by
  induction b with
  | zero => rfl
  | succ b ih => rw [show a + (b + 1) = a + b + 1 by omega, cnt, ih, cnt]; omega
theorem cnt_rows (f : Nat → Bool) (n : Nat) : cnt f (24 * n) = sumN (fun y => cnt (fun i => f (24 * y + i)) 24) n := by
  induction n with
  | zero => rfl
  | succ n ih => rw [show 24 * (n + 1) = 24 * n + 24 by omega, cnt_add, ih, sumN]
theorem cnt_zero {f : Nat → Bool} {n : Nat} (h : ∀ i, i < n → f i = false) : cnt f n = 0 := by
  induction n with
  | zero => rfl
  | succ n ih => rw [cnt, ih (fun i hi => h i (by omega)), h n (by omega)]; rfl
theorem cnt_32 {f : Nat → Bool} (h : ∀ i, 24 ≤ i → i < 32 → f i = false) : cnt f 32 = cnt f 24 := by
  rw [show (32 : Nat) = 24 + 8 from rfl, cnt_add, cnt_zero (f := fun i => f (24 + i)) (fun i hi => h (24 + i) (by omega) (by omega))]
  rfl
/-- a grid of the class and a row of the reference hold the same -/
def same (P : Nat → Nat → Bool) (S : Nat → Bool) : Prop := (∀ y i, y < 24 → i < 24 → P y i = S (24 * y + i)) ∧ ∀ y i, y < 24 → 24 ≤ i → P y i = false
theorem same_cnt {P : Nat → Nat → Bool} {S : Nat → Bool} (h : same P S) : cntR P 24 = cnt S 576 := by
  rw [show (576 : Nat) = 24 * 24 from rfl, cnt_rows]
  refine sumN_ext (fun y hy => ?_)
  rw [cnt_32 (fun i h1 _ => h.2 y i hy h1)]
  exact cnt_ext (fun i hi => h.1 y i hy hi)
theorem penOp_f (pen : Int) : penOp pen false false = false := now_f pen false
theorem same_ink {pen : Int} {P F : Nat → Nat → Bool} {S G : Nat → Bool} (h : same P S) (hF : same F G) : inkC pen P F 24 = inkN pen S G 576 ∧ same (inkP pen P F 24) (inkS pen S G 576) := by
  constructor
  · have h2 : same (fun y i => P y i ^^ penOp pen (P y i) (F y i)) (fun k => S k ^^ penOp pen (S k) (G k)) := by
      refine ⟨fun y i q1 q2 => ?_, fun y i q1 q2 => ?_⟩
      · show (P y i ^^ penOp pen (P y i) (F y i)) = (S (24 * y + i) ^^ penOp pen (S (24 * y + i)) (G (24 * y + i)))
        rw [h.1 y i q1 q2, hF.1 y i q1 q2]
      · show (P y i ^^ penOp pen (P y i) (F y i)) = false
        rw [h.2 y i q1 q2, hF.2 y i q1 q2, penOp_f]
        rfl
    exact same_cnt h2
  · refine ⟨fun y i q1 q2 => ?_, fun y i q1 q2 => ?_⟩
    · unfold inkP inkS
      rw [if_pos q1, if_pos (by omega), h.1 y i q1 q2, hF.1 y i q1 q2]
    · unfold inkP
      rw [if_pos q1, h.2 y i q1 q2, hF.2 y i q1 q2, penOp_f]
theorem clr_f (F : Nat → Nat → Bool) {y : Nat} (i : Nat) (h : y < 24) : clr F 24 y i = false := by unfold clr; rw [if_pos h]
theorem setG_in (f G : Nat → Bool) {k : Nat} (h : k < 576) : setG f G 576 k = f k := by unfold setG; rw [if_pos h]
theorem kd {y i : Nat} (hi : i < 24) : ((24 * y + i : Nat) : Int) % 24 = (i : Int) ∧ ((24 * y + i : Nat) : Int) / 24 = (y : Int) := by omega
-- lines
theorem near_same {a b c d x y : Int} (h : a < c) : (a ≤ x ∧ x < c + 1 ∧ wlHit a (c - a) (d - b) b x y) ↔ nearB x y a b c d = true := by
  unfold nearB
  rw [decide_eq_true_eq]
  constructor
  · intro ⟨h1, h2, h3⟩
    rcases h3 with h3 | h3
    · exact ⟨h1, by omega, by omega, by omega⟩
    · omega
  · intro ⟨h1, h2, h3, h4⟩
    exact ⟨h1, by omega, Or.inl ⟨by omega, by omega, by omega⟩⟩
theorem lineW_f (F : Nat → Nat → Bool) (fr len rise h0 n : Int) {j i : Nat} (hj : j < 24) : lineW (clr F 24) false fr len rise h0 n j i = decide (i < 24 ∧ j < 24 ∧ fr ≤ (i : Int) ∧ (i : Int) < n ∧ wlHit fr len rise h0 i j) := by
  unfold lineW
  rw [clr_f F i hj]
  simp
theorem lineW_t (F : Nat → Nat → Bool) (fr len rise h0 n : Int) {j i : Nat} (hj : j < 24) : lineW (clr F 24) true fr len rise h0 n j i = decide (i < 24 ∧ j < 24 ∧ fr ≤ (j : Int) ∧ (j : Int) < n ∧ wlHit fr len rise h0 j i) := by
  unfold lineW
  rw [clr_f F i hj]
  simp
theorem same_line (F : Nat → Nat → Bool) (G : Nat → Bool) {z w : Int} (hz : 0 ≤ z ∧ z % 32 < 24 ∧ z / 32 < 24) (hw : 0 ≤ w ∧ w % 32 < 24 ∧ w / 32 < 24) : same (lnF (clr F 24) z w) (setG (lineB z w) G 576) := by
  constructor
  · intro j i hj hi
    rw [setG_in _ _ (by omega)]
    unfold lineB lnF
    rw [(kd hi).1, (kd hi).2]
    generalize z % 32 = a at *
    generalize z / 32 = b at *
    generalize w % 32 = c at *
    generalize w / 32 = d at *
    unfold onLineB wl
    by_cases h1 : (b - d).natAbs ≤ (a - c).natAbs
    · rw [if_pos h1, if_pos h1]
      by_cases h2 : a = c ∧ b = d
      · rw [if_pos h2, if_pos (by omega), lineW_f _ _ _ _ _ _ hj]
        refine decide_eq_decide.mpr ⟨fun q => ?_, fun q => ?_⟩
        · rcases q.2.2.2.2 with z | z <;> omega
        · exact ⟨hi, hj, by omega, by omega, Or.inr ⟨by omega, by omega⟩⟩
      · rw [if_neg h2]
        rcases Int.lt_or_le a c with h3 | h3
        · rw [if_pos (by omega), if_pos h3, lineW_f _ _ _ _ _ _ hj]
          have := near_same (b := b) (d := d) (x := (i : Int)) (y := (j : Int)) h3
          cases e : nearB (i : Int) (j : Int) a b c d with
          | true => exact decide_eq_true ⟨hi, hj, this.mpr e⟩
          | false => exact decide_eq_false (fun q => by rw [this.mp q.2.2] at e; cases e)
        · have h4 : c < a := by omega
          rw [if_neg (by omega), if_neg (by omega), lineW_f _ _ _ _ _ _ hj]
          have := near_same (b := d) (d := b) (x := (i : Int)) (y := (j : Int)) h4
          cases e : nearB (i : Int) (j : Int) c d a b with
          | true => exact decide_eq_true ⟨hi, hj, this.mpr e⟩
          | false => exact decide_eq_false (fun q => by rw [this.mp q.2.2] at e; cases e)
    · rw [if_neg h1, if_neg h1, if_neg (show ¬ (a = c ∧ b = d) by omega)]
      rcases Int.lt_or_le b d with h3 | h3
      · rw [if_pos (by omega), if_pos h3, lineW_t _ _ _ _ _ _ hj]
        have := near_same (b := a) (d := c) (x := (j : Int)) (y := (i : Int)) h3
        cases e : nearB (j : Int) (i : Int) b a d c with
        | true => exact decide_eq_true ⟨hi, hj, this.mpr e⟩
        | false => exact decide_eq_false (fun q => by rw [this.mp q.2.2] at e; cases e)
      · have h4 : d < b := by omega
        rw [if_neg (by omega), if_neg (by omega), lineW_t _ _ _ _ _ _ hj]
        have := near_same (b := c) (d := a) (x := (j : Int)) (y := (i : Int)) h4
        cases e : nearB (j : Int) (i : Int) d c b a with
        | true => exact decide_eq_true ⟨hi, hj, this.mpr e⟩
        | false => exact decide_eq_false (fun q => by rw [this.mp q.2.2] at e; cases e)
  · intro j i hj hi
    unfold lnF wl
    split
    · split
      · rw [lineW_f _ _ _ _ _ _ hj]; exact decide_eq_false (fun q => by omega)
      · rw [lineW_f _ _ _ _ _ _ hj]; exact decide_eq_false (fun q => by omega)
    · split
      · rw [lineW_t _ _ _ _ _ _ hj]; exact decide_eq_false (fun q => by omega)
      · rw [lineW_t _ _ _ _ _ _ hj]; exact decide_eq_false (fun q => by omega)
-- rings
theorem na_sq (u : Int) : (u.natAbs : Int) * (u.natAbs : Int) = u * u := by
  rcases Int.le_total 0 u with h | h
  · rw [show (u.natAbs : Int) = u by omega]
  · rw [show (u.natAbs : Int) = -u by omega]
    grind
theorem arc_same (r u v : Int) : arcC r (u.natAbs : Int) (v.natAbs : Int) ↔ onArcB u v r = true := by
  unfold onArcB
  rw [decide_eq_true_eq]
  have e1 := na_sq u
  have e2 : 0 ≤ r * r := by rw [← na_sq]; exact Int.mul_nonneg (by omega) (by omega)
  constructor
  · intro ⟨h1, h2, h3⟩
    refine ⟨?_, h1, by omega, by omega⟩
    rcases h3 with h3 | h3
    · have h4 : u = 0 := by omega
      subst h4
      omega
    · rcases Int.lt_or_le 0 (v.natAbs : Int) with h4 | h4
      · have h5 : 0 ≤ (v.natAbs : Int) * ((v.natAbs : Int) - 1) := Int.mul_nonneg (by omega) (by omega)
        have h6 : (v.natAbs : Int) * ((v.natAbs : Int) - 1) = (v.natAbs : Int) * (v.natAbs : Int) - (v.natAbs : Int) := by grind
        omega
      · have h4 : u = 0 := by omega
        subst h4
        omega
  · intro ⟨h1, h2, h3, h4⟩
    exact ⟨h2, by omega, by omega⟩
theorem same_ring (F : Nat → Nat → Bool) (G : Nat → Bool) {z r : Int} (hz : 0 ≤ z ∧ z % 32 < 24 ∧ z / 32 < 24) : same (ringF (clr F 24) (z % 32) (z / 32) r) (setG (ringB z r) G 576) := by
  constructor
  · intro j i hj hi
    rw [setG_in _ _ (by omega)]
    unfold ringB ringF
    rw [(kd hi).1, (kd hi).2, clr_f F i hj, Bool.false_or]
    have k1 := arc_same r ((i : Int) - z % 32) ((j : Int) - z / 32)
    have k2 := arc_same r ((j : Int) - z / 32) ((i : Int) - z % 32)
    cases e1 : onArcB ((i : Int) - z % 32) ((j : Int) - z / 32) r with
    | true => exact decide_eq_true ⟨hi, hj, Or.inl (k1.mpr e1)⟩
    | false =>
      cases e2 : onArcB ((j : Int) - z / 32) ((i : Int) - z % 32) r with
      | true => exact decide_eq_true ⟨hi, hj, Or.inr (k2.mpr e2)⟩
      | false => exact decide_eq_false (fun q => by
          rcases q.2.2 with q | q
          · rw [k1.mp q] at e1; cases e1
          · rw [k2.mp q] at e2; cases e2)
  · intro j i hj hi
    unfold ringF
    rw [clr_f F i hj, Bool.false_or]
    exact decide_eq_false (fun q => by omega)
-- discs and blots
theorem le_of_sq {x y : Int} (hy : 0 ≤ y) (h : x * x ≤ y * y) : x ≤ y := by
  rcases Int.lt_or_le y x with q | q
  · have h1 : 0 < (x - y) * (x + y) := Int.mul_pos (by omega) (by omega)
    have h2 : (x - y) * (x + y) = x * x - y * y := by grind
    omega
  · exact q
theorem disc_same {r : Int} (hr : 0 ≤ r) (u v : Int) : blotHit r r (u.natAbs : Int) (v.natAbs : Int) ↔ u * u + v * v ≤ r * r := by
  have e1 := na_sq u
  have e2 := na_sq v
  have e3 : r * r * (u.natAbs : Int) * (u.natAbs : Int) = r * r * (u * u) := by rw [← e1]; grind
  have e4 : r * r * (v.natAbs : Int) * (v.natAbs : Int) = r * r * (v * v) := by rw [← e2]; grind
  have e5 : r * r * r * r = r * r * (r * r) := by grind
  have u0 : 0 ≤ u * u := by rw [← e1]; exact Int.mul_nonneg (by omega) (by omega)
  have v0 : 0 ≤ v * v := by rw [← e2]; exact Int.mul_nonneg (by omega) (by omega)
  constructor
  · intro ⟨h1, h2, h3⟩
    rcases Int.lt_or_le 0 r with q | q
    · have h4 : r * r * (u * u + v * v) ≤ r * r * (r * r) := by
        have : r * r * (u * u + v * v) = r * r * (u * u) + r * r * (v * v) := by grind
        have h3' : r * r * (u.natAbs : Int) * (u.natAbs : Int) + r * r * (v.natAbs : Int) * (v.natAbs : Int) ≤ r * r * r * r := h3
        omega
      exact Int.le_of_mul_le_mul_left h4 (Int.mul_pos q q)
    · have : u = 0 := by omega
      have : v = 0 := by omega
      subst u; subst v
      have : 0 ≤ r * r := Int.mul_nonneg hr hr
      omega
  · intro h
    have h1 : (u.natAbs : Int) ≤ r := le_of_sq hr (by omega)
    have h2 : (v.natAbs : Int) ≤ r := le_of_sq hr (by omega)
    refine ⟨h1, h2, ?_⟩
    have h4 := Int.mul_le_mul_of_nonneg_left h (Int.mul_nonneg hr hr)
    have : r * r * (u * u + v * v) = r * r * (u * u) + r * r * (v * v) := by grind
    show r * r * (u.natAbs : Int) * (u.natAbs : Int) + r * r * (v.natAbs : Int) * (v.natAbs : Int) ≤ r * r * r * r
    omega
theorem same_disc (F : Nat → Nat → Bool) (G : Nat → Bool) {z r : Int} (hz : 0 ≤ z ∧ z % 32 < 24 ∧ z / 32 < 24) (hr : 0 ≤ r) : same (blotF (clr F 24) (z % 32) (z / 32) r r) (setG (discB z r) G 576) := by
  constructor
  · intro j i hj hi
    rw [setG_in _ _ (by omega)]
    unfold discB blotF
    rw [(kd hi).1, (kd hi).2, clr_f F i hj, Bool.false_or]
    have k1 := disc_same hr ((i : Int) - z % 32) ((j : Int) - z / 32)
    exact decide_eq_decide.mpr ⟨fun q => k1.mp q.2.2, fun q => ⟨hi, hj, k1.mpr q⟩⟩
  · intro j i hj hi
    unfold blotF
    rw [clr_f F i hj, Bool.false_or]
    exact decide_eq_false (fun q => by omega)
theorem blot_same {p q : Int} (hp : 0 < p) (hq : 0 < q) (u v : Int) : blotHit p q (u.natAbs : Int) (v.natAbs : Int) ↔ q * q * u * u + p * p * v * v ≤ p * p * q * q := by
  have e1 := na_sq u
  have e2 := na_sq v
  have e3 : q * q * (u.natAbs : Int) * (u.natAbs : Int) = q * q * (u * u) := by rw [← e1]; grind
  have e4 : p * p * (v.natAbs : Int) * (v.natAbs : Int) = p * p * (v * v) := by rw [← e2]; grind
  have e5 : q * q * u * u = q * q * (u * u) := by grind
  have e6 : p * p * v * v = p * p * (v * v) := by grind
  have e7 : p * p * q * q = q * q * (p * p) := by grind
  have e8 : p * p * q * q = p * p * (q * q) := by grind
  have p2 : 0 < p * p := Int.mul_pos hp hp
  have q2 : 0 < q * q := Int.mul_pos hq hq
  have u0 : 0 ≤ q * q * (u * u) := by rw [← e1]; exact Int.mul_nonneg (by omega) (Int.mul_nonneg (by omega) (by omega))
  have v0 : 0 ≤ p * p * (v * v) := by rw [← e2]; exact Int.mul_nonneg (by omega) (Int.mul_nonneg (by omega) (by omega))
  have ii : inB p q (u.natAbs : Int) (v.natAbs : Int) ↔ q * q * u * u + p * p * v * v ≤ p * p * q * q := by
    show q * q * (u.natAbs : Int) * (u.natAbs : Int) + p * p * (v.natAbs : Int) * (v.natAbs : Int) ≤ p * p * q * q ↔ _
    omega
  constructor
  · intro h
    exact ii.mp h.2.2
  · intro h
    refine ⟨le_of_sq (by omega) ?_, le_of_sq (by omega) ?_, ii.mpr h⟩
    · rw [e1]
      exact Int.le_of_mul_le_mul_left (a := q * q) (by omega) q2
    · rw [e2]
      exact Int.le_of_mul_le_mul_left (a := p * p) (by omega) p2
theorem sq_pos {x : Int} (h : x ≠ 0) : 0 < x * x := by
  rw [← na_sq]
  exact Int.mul_pos (by omega) (by omega)
theorem same_blot (F : Nat → Nat → Bool) (G : Nat → Bool) {z p q : Int} (hz : 0 ≤ z ∧ z % 32 < 24 ∧ z / 32 < 24) (hp : 0 ≤ p) (hq : 0 ≤ q) : same (btF (clr F 24) z p q) (setG (blotB z p q) G 576) := by
  unfold btF
  by_cases h : p = 0 ∨ q = 0
  · rw [if_pos h]
    constructor
    · intro j i hj hi
      rw [setG_in _ _ (by omega)]
      unfold blotB crossF
      rw [(kd hi).1, (kd hi).2, clr_f F i hj, Bool.false_or]
      generalize hu : (i : Int) - z % 32 = u
      generalize hv : (j : Int) - z / 32 = v
      have k : ((p = 0 ∧ q = 0) ∨ (p = 0 ∧ q ≠ 0 ∧ (i : Int) = z % 32) ∨ (p ≠ 0 ∧ (j : Int) = z / 32)) ↔ q * q * u * u + p * p * v * v ≤ p * p * q * q := by
        by_cases e1 : p = 0
        · subst e1
          have z1 : (0 : Int) * 0 * v * v = 0 := by grind
          have z2 : (0 : Int) * 0 * q * q = 0 := by grind
          rw [z1, z2]
          by_cases e2 : q = 0
          · subst e2
            have z3 : (0 : Int) * 0 * u * u = 0 := by grind
            rw [z3]
            simp
          · by_cases e3 : u = 0
            · subst e3
              have z3 : q * q * 0 * 0 = 0 := by grind
              rw [z3]
              exact ⟨fun _ => by decide, fun _ => Or.inr (Or.inl ⟨rfl, e2, by omega⟩)⟩
            · have z3 : q * q * u * u = q * q * (u * u) := by grind
              have z4 := Int.mul_pos (sq_pos e2) (sq_pos e3)
              rw [z3]
              constructor
              · intro w
                rcases w with w | w | w
                · exact absurd w.2 e2
                · omega
                · exact absurd rfl w.1
              · intro w
                omega
        · have e2 : q = 0 := by omega
          subst e2
          have z1 : (0 : Int) * 0 * u * u = 0 := by grind
          have z2 : p * p * 0 * 0 = 0 := by grind
          rw [z1, z2]
          by_cases e3 : v = 0
          · subst e3
            have z3 : p * p * 0 * 0 = 0 := by grind
            rw [z3]
            exact ⟨fun _ => by decide, fun _ => Or.inr (Or.inr ⟨e1, by omega⟩)⟩
          · have z3 : p * p * v * v = p * p * (v * v) := by grind
            have z4 := Int.mul_pos (sq_pos e1) (sq_pos e3)
            rw [z3]
            constructor
            · intro w
              rcases w with w | w | w
              · exact absurd w.1 e1
              · exact absurd w.1 e1
              · omega
            · intro w
              omega
      exact decide_eq_decide.mpr ⟨fun w => k.mp w.2.2.2, fun w => ⟨hj, hi, hj, k.mpr w⟩⟩
    · intro j i hj hi
      unfold crossF
      rw [clr_f F i hj, Bool.false_or]
      exact decide_eq_false (fun w => by omega)
  · rw [if_neg h]
    constructor
    · intro j i hj hi
      rw [setG_in _ _ (by omega)]
      unfold blotB blotF
      rw [(kd hi).1, (kd hi).2, clr_f F i hj, Bool.false_or]
      have k1 := blot_same (p := p) (q := q) (by omega) (by omega) ((i : Int) - z % 32) ((j : Int) - z / 32)
      exact decide_eq_decide.mpr ⟨fun w => k1.mp w.2.2, fun w => ⟨hi, hj, k1.mpr w⟩⟩
    · intro j i hj hi
      unfold blotF
      rw [clr_f F i hj, Bool.false_or]
      exact decide_eq_false (fun w => by omega)
-- triangles
theorem same_tri (F : Nat → Nat → Bool) (G : Nat → Bool) {p q r : Int} : same (trF (clr F 24) p q r) (setG (trigB p q r) G 576) := by
  constructor
  · intro j i hj hi
    rw [setG_in _ _ (by omega)]
    unfold trigB trF triW inTriB btw
    rw [(kd hi).1, (kd hi).2, clr_f F i hj, Bool.false_or, ← Bool.decide_and, ← Bool.decide_and]
    refine decide_eq_decide.mpr ⟨fun w => ⟨w.2.2.2.2.2.2, by omega, by omega⟩, fun w => ⟨hi, hj, by omega, by omega, by omega, by omega, w.1⟩⟩
  · intro j i hj hi
    unfold trF triW
    rw [clr_f F i hj, Bool.false_or]
    exact decide_eq_false (fun w => by omega)
-- moves
theorem same_move {P F : Nat → Nat → Bool} {S G : Nat → Bool} (h : same P S) {dx dy : Int} : same (mvP P (mvF P F dy 24) dx 24) (setG (mvB (setG S G 576) dx dy) S 576) := by
  constructor
  · intro j i hj hi
    rw [setG_in _ _ (by omega)]
    unfold mvB mvP mvS mvF
    rw [(kd hi).1, (kd hi).2, if_pos hj, decide_eq_true hi, Bool.true_and]
    by_cases hy : 0 ≤ (j : Int) - dy ∧ (j : Int) - dy < 24
    · obtain ⟨y, ey⟩ := Int.eq_ofNat_of_zero_le hy.1
      have key : ∀ x : Nat, (x : Int) = (i : Int) - dx → (if (j : Nat) < 24 then (if 0 ≤ (j : Int) - dy ∧ (j : Int) - dy < 24 then P ((j : Int) - dy).toNat x else false) else F j x) = (decide (0 ≤ (i : Int) - dx ∧ (i : Int) - dx ≤ 23 ∧ 0 ≤ (j : Int) - dy ∧ (j : Int) - dy ≤ 23) && setG S G 576 (24 * ((j : Int) - dy) + ((i : Int) - dx)).toNat) := by
        intro x ex
        rw [if_pos hj, if_pos hy, ← ex, ey, show ((y : Nat) : Int).toNat = y from rfl, show (24 * (y : Int) + (x : Int)).toNat = 24 * y + x by omega]
        rcases Nat.lt_or_ge x 24 with q | q
        · rw [decide_eq_true (by omega), setG_in _ _ (by omega), h.1 y x (by omega) q, Bool.true_and]
        · rw [decide_eq_false (by omega), h.2 y x (by omega) q, Bool.false_and]
      by_cases hx : 0 ≤ dx
      · rw [if_pos hx]
        rcases Nat.lt_or_ge i dx.toNat with q | q
        · rw [decide_eq_false (show ¬ dx.toNat ≤ i by omega), decide_eq_false (by omega), Bool.false_and, Bool.false_and]
        · rw [decide_eq_true (show dx.toNat ≤ i by omega), Bool.true_and]
          exact key (i - dx.toNat) (by omega)
      · rw [if_neg hx]
        rcases Nat.lt_or_ge ((-dx).toNat + i) 32 with q | q
        · rw [decide_eq_true q, Bool.true_and]
          exact key ((-dx).toNat + i) (by omega)
        · rw [decide_eq_false (by omega), decide_eq_false (by omega), Bool.false_and, Bool.false_and]
    · rw [decide_eq_false (show ¬ (0 ≤ (i : Int) - dx ∧ (i : Int) - dx ≤ 23 ∧ 0 ≤ (j : Int) - dy ∧ (j : Int) - dy ≤ 23) by omega), Bool.false_and]
      have e : ∀ x : Nat, (if (j : Nat) < 24 then (if 0 ≤ (j : Int) - dy ∧ (j : Int) - dy < 24 then P ((j : Int) - dy).toNat x else false) else F j x) = false := fun x => by rw [if_pos hj, if_neg hy]
      by_cases hx : 0 ≤ dx
      · rw [if_pos hx, e, Bool.and_false]
      · rw [if_neg hx, e, Bool.and_false]
  · intro j i hj hi
    unfold mvP mvS
    rw [if_pos hj, decide_eq_false (by omega), Bool.false_and]
-- floods
theorem same_flood {P F : Nat → Nat → Bool} {S G : Nat → Bool} (h : same P S) {y0 x0 : Nat} (hy : y0 < 24) (hx : x0 < 24) (hF : fEnd P (P y0 x0) y0 x0 F) (hc : closedM S (24 * y0 + x0) G) (hG : mfI S (24 * y0 + x0) G) : same F G := by
  obtain ⟨f1, f2, f3, f4⟩ := hF
  obtain ⟨g1, g2, g3⟩ := hG
  have hv : S (24 * y0 + x0) = P y0 x0 := (h.1 y0 x0 hy hx).symm
  have a1 : closedP P (P y0 x0) (fun j i => G (24 * j + i)) := by
    intro j i j' i' q1 q2 q3 q4 q5 q6 q7
    refine hc (24 * j' + i') (by omega) (by rw [hv, ← h.1 j' i' q3 q4]; exact q7) (decide_eq_true ?_)
    have q6 : G (24 * j + i) = true := q6
    rcases q5 with ⟨rfl, e | e⟩ | ⟨rfl, e | e⟩
    · exact Or.inl ⟨by omega, by rw [show 24 * j + i' - 1 = 24 * j + i by omega]; exact q6⟩
    · exact Or.inr (Or.inl ⟨by omega, by rw [show 24 * j + i' + 1 = 24 * j + i by omega]; exact q6⟩)
    · exact Or.inr (Or.inr (Or.inl ⟨by omega, by rw [show 24 * j' + i - 24 = 24 * j + i by omega]; exact q6⟩))
    · exact Or.inr (Or.inr (Or.inr ⟨by omega, by rw [show 24 * j' + i + 24 = 24 * j + i by omega]; exact q6⟩))
  have a2 : closedM S (24 * y0 + x0) (fun k => F (k / 24) (k % 24)) := by
    intro k q1 q2 q3
    have e0 : P (k / 24) (k % 24) = P y0 x0 := by rw [h.1 (k / 24) (k % 24) (by omega) (by omega), ← hv, ← q2, show 24 * (k / 24) + k % 24 = k by omega]
    have q3 := of_decide_eq_true q3
    rcases q3 with ⟨w1, w2⟩ | ⟨w1, w2⟩ | ⟨w1, w2⟩ | ⟨w1, w2⟩
    · exact f1 ((k - 1) / 24) ((k - 1) % 24) (k / 24) (k % 24) (by omega) (by omega) (by omega) (by omega) (by omega) w2 e0
    · exact f1 ((k + 1) / 24) ((k + 1) % 24) (k / 24) (k % 24) (by omega) (by omega) (by omega) (by omega) (by omega) w2 e0
    · exact f1 ((k - 24) / 24) ((k - 24) % 24) (k / 24) (k % 24) (by omega) (by omega) (by omega) (by omega) (by omega) w2 e0
    · exact f1 ((k + 24) / 24) ((k + 24) % 24) (k / 24) (k % 24) (by omega) (by omega) (by omega) (by omega) (by omega) w2 e0
  refine ⟨fun j i q1 q2 => ?_, fun j i q1 q2 => ?_⟩
  · cases e1 : F j i with
    | true => exact (f4 _ a1 g1 j i q1 e1).symm
    | false =>
      cases e2 : G (24 * j + i) with
      | false => rfl
      | true =>
        have := g3 _ a2 (by show F ((24 * y0 + x0) / 24) ((24 * y0 + x0) % 24) = true; rw [show (24 * y0 + x0) / 24 = y0 by omega, show (24 * y0 + x0) % 24 = x0 by omega]; exact f2) (24 * j + i) (by omega) e2
        have : F ((24 * j + i) / 24) ((24 * j + i) % 24) = true := this
        rw [show (24 * j + i) / 24 = j by omega, show (24 * j + i) % 24 = i by omega, e1] at this
        exact this
  · cases e1 : F j i with
    | false => rfl
    | true => have := (f3 j i q1 e1).1; omega
theorem same_xor {P F : Nat → Nat → Bool} {S G : Nat → Bool} (h : same P S) (hF : same F G) : same (xorP P F 24) (xorS S G 576) := by
  refine ⟨fun j i q1 q2 => ?_, fun j i q1 q2 => ?_⟩
  · unfold xorP xorS
    rw [if_pos q1, if_pos (by omega), h.1 j i q1 q2, hF.1 j i q1 q2]
  · unfold xorP
    rw [if_pos q1, h.2 j i q1 q2, hF.2 j i q1 q2]
    rfl
-- looks
theorem same_get {P : Nat → Nat → Bool} {S : Nat → Bool} (h : same P S) (z : Int) : getV P z = mgetV S z := by
  unfold getV mgetV
  by_cases e : isPx z = true
  · rw [if_pos e, if_pos e]
    have hz : 0 ≤ z ∧ z % 32 < 24 ∧ z / 32 < 24 := of_decide_eq_true e
    rw [h.1 (z / 32).toNat (z % 32).toNat (by omega) (by omega), show 24 * (z / 32).toNat + (z % 32).toNat = (24 * (z / 32) + z % 32).toNat by omega]
  · rw [if_neg e, if_neg e]
theorem same_row {P : Nat → Nat → Bool} {S : Nat → Bool} (h : same P S) (z : Int) : rowV P z = mrowV S z := by
  unfold rowV mrowV
  by_cases e : 0 ≤ z ∧ z < 24
  · rw [if_pos e, if_pos e]
    refine bI_ext (fun i hi => ?_)
    unfold rowS
    rcases Nat.lt_or_ge i 24 with q | q
    · rw [h.1 z.toNat i (by omega) q, decide_eq_true q, Bool.true_and]
    · rw [h.2 z.toNat i (by omega) q, decide_eq_false (by omega), Bool.false_and]
  · rw [if_neg e, if_neg e]
end
section
set_option maxHeartbeats 4000000 in
set_option maxRecDepth 100000 in
theorem mk_X0 (l : Launch) (D : va_G) (h0 : Nat) (sz : Nat) : Met l yX0_init (ws_ yX0_init cX0_init 1 none) ({ frames := 1, cells := 5, slots := 912, locals := 12 } : Room) (va_Pc [.ref h0] (fun U => U.heap.size = sz ∧ va_P D cls [(h0, .inr (0, [.int (iI 0), .null, .null, .int (iI 0), .null, .null, .null]))] U.heap ∧ va_K D cls [] U ∧ va_D (fun _ => True) [(h0, .inr (0, [.int (iI 0), .null, .null, .int (iI 0), .null, .null, .null]))])) (va_Qv (fun u : (Nat → Nat) × (Nat → ClassId) => u.1 0 = h0) (fun u t => va_P D cls (cW u.1 u.2 0 (fun _ _ => false) (fun _ _ => false) 0 (fun _ => 0) (fun _ => 0) (fun _ => 0)) t.heap ∧ va_K D cls (cTy u.2) t ∧ va_D (va_A [(h0, .inr (0, [.int (iI 0), .null, .null, .int (iI 0), .null, .null, .null]))] sz) (cW u.1 u.2 0 (fun _ _ => false) (fun _ _ => false) 0 (fun _ => 0) (fun _ => 0) (fun _ => 0))) (va_A [(h0, .inr (0, [.int (iI 0), .null, .null, .int (iI 0), .null, .null, .null]))] sz)) 5 912 (va_A [(h0, .inr (0, [.int (iI 0), .null, .null, .int (iI 0), .null, .null, .null]))] sz) := by
  refine Met.ofW (cc := cX0_init) (maxL := 1) (ret := none) (by decide) rfl ?_
  intro p e s m args below meth c s₁ B hml hv
  obtain ⟨rfl, hsz, hP, hK, hD0⟩ := hv
  have hx := B.exec
  have hb := B.bytes
  have hr := B.returns
  have hts := atoms_spec (ws := ws_ yX0_init cX0_init 1 none) B.pre
  have hts : ∀ w ∈ lw_all, w.before _ s = true := fun w h => hts w (List.mem_cons_of_mem _ h)
  have hown : s.vm.findClass RX0 = some m.cls := findClass_of_methodNamed B.named
  have hlocks := B.notSynchronized
  have hin : meth.name = "<init>" := (name_of_methodNamed B.named B.method).1
  subst hsz
  have hD := hD0.self (sz := s.heap.size)
  generalize hAe : va_A [(h0, .inr (0, [.int (iI 0), .null, .null, .int (iI 0), .null, .null, .null]))] s.heap.size = A at hD ⊢
  have hA : ∀ q : Nat, s.heap.size ≤ q → A q := fun q h => by rw [← hAe]; exact Or.inr h
  have hS : va_S A s.heap s.heap [] := va_S.rf
  have hl := lv_entry ([.ref h0]) (n := 1) (Nat.le_of_ble_eq_true rfl)
  rw [lg_entry_eq]
  generalize (lg_sl ([.ref h0]) ++ List.replicate (1 - (lg_sl ([.ref h0])).length) Slot.unset).toArray = ls at hl ⊢
  have hl : lv_has ls 1 [(0, .ref h0)] := hl
  refine lv_aload_n hx hb eX0_init_0.1 rfl (lv_at hl 0 rfl) ?_
  refine W.objInit hx hb hown (hts _ q36) (hts _ q37) (hts _ q38) rfl (by rw [hml]; exact hl.1) rfl eX0_init_1.1 (Nat.le_of_ble_eq_true rfl) (Nat.le_of_ble_eq_true rfl) ?_
  refine W.eq (g2 := F0 m 4 ls []) rfl ?_
  refine lv_aload_n hx hb eX0_init_4.1 rfl (lv_at hl 0 rfl) ?_
  refine lv_bipush (v := iI 24) hx hb eX0_init_5.1 (by decide) ?_
  refine va_newa (D := D) (atype := .int) (ty := .int) (a0 := (24, .inl (fun y => bI ((fun _ _ => false : Nat → Nat → Bool) y)))) (N' := 24) hx hb (hts _ q61) rfl hK hP hD hS hA (fun cA => by show arrV cA 24 (fun j => .int (bI (fun _ => false))) = _; rw [bI_0]; rfl) (by decide) (by decide) (by decide) (Nat.le_of_ble_eq_true rfl) (Nat.le_of_ble_eq_true rfl) eX0_init_7.1 (fun z1 dd1 H hK hP hD hS => ?_)
  have hK : va_K D cls [(dd1, .int)] s := hK
  have hP : va_P D cls [(h0, .inr (0, [.int (iI 0), .null, .null, .int (iI 0), .null, .null, .null])), (z1, .inl (dd1, 24, .inl (fun y => bI ((fun _ _ => false : Nat → Nat → Bool) y))))] H := hP
  have hD : va_D A [(h0, .inr (0, [.int (iI 0), .null, .null, .int (iI 0), .null, .null, .null])), (z1, .inl (dd1, 24, .inl (fun y => bI ((fun _ _ => false : Nat → Nat → Bool) y))))] := hD
  refine va_putF (D := D) (ci := 0) (v := .ref z1) (ty := .array .int) (C := RX0) (T := TX0) (N := 7) hx hb hts in_X0 tyX0 tyX0_ok nmX0 hown hK hP hD hS 0 rfl rfl 1 (by decide) (hts _ q40) (fun _ h9 => h9) rfl hin rfl (by decide +kernel) rfl rfl (Nat.le_of_ble_eq_true rfl) eX0_init_9.1 (fun H locs hP hD hS => ?_)
  have hP : va_P D cls [(h0, .inr (0, [.int (iI 0), .ref z1, .null, .int (iI 0), .null, .null, .null])), (z1, .inl (dd1, 24, .inl (fun y => bI ((fun _ _ => false : Nat → Nat → Bool) y))))] H := hP
  have hD : va_D A [(h0, .inr (0, [.int (iI 0), .ref z1, .null, .int (iI 0), .null, .null, .null])), (z1, .inl (dd1, 24, .inl (fun y => bI ((fun _ _ => false : Nat → Nat → Bool) y))))] := hD
  refine lv_aload_n hx hb eX0_init_12.1 rfl (lv_at hl 0 rfl) ?_
  refine lv_bipush (v := iI 24) hx hb eX0_init_13.1 (by decide) ?_
  refine va_newa (D := D) (atype := .int) (ty := .int) (a0 := (24, .inl (fun y => bI ((fun _ _ => false : Nat → Nat → Bool) y)))) (N' := 24) hx hb (hts _ q61) rfl hK hP hD hS hA (fun cA => by show arrV cA 24 (fun j => .int (bI (fun _ => false))) = _; rw [bI_0]; rfl) (by decide) (by decide) (by decide) (Nat.le_of_ble_eq_true rfl) (Nat.le_of_ble_eq_true rfl) eX0_init_15.1 (fun z2 dd2 H hK hP hD hS => ?_)
  have hK : va_K D cls [(dd1, .int), (dd2, .int)] s := hK
  have hP : va_P D cls [(h0, .inr (0, [.int (iI 0), .ref z1, .null, .int (iI 0), .null, .null, .null])), (z1, .inl (dd1, 24, .inl (fun y => bI ((fun _ _ => false : Nat → Nat → Bool) y)))), (z2, .inl (dd2, 24, .inl (fun y => bI ((fun _ _ => false : Nat → Nat → Bool) y))))] H := hP
  have hD : va_D A [(h0, .inr (0, [.int (iI 0), .ref z1, .null, .int (iI 0), .null, .null, .null])), (z1, .inl (dd1, 24, .inl (fun y => bI ((fun _ _ => false : Nat → Nat → Bool) y)))), (z2, .inl (dd2, 24, .inl (fun y => bI ((fun _ _ => false : Nat → Nat → Bool) y))))] := hD
  refine va_putF (D := D) (ci := 0) (v := .ref z2) (ty := .array .int) (C := RX0) (T := TX0) (N := 7) hx hb hts in_X0 tyX0 tyX0_ok nmX0 hown hK hP hD hS 0 rfl rfl 2 (by decide) (hts _ q41) (fun _ h9 => h9) rfl hin rfl (by decide +kernel) rfl rfl (Nat.le_of_ble_eq_true rfl) eX0_init_17.1 (fun H locs hP hD hS => ?_)
  have hP : va_P D cls [(h0, .inr (0, [.int (iI 0), .ref z1, .ref z2, .int (iI 0), .null, .null, .null])), (z1, .inl (dd1, 24, .inl (fun y => bI ((fun _ _ => false : Nat → Nat → Bool) y)))), (z2, .inl (dd2, 24, .inl (fun y => bI ((fun _ _ => false : Nat → Nat → Bool) y))))] H := hP
  have hD : va_D A [(h0, .inr (0, [.int (iI 0), .ref z1, .ref z2, .int (iI 0), .null, .null, .null])), (z1, .inl (dd1, 24, .inl (fun y => bI ((fun _ _ => false : Nat → Nat → Bool) y)))), (z2, .inl (dd2, 24, .inl (fun y => bI ((fun _ _ => false : Nat → Nat → Bool) y))))] := hD
  refine lv_aload_n hx hb eX0_init_20.1 rfl (lv_at hl 0 rfl) ?_
  refine lv_sipush (v := iI 288) hx hb eX0_init_21.1 (by decide) ?_
  refine va_newa (D := D) (atype := .byte) (ty := .byte) (a0 := (288, .inl (fun k => iI ((fun _ => 0 : Nat → Int) k)))) (N' := 288) hx hb (hts _ q62) rfl hK hP hD hS hA (fun cA => by show arrV cA 288 (fun j => .int (iI 0)) = _; rw [show iI 0 = 0 from rfl]; rfl) (by decide) (by decide) (by decide) (Nat.le_of_ble_eq_true rfl) (Nat.le_of_ble_eq_true rfl) eX0_init_24.1 (fun z3 dd3 H hK hP hD hS => ?_)
  have hK : va_K D cls [(dd1, .int), (dd2, .int), (dd3, .byte)] s := hK
  have hP : va_P D cls [(h0, .inr (0, [.int (iI 0), .ref z1, .ref z2, .int (iI 0), .null, .null, .null])), (z1, .inl (dd1, 24, .inl (fun y => bI ((fun _ _ => false : Nat → Nat → Bool) y)))), (z2, .inl (dd2, 24, .inl (fun y => bI ((fun _ _ => false : Nat → Nat → Bool) y)))), (z3, .inl (dd3, 288, .inl (fun k => iI ((fun _ => 0 : Nat → Int) k))))] H := hP
  have hD : va_D A [(h0, .inr (0, [.int (iI 0), .ref z1, .ref z2, .int (iI 0), .null, .null, .null])), (z1, .inl (dd1, 24, .inl (fun y => bI ((fun _ _ => false : Nat → Nat → Bool) y)))), (z2, .inl (dd2, 24, .inl (fun y => bI ((fun _ _ => false : Nat → Nat → Bool) y)))), (z3, .inl (dd3, 288, .inl (fun k => iI ((fun _ => 0 : Nat → Int) k))))] := hD
  refine va_putF (D := D) (ci := 0) (v := .ref z3) (ty := .array .byte) (C := RX0) (T := TX0) (N := 7) hx hb hts in_X0 tyX0 tyX0_ok nmX0 hown hK hP hD hS 0 rfl rfl 4 (by decide) (hts _ q43) (fun _ h9 => h9) rfl hin rfl (by decide +kernel) rfl rfl (Nat.le_of_ble_eq_true rfl) eX0_init_26.1 (fun H locs hP hD hS => ?_)
  have hP : va_P D cls [(h0, .inr (0, [.int (iI 0), .ref z1, .ref z2, .int (iI 0), .ref z3, .null, .null])), (z1, .inl (dd1, 24, .inl (fun y => bI ((fun _ _ => false : Nat → Nat → Bool) y)))), (z2, .inl (dd2, 24, .inl (fun y => bI ((fun _ _ => false : Nat → Nat → Bool) y)))), (z3, .inl (dd3, 288, .inl (fun k => iI ((fun _ => 0 : Nat → Int) k))))] H := hP
  have hD : va_D A [(h0, .inr (0, [.int (iI 0), .ref z1, .ref z2, .int (iI 0), .ref z3, .null, .null])), (z1, .inl (dd1, 24, .inl (fun y => bI ((fun _ _ => false : Nat → Nat → Bool) y)))), (z2, .inl (dd2, 24, .inl (fun y => bI ((fun _ _ => false : Nat → Nat → Bool) y)))), (z3, .inl (dd3, 288, .inl (fun k => iI ((fun _ => 0 : Nat → Int) k))))] := hD
  refine lv_aload_n hx hb eX0_init_29.1 rfl (lv_at hl 0 rfl) ?_
  refine lv_sipush (v := iI 288) hx hb eX0_init_30.1 (by decide) ?_
  refine va_newa (D := D) (atype := .byte) (ty := .byte) (a0 := (288, .inl (fun k => iI ((fun _ => 0 : Nat → Int) k)))) (N' := 288) hx hb (hts _ q62) rfl hK hP hD hS hA (fun cA => by show arrV cA 288 (fun j => .int (iI 0)) = _; rw [show iI 0 = 0 from rfl]; rfl) (by decide) (by decide) (by decide) (Nat.le_of_ble_eq_true rfl) (Nat.le_of_ble_eq_true rfl) eX0_init_33.1 (fun z4 dd4 H hK hP hD hS => ?_)
  have hK : va_K D cls [(dd1, .int), (dd2, .int), (dd3, .byte), (dd4, .byte)] s := hK
  have hP : va_P D cls [(h0, .inr (0, [.int (iI 0), .ref z1, .ref z2, .int (iI 0), .ref z3, .null, .null])), (z1, .inl (dd1, 24, .inl (fun y => bI ((fun _ _ => false : Nat → Nat → Bool) y)))), (z2, .inl (dd2, 24, .inl (fun y => bI ((fun _ _ => false : Nat → Nat → Bool) y)))), (z3, .inl (dd3, 288, .inl (fun k => iI ((fun _ => 0 : Nat → Int) k)))), (z4, .inl (dd4, 288, .inl (fun k => iI ((fun _ => 0 : Nat → Int) k))))] H := hP
  have hD : va_D A [(h0, .inr (0, [.int (iI 0), .ref z1, .ref z2, .int (iI 0), .ref z3, .null, .null])), (z1, .inl (dd1, 24, .inl (fun y => bI ((fun _ _ => false : Nat → Nat → Bool) y)))), (z2, .inl (dd2, 24, .inl (fun y => bI ((fun _ _ => false : Nat → Nat → Bool) y)))), (z3, .inl (dd3, 288, .inl (fun k => iI ((fun _ => 0 : Nat → Int) k)))), (z4, .inl (dd4, 288, .inl (fun k => iI ((fun _ => 0 : Nat → Int) k))))] := hD
  refine va_putF (D := D) (ci := 0) (v := .ref z4) (ty := .array .byte) (C := RX0) (T := TX0) (N := 7) hx hb hts in_X0 tyX0 tyX0_ok nmX0 hown hK hP hD hS 0 rfl rfl 5 (by decide) (hts _ q44) (fun _ h9 => h9) rfl hin rfl (by decide +kernel) rfl rfl (Nat.le_of_ble_eq_true rfl) eX0_init_35.1 (fun H locs hP hD hS => ?_)
  have hP : va_P D cls [(h0, .inr (0, [.int (iI 0), .ref z1, .ref z2, .int (iI 0), .ref z3, .ref z4, .null])), (z1, .inl (dd1, 24, .inl (fun y => bI ((fun _ _ => false : Nat → Nat → Bool) y)))), (z2, .inl (dd2, 24, .inl (fun y => bI ((fun _ _ => false : Nat → Nat → Bool) y)))), (z3, .inl (dd3, 288, .inl (fun k => iI ((fun _ => 0 : Nat → Int) k)))), (z4, .inl (dd4, 288, .inl (fun k => iI ((fun _ => 0 : Nat → Int) k))))] H := hP
  have hD : va_D A [(h0, .inr (0, [.int (iI 0), .ref z1, .ref z2, .int (iI 0), .ref z3, .ref z4, .null])), (z1, .inl (dd1, 24, .inl (fun y => bI ((fun _ _ => false : Nat → Nat → Bool) y)))), (z2, .inl (dd2, 24, .inl (fun y => bI ((fun _ _ => false : Nat → Nat → Bool) y)))), (z3, .inl (dd3, 288, .inl (fun k => iI ((fun _ => 0 : Nat → Int) k)))), (z4, .inl (dd4, 288, .inl (fun k => iI ((fun _ => 0 : Nat → Int) k))))] := hD
  refine lv_aload_n hx hb eX0_init_38.1 rfl (lv_at hl 0 rfl) ?_
  refine lv_sipush (v := iI 288) hx hb eX0_init_39.1 (by decide) ?_
  refine va_newa (D := D) (atype := .byte) (ty := .byte) (a0 := (288, .inl (fun k => iI ((fun _ => 0 : Nat → Int) k)))) (N' := 288) hx hb (hts _ q62) rfl hK hP hD hS hA (fun cA => by show arrV cA 288 (fun j => .int (iI 0)) = _; rw [show iI 0 = 0 from rfl]; rfl) (by decide) (by decide) (by decide) (Nat.le_of_ble_eq_true rfl) (Nat.le_of_ble_eq_true rfl) eX0_init_42.1 (fun z5 dd5 H hK hP hD hS => ?_)
  have hK : va_K D cls [(dd1, .int), (dd2, .int), (dd3, .byte), (dd4, .byte), (dd5, .byte)] s := hK
  have hP : va_P D cls [(h0, .inr (0, [.int (iI 0), .ref z1, .ref z2, .int (iI 0), .ref z3, .ref z4, .null])), (z1, .inl (dd1, 24, .inl (fun y => bI ((fun _ _ => false : Nat → Nat → Bool) y)))), (z2, .inl (dd2, 24, .inl (fun y => bI ((fun _ _ => false : Nat → Nat → Bool) y)))), (z3, .inl (dd3, 288, .inl (fun k => iI ((fun _ => 0 : Nat → Int) k)))), (z4, .inl (dd4, 288, .inl (fun k => iI ((fun _ => 0 : Nat → Int) k)))), (z5, .inl (dd5, 288, .inl (fun k => iI ((fun _ => 0 : Nat → Int) k))))] H := hP
  have hD : va_D A [(h0, .inr (0, [.int (iI 0), .ref z1, .ref z2, .int (iI 0), .ref z3, .ref z4, .null])), (z1, .inl (dd1, 24, .inl (fun y => bI ((fun _ _ => false : Nat → Nat → Bool) y)))), (z2, .inl (dd2, 24, .inl (fun y => bI ((fun _ _ => false : Nat → Nat → Bool) y)))), (z3, .inl (dd3, 288, .inl (fun k => iI ((fun _ => 0 : Nat → Int) k)))), (z4, .inl (dd4, 288, .inl (fun k => iI ((fun _ => 0 : Nat → Int) k)))), (z5, .inl (dd5, 288, .inl (fun k => iI ((fun _ => 0 : Nat → Int) k))))] := hD
  refine va_putF (D := D) (ci := 0) (v := .ref z5) (ty := .array .byte) (C := RX0) (T := TX0) (N := 7) hx hb hts in_X0 tyX0 tyX0_ok nmX0 hown hK hP hD hS 0 rfl rfl 6 (by decide) (hts _ q45) (fun _ h9 => h9) rfl hin rfl (by decide +kernel) rfl rfl (Nat.le_of_ble_eq_true rfl) eX0_init_44.1 (fun H locs hP hD hS => ?_)
  have hP : va_P D cls [(h0, .inr (0, [.int (iI 0), .ref z1, .ref z2, .int (iI 0), .ref z3, .ref z4, .ref z5])), (z1, .inl (dd1, 24, .inl (fun y => bI ((fun _ _ => false : Nat → Nat → Bool) y)))), (z2, .inl (dd2, 24, .inl (fun y => bI ((fun _ _ => false : Nat → Nat → Bool) y)))), (z3, .inl (dd3, 288, .inl (fun k => iI ((fun _ => 0 : Nat → Int) k)))), (z4, .inl (dd4, 288, .inl (fun k => iI ((fun _ => 0 : Nat → Int) k)))), (z5, .inl (dd5, 288, .inl (fun k => iI ((fun _ => 0 : Nat → Int) k))))] H := hP
  have hD : va_D A [(h0, .inr (0, [.int (iI 0), .ref z1, .ref z2, .int (iI 0), .ref z3, .ref z4, .ref z5])), (z1, .inl (dd1, 24, .inl (fun y => bI ((fun _ _ => false : Nat → Nat → Bool) y)))), (z2, .inl (dd2, 24, .inl (fun y => bI ((fun _ _ => false : Nat → Nat → Bool) y)))), (z3, .inl (dd3, 288, .inl (fun k => iI ((fun _ => 0 : Nat → Int) k)))), (z4, .inl (dd4, 288, .inl (fun k => iI ((fun _ => 0 : Nat → Int) k)))), (z5, .inl (dd5, 288, .inl (fun k => iI ((fun _ => 0 : Nat → Int) k))))] := hD
  refine W.widen (k := 5) (n := 912) (Nat.le_of_ble_eq_true rfl) (Nat.le_of_ble_eq_true rfl) ?_
  exact W.vret hx hb hr (fun t ht hW => ⟨⟨((fun k => match k with | 0 => h0 | 1 => z1 | 2 => z2 | 3 => z3 | 4 => z4 | _ => z5), (fun k => match k with | 1 => dd1 | 2 => dd2 | 3 => dd3 | 4 => dd4 | _ => dd5)), rfl, rfl, by rw [ht]; exact hP, va_K.moved hW.alike hK, hD⟩, hS.F ht⟩) hS.2.2 eX0_init_47.1
set_option maxHeartbeats 4000000 in
set_option maxRecDepth 100000 in
theorem mk_X1 (l : Launch) (D : va_G) (h0 : Nat) (sz : Nat) : Met l yX1_init (ws_ yX1_init cX1_init 1 none) ({ frames := 1, cells := 2, slots := 1152, locals := 12 } : Room) (va_Pc [.ref h0] (fun U => U.heap.size = sz ∧ va_P D cls [(h0, .inr (1, [.null, .null, .int (iI 0)]))] U.heap ∧ va_K D cls [] U ∧ va_D (fun _ => True) [(h0, .inr (1, [.null, .null, .int (iI 0)]))])) (va_Qv (fun u : (Nat → Nat) × (Nat → ClassId) => u.1 0 = h0) (fun u t => va_P D cls (mW u.1 u.2 (fun _ => false) (fun _ => false) 0) t.heap ∧ va_K D cls (mTy u.2) t ∧ va_D (va_A [(h0, .inr (1, [.null, .null, .int (iI 0)]))] sz) (mW u.1 u.2 (fun _ => false) (fun _ => false) 0)) (va_A [(h0, .inr (1, [.null, .null, .int (iI 0)]))] sz)) 2 1152 (va_A [(h0, .inr (1, [.null, .null, .int (iI 0)]))] sz) := by
  refine Met.ofW (cc := cX1_init) (maxL := 1) (ret := none) (by decide) rfl ?_
  intro p e s m args below meth c s₁ B hml hv
  obtain ⟨rfl, hsz, hP, hK, hD0⟩ := hv
  have hx := B.exec
  have hb := B.bytes
  have hr := B.returns
  have hts := atoms_spec (ws := ws_ yX1_init cX1_init 1 none) B.pre
  have hts : ∀ w ∈ lw_all, w.before _ s = true := fun w h => hts w (List.mem_cons_of_mem _ h)
  have hown : s.vm.findClass RX1 = some m.cls := findClass_of_methodNamed B.named
  have hlocks := B.notSynchronized
  have hin : meth.name = "<init>" := (name_of_methodNamed B.named B.method).1
  subst hsz
  have hD := hD0.self (sz := s.heap.size)
  generalize hAe : va_A [(h0, .inr (1, [.null, .null, .int (iI 0)]))] s.heap.size = A at hD ⊢
  have hA : ∀ q : Nat, s.heap.size ≤ q → A q := fun q h => by rw [← hAe]; exact Or.inr h
  have hS : va_S A s.heap s.heap [] := va_S.rf
  have hl := lv_entry ([.ref h0]) (n := 1) (Nat.le_of_ble_eq_true rfl)
  rw [lg_entry_eq]
  generalize (lg_sl ([.ref h0]) ++ List.replicate (1 - (lg_sl ([.ref h0])).length) Slot.unset).toArray = ls at hl ⊢
  have hl : lv_has ls 1 [(0, .ref h0)] := hl
  refine lv_aload_n hx hb eX1_init_0.1 rfl (lv_at hl 0 rfl) ?_
  refine W.objInit hx hb hown (hts _ q183) (hts _ q37) (hts _ q38) rfl (by rw [hml]; exact hl.1) rfl eX1_init_1.1 (Nat.le_of_ble_eq_true rfl) (Nat.le_of_ble_eq_true rfl) ?_
  refine W.eq (g2 := F0 m 4 ls []) rfl ?_
  refine lv_aload_n hx hb eX1_init_4.1 rfl (lv_at hl 0 rfl) ?_
  refine lv_sipush (v := iI 576) hx hb eX1_init_5.1 (by decide) ?_
  refine va_newa (D := D) (atype := .boolean) (ty := .boolean) (a0 := (576, .inl (fun k => iI (zI ((fun _ => false : Nat → Bool) k))))) (N' := 576) hx hb (hts _ q194) rfl hK hP hD hS hA (fun cA => by show arrV cA 576 (fun j => .int (iI (zI false))) = _; rw [show iI (zI false) = 0 from rfl]; rfl) (by decide) (by decide) (by decide) (Nat.le_of_ble_eq_true rfl) (Nat.le_of_ble_eq_true rfl) eX1_init_8.1 (fun z1 dd1 H hK hP hD hS => ?_)
  have hK : va_K D cls [(dd1, .boolean)] s := hK
  have hP : va_P D cls [(h0, .inr (1, [.null, .null, .int (iI 0)])), (z1, .inl (dd1, 576, .inl (fun k => iI (zI ((fun _ => false : Nat → Bool) k)))))] H := hP
  have hD : va_D A [(h0, .inr (1, [.null, .null, .int (iI 0)])), (z1, .inl (dd1, 576, .inl (fun k => iI (zI ((fun _ => false : Nat → Bool) k)))))] := hD
  refine va_put (D := D) (ci := 1) (v := .ref z1) (ty := .array .boolean) (C := RX1) (T := TX1) (N := 3) hx hb hts in_X1 tyX1 tyX1_ok nmX1 hown hK hP hD hS 0 rfl rfl 0 (by decide) (hts _ q184) (fun _ h9 => h9) rfl (by decide +kernel) rfl rfl (Nat.le_of_ble_eq_true rfl) eX1_init_10.1 (fun H locs hP hD hS => ?_)
  have hP : va_P D cls [(h0, .inr (1, [.ref z1, .null, .int (iI 0)])), (z1, .inl (dd1, 576, .inl (fun k => iI (zI ((fun _ => false : Nat → Bool) k)))))] H := hP
  have hD : va_D A [(h0, .inr (1, [.ref z1, .null, .int (iI 0)])), (z1, .inl (dd1, 576, .inl (fun k => iI (zI ((fun _ => false : Nat → Bool) k)))))] := hD
  refine lv_aload_n hx hb eX1_init_13.1 rfl (lv_at hl 0 rfl) ?_
  refine lv_sipush (v := iI 576) hx hb eX1_init_14.1 (by decide) ?_
  refine va_newa (D := D) (atype := .boolean) (ty := .boolean) (a0 := (576, .inl (fun k => iI (zI ((fun _ => false : Nat → Bool) k))))) (N' := 576) hx hb (hts _ q194) rfl hK hP hD hS hA (fun cA => by show arrV cA 576 (fun j => .int (iI (zI false))) = _; rw [show iI (zI false) = 0 from rfl]; rfl) (by decide) (by decide) (by decide) (Nat.le_of_ble_eq_true rfl) (Nat.le_of_ble_eq_true rfl) eX1_init_17.1 (fun z2 dd2 H hK hP hD hS => ?_)
  have hK : va_K D cls [(dd1, .boolean), (dd2, .boolean)] s := hK
  have hP : va_P D cls [(h0, .inr (1, [.ref z1, .null, .int (iI 0)])), (z1, .inl (dd1, 576, .inl (fun k => iI (zI ((fun _ => false : Nat → Bool) k))))), (z2, .inl (dd2, 576, .inl (fun k => iI (zI ((fun _ => false : Nat → Bool) k)))))] H := hP
  have hD : va_D A [(h0, .inr (1, [.ref z1, .null, .int (iI 0)])), (z1, .inl (dd1, 576, .inl (fun k => iI (zI ((fun _ => false : Nat → Bool) k))))), (z2, .inl (dd2, 576, .inl (fun k => iI (zI ((fun _ => false : Nat → Bool) k)))))] := hD
  refine va_put (D := D) (ci := 1) (v := .ref z2) (ty := .array .boolean) (C := RX1) (T := TX1) (N := 3) hx hb hts in_X1 tyX1 tyX1_ok nmX1 hown hK hP hD hS 0 rfl rfl 1 (by decide) (hts _ q185) (fun _ h9 => h9) rfl (by decide +kernel) rfl rfl (Nat.le_of_ble_eq_true rfl) eX1_init_19.1 (fun H locs hP hD hS => ?_)
  have hP : va_P D cls [(h0, .inr (1, [.ref z1, .ref z2, .int (iI 0)])), (z1, .inl (dd1, 576, .inl (fun k => iI (zI ((fun _ => false : Nat → Bool) k))))), (z2, .inl (dd2, 576, .inl (fun k => iI (zI ((fun _ => false : Nat → Bool) k)))))] H := hP
  have hD : va_D A [(h0, .inr (1, [.ref z1, .ref z2, .int (iI 0)])), (z1, .inl (dd1, 576, .inl (fun k => iI (zI ((fun _ => false : Nat → Bool) k))))), (z2, .inl (dd2, 576, .inl (fun k => iI (zI ((fun _ => false : Nat → Bool) k)))))] := hD
  refine lv_aload_n hx hb eX1_init_22.1 rfl (lv_at hl 0 rfl) ?_
  refine lv_iconst (v := iI 0) hx hb eX1_init_23.1 rfl ?_
  refine va_put (D := D) (ci := 1) (v := .int (iI 0)) (ty := .int) (C := RX1) (T := TX1) (N := 3) hx hb hts in_X1 tyX1 tyX1_ok nmX1 hown hK hP hD hS 0 rfl rfl 2 (by decide) (hts _ q186) (fun _ h9 => h9) rfl (by decide +kernel) rfl rfl (Nat.le_of_ble_eq_true rfl) eX1_init_24.1 (fun H locs hP hD hS => ?_)
  have hP : va_P D cls [(h0, .inr (1, [.ref z1, .ref z2, .int (iI 0)])), (z1, .inl (dd1, 576, .inl (fun k => iI (zI ((fun _ => false : Nat → Bool) k))))), (z2, .inl (dd2, 576, .inl (fun k => iI (zI ((fun _ => false : Nat → Bool) k)))))] H := hP
  have hD : va_D A [(h0, .inr (1, [.ref z1, .ref z2, .int (iI 0)])), (z1, .inl (dd1, 576, .inl (fun k => iI (zI ((fun _ => false : Nat → Bool) k))))), (z2, .inl (dd2, 576, .inl (fun k => iI (zI ((fun _ => false : Nat → Bool) k)))))] := hD
  refine W.widen (k := 2) (n := 1152) (Nat.le_of_ble_eq_true rfl) (Nat.le_of_ble_eq_true rfl) ?_
  exact W.vret hx hb hr (fun t ht hW => ⟨⟨((fun k => match k with | 0 => h0 | 1 => z1 | _ => z2), (fun k => match k with | 1 => dd1 | _ => dd2)), rfl, rfl, by rw [ht]; exact hP, va_K.moved hW.alike hK, hD⟩, hS.F ht⟩) hS.2.2 eX1_init_27.1
end
section
/-! the law's own rows -/
def jS (X : jX) (b L : Nat) (xs : Nat → Int32) : Prop := match X with
  | ((p, l, e, R, s), (m, args, below, meth, c), (cells, slots, Q), (D, A, nL)) => va_X b L xs s s.heap ∧ b < s.heap.size ∧ ¬ A b
def sv (xs : Nat → Int32) (i : Nat) : Int := (xs i).toInt
theorem sv_r (xs : Nat → Int32) (i : Nat) : -2147483648 ≤ sv xs i ∧ sv xs i < 2147483648 := ⟨iI_lo _, iI_hi _⟩
theorem iI_and15 (z : Int) : iI z &&& iI 15 = iI (z % 16) := by
  rw [pk_and (iI z) (m := iI 15) 4 (by decide), ← iI_n, iI_tn]
  congr 1
  omega
section LR
variable {X : jX} {cc : ByteArray} {own : String} {n : Nat} {tys : List (ClassId × FieldType)} {fr lo : Nat} {ws : va_W} {pc q t : Nat} {lv : List (Option Value)} {st : List Value} {b L : Nat} {xs : Nat → Int32}
theorem l_len (C : jC X cc own n tys fr lo) (Sx : jS X b L xs) (d : dk cc pc .arraylength 1 q) (k : J X ws q lv (.int (iI (L : Int)) :: st)) : J X ws pc lv (.ref b :: st) := by
  obtain ⟨⟨p, l, e, R, s⟩, ⟨m, args, below, meth, c⟩, ⟨cells, slots, Q⟩, D, A, nL⟩ := X
  obtain ⟨hx, hb, hml, hnL, hown, hts, hA, hK, hfr, hlo, hce, hsl⟩ := C
  obtain ⟨hX, hbl, hbA⟩ := Sx
  obtain ⟨hd, rfl⟩ := d
  intro H locs ls hP hD hS hl
  refine va_slen hx hb hX hbl hbA hS hd ?_
  rw [show Int32.ofNat L = iI (L : Int) from (iI_n L).symm]
  exact k H locs ls hP hD hS hl
theorem l_ld (C : jC X cc own n tys fr lo) (Sx : jS X b L xs) {z : Int} {i : Nat} (hL : L < 2147483648) (d : dk cc pc .iaload 1 q) (hz : z = (i : Int)) (hi : i < L) (k : J X ws q lv (.int (iI (sv xs i)) :: st)) : J X ws pc lv (.int (iI z) :: .ref b :: st) := by
  subst hz
  obtain ⟨⟨p, l, e, R, s⟩, ⟨m, args, below, meth, c⟩, ⟨cells, slots, Q⟩, D, A, nL⟩ := X
  obtain ⟨hx, hb, hml, hnL, hown, hts, hA, hK, hfr, hlo, hce, hsl⟩ := C
  obtain ⟨hX, hbl, hbA⟩ := Sx
  obtain ⟨hd, rfl⟩ := d
  intro H locs ls hP hD hS hl
  refine va_sld hx hb hX hbl hbA hS (iI_in hi hL) hd ?_
  rw [iI_cl i (by omega), iI_of (xs i)]
  exact k H locs ls hP hD hS hl
theorem j_tabIn (C : jC X cc own n tys fr lo) {dflt lw hi : Int} {offs : Array Int} {len : Nat} {z off : Int} (d : dk cc pc (.tableswitch dflt lw hi offs) len q) (hz : -2147483648 ≤ z ∧ z < 2147483648) (h1 : lw ≤ z) (h2 : z ≤ hi) (ho : offs[(z - lw).toNat]? = some off) (ht : (pc : Int) + off = (t : Int)) (k : J X ws t lv st) : J X ws pc lv (.int (iI z) :: st) := by
  obtain ⟨⟨p, l, e, R, s⟩, ⟨m, args, below, meth, c⟩, ⟨cells, slots, Q⟩, D, A, nL⟩ := X
  obtain ⟨hx, hb, hml, hnL, hown, hts, hA, hK, hfr, hlo, hce, hsl⟩ := C
  obtain ⟨hd, rfl⟩ := d
  intro H locs ls hP hD hS hl
  have e := iI_to hz.1 hz.2
  exact lv_tableIn hx hb hd (by rw [e]; omega) (by rw [e]; omega) (by rw [e]; exact ho) ht (k H locs ls hP hD hS hl)
theorem j_tabOut (C : jC X cc own n tys fr lo) {dflt lw hi : Int} {offs : Array Int} {len : Nat} {z : Int} (d : dk cc pc (.tableswitch dflt lw hi offs) len q) (hz : -2147483648 ≤ z ∧ z < 2147483648) (h : z < lw ∨ hi < z) (ht : (pc : Int) + dflt = (t : Int)) (k : J X ws t lv st) : J X ws pc lv (.int (iI z) :: st) := by
  obtain ⟨⟨p, l, e, R, s⟩, ⟨m, args, below, meth, c⟩, ⟨cells, slots, Q⟩, D, A, nL⟩ := X
  obtain ⟨hx, hb, hml, hnL, hown, hts, hA, hK, hfr, hlo, hce, hsl⟩ := C
  obtain ⟨hd, rfl⟩ := d
  intro H locs ls hP hD hS hl
  have e := iI_to hz.1 hz.2
  exact lv_tableOut hx hb hd (by rw [e]; exact h) ht (k H locs ls hP hD hS hl)
end LR
theorem lx_callG {X : jX} {cc : ByteArray} {own : String} {n : Nat} {fr lo : Nat} {pc q : Nat} {lv : List (Option Value)} {st : List Value} {ad ad2 : Nat → Nat} {dc dc2 : Nat → ClassId} {pen wt pen2 : Int} {P F : Nat → Nat → Bool} {rr rf rl : Nat → Int} {S G : Nat → Bool} (C : jC X cc own n (cTy dc ++ mTy dc2) fr lo) {y : MethodName} {b : ByteArray} {nL : Nat} {ret : Option FieldType} {fr' lo' : Nat} {as rest : List Value} {idx na : Nat} {post : va_W → Option Value → Prop} (hW : jW own idx RX0 y b nL ret na) (hM : mG y b nL ret fr' lo' (cTy dc) (.ref (ad 0) :: as) (cW ad dc pen P F wt rr rf rl) post) (hR : fr' + 1 ≤ fr ∧ 8 + (nL + 11) + lo' ≤ lo) (hna : as.length = na) (hst : st = as.reverse ++ .ref (ad 0) :: rest) (hrest : (rest.map fun v => v.category).sum ≤ 8) (d : dk cc pc (.invokevirtual idx) 3 q) (k : ∀ (w : va_W) (r : Option Value), post w r → J X (mW ad2 dc2 S G pen2 ++ w) q lv (r.toList ++ rest)) : J X (cW ad dc pen P F wt rr rf rl ++ mW ad2 dc2 S G pen2) pc lv st := j_callL C hW hM [0, 1, 2, 3, 4] [0, 1, 2, 3, 4, 5] [6, 7, 8] rfl rfl rfl rfl (by decide) (by decide) (by decide) (ci := 0) rfl rfl hR hna hst hrest d k
theorem lx_callI {X : jX} {cc : ByteArray} {own : String} {n : Nat} {fr lo : Nat} {pc q : Nat} {lv : List (Option Value)} {st : List Value} {ad ad2 : Nat → Nat} {dc dc2 : Nat → ClassId} {pen wt pen2 : Int} {P F : Nat → Nat → Bool} {rr rf rl : Nat → Int} {S G : Nat → Bool} (C : jC X cc own n (cTy dc ++ mTy dc2) fr lo) {y : MethodName} {b : ByteArray} {nL : Nat} {ret : Option FieldType} {fr' lo' : Nat} {as rest : List Value} {idx na : Nat} {ws' : va_W} {v : Int32} (hW : jW own idx RX0 y b nL ret na) (hM : mG y b nL ret fr' lo' (cTy dc) (.ref (ad 0) :: as) (cW ad dc pen P F wt rr rf rl) (pI ws' v)) (hR : fr' + 1 ≤ fr ∧ 8 + (nL + 11) + lo' ≤ lo) (hna : as.length = na) (hst : st = as.reverse ++ .ref (ad 0) :: rest) (hrest : (rest.map fun v => v.category).sum ≤ 8) (d : dk cc pc (.invokevirtual idx) 3 q) (k : J X (mW ad2 dc2 S G pen2 ++ ws') q lv (.int v :: rest)) : J X (cW ad dc pen P F wt rr rf rl ++ mW ad2 dc2 S G pen2) pc lv st := j_callL C hW hM [0, 1, 2, 3, 4] [0, 1, 2, 3, 4, 5] [6, 7, 8] rfl rfl rfl rfl (by decide) (by decide) (by decide) (ci := 0) rfl rfl hR hna hst hrest d (fun w r h => by obtain ⟨rfl, rfl⟩ := h; exact k)
theorem lm_callG {X : jX} {cc : ByteArray} {own : String} {n : Nat} {fr lo : Nat} {pc q : Nat} {lv : List (Option Value)} {st : List Value} {ad ad2 : Nat → Nat} {dc dc2 : Nat → ClassId} {pen wt pen2 : Int} {P F : Nat → Nat → Bool} {rr rf rl : Nat → Int} {S G : Nat → Bool} (C : jC X cc own n (cTy dc ++ mTy dc2) fr lo) {y : MethodName} {b : ByteArray} {nL : Nat} {ret : Option FieldType} {fr' lo' : Nat} {as rest : List Value} {idx na : Nat} {post : va_W → Option Value → Prop} (hW : jW own idx RX1 y b nL ret na) (hM : mG y b nL ret fr' lo' (mTy dc2) (.ref (ad2 0) :: as) (mW ad2 dc2 S G pen2) post) (hR : fr' + 1 ≤ fr ∧ 8 + (nL + 11) + lo' ≤ lo) (hna : as.length = na) (hst : st = as.reverse ++ .ref (ad2 0) :: rest) (hrest : (rest.map fun v => v.category).sum ≤ 8) (d : dk cc pc (.invokevirtual idx) 3 q) (k : ∀ (w : va_W) (r : Option Value), post w r → J X (cW ad dc pen P F wt rr rf rl ++ w) q lv (r.toList ++ rest)) : J X (mW ad2 dc2 S G pen2 ++ cW ad dc pen P F wt rr rf rl) pc lv st := j_callL C hW hM [5, 6] [0, 1, 2] [3, 4, 5, 6, 7, 8] rfl rfl rfl rfl (by decide) (by decide) (by decide) (ci := 1) rfl rfl hR hna hst hrest d k
theorem lm_callI {X : jX} {cc : ByteArray} {own : String} {n : Nat} {fr lo : Nat} {pc q : Nat} {lv : List (Option Value)} {st : List Value} {ad ad2 : Nat → Nat} {dc dc2 : Nat → ClassId} {pen wt pen2 : Int} {P F : Nat → Nat → Bool} {rr rf rl : Nat → Int} {S G : Nat → Bool} (C : jC X cc own n (cTy dc ++ mTy dc2) fr lo) {y : MethodName} {b : ByteArray} {nL : Nat} {ret : Option FieldType} {fr' lo' : Nat} {as rest : List Value} {idx na : Nat} {ws' : va_W} {v : Int32} (hW : jW own idx RX1 y b nL ret na) (hM : mG y b nL ret fr' lo' (mTy dc2) (.ref (ad2 0) :: as) (mW ad2 dc2 S G pen2) (pI ws' v)) (hR : fr' + 1 ≤ fr ∧ 8 + (nL + 11) + lo' ≤ lo) (hna : as.length = na) (hst : st = as.reverse ++ .ref (ad2 0) :: rest) (hrest : (rest.map fun v => v.category).sum ≤ 8) (d : dk cc pc (.invokevirtual idx) 3 q) (k : J X (cW ad dc pen P F wt rr rf rl ++ ws') q lv (.int v :: rest)) : J X (mW ad2 dc2 S G pen2 ++ cW ad dc pen P F wt rr rf rl) pc lv st := j_callL C hW hM [5, 6] [0, 1, 2] [3, 4, 5, 6, 7, 8] rfl rfl rfl rfl (by decide) (by decide) (by decide) (ci := 1) rfl rfl hR hna hst hrest d (fun w r h => by obtain ⟨rfl, rfl⟩ := h; exact k)
theorem draw_step {OK : Prop} [Decidable OK] {pen : Int} {P Fn : Nat → Nat → Bool} {S Gn : Nat → Bool} (h : same P S) (hF : OK → same Fn Gn) : iI (if OK then (inkC pen P Fn 24 : Int) else -1) = iI (if OK then (inkN pen S Gn 576 : Int) else -1) ∧ same (if OK then inkP pen P Fn 24 else P) (if OK then inkS pen S Gn 576 else S) := by
  by_cases e : OK
  · simp only [if_pos e]
    have := same_ink (pen := pen) h (hF e)
    exact ⟨by rw [this.1], this.2⟩
  · rw [if_neg e, if_neg e, if_neg e, if_neg e]
    exact ⟨rfl, h⟩
theorem move_step {OK : Prop} [Decidable OK] {P Pn : Nat → Nat → Bool} {S Sn : Nat → Bool} (h : same P S) (hF : OK → same Pn Sn) : iI (if OK then (cntR P 24 : Int) - (cntR Pn 24 : Int) else -1) = iI (if OK then (cnt S 576 : Int) - (cnt Sn 576 : Int) else -1) ∧ same (if OK then Pn else P) (if OK then Sn else S) := by
  by_cases e : OK
  · simp only [if_pos e]
    rw [same_cnt h, same_cnt (hF e)]
    exact ⟨rfl, hF e⟩
  · rw [if_neg e, if_neg e, if_neg e, if_neg e]
    exact ⟨rfl, h⟩
set_option maxHeartbeats 4000000 in
theorem law_loop {X : jX} (ad ad2 : Nat → Nat) (dc dc2 : Nat → ClassId) {b L : Nat} {xs : Nat → Int32} (hL : L ≤ 256) (C : jC X cL_law "RasterRulesLaw" 4 (cTy dc ++ mTy dc2) 6 188) (Sx : jS X b L xs) (K : ∀ (ws : va_W) (lv : List (Option Value)), J X ws 421 lv []) : ∀ (n i : Nat) (pen : Int) (P F : Nat → Nat → Bool) (wt : Int) (rr rf rl : Nat → Int) (S G : Nat → Bool), L < i + n → 0 ≤ pen ∧ pen ≤ 2 → same P S → i ≤ 300 → J X (cW ad dc pen P F wt rr rf rl ++ mW ad2 dc2 S G pen) 18 [some (.ref b), some (.ref (ad 0)), some (.ref (ad2 0)), some (.int (iI (i : Int)))] [] := by
  intro n
  induction n with
  | zero =>
    intro i pen P F wt rr rf rl S G h1 hp hs hi
    refine j_il3 C eL_law_18 ?_
    refine j_al0 C eL_law_19 ?_
    refine l_len C Sx eL_law_20 ?_
    refine j_iconst C eL_law_21 ?_
    refine j_isub C eL_law_22 ?_
    refine j_cgtT C eL_law_23 (by omega) (by omega) (by omega) ?_
    exact K _ _
  | succ n ih =>
    intro i pen P F wt rr rf rl S G h1 hp hs hi
    refine j_il3 C eL_law_18 ?_
    refine j_al0 C eL_law_19 ?_
    refine l_len C Sx eL_law_20 ?_
    refine j_iconst C eL_law_21 ?_
    refine j_isub C eL_law_22 ?_
    refine j_cgt C eL_law_23 (by omega) (by omega) (fun _ => K _ _) (fun c23 => ?_)
    have nx : ∀ {pen : Int} {P F : Nat → Nat → Bool} {wt : Int} {rr rf rl : Nat → Int} {S G : Nat → Bool}, 0 ≤ pen ∧ pen ≤ 2 → same P S → J X (cW ad dc pen P F wt rr rf rl ++ mW ad2 dc2 S G pen) 415 [some (.ref b), some (.ref (ad 0)), some (.ref (ad2 0)), some (.int (iI (i : Int)))] [] := by
      intro pen P F wt rr rf rl S G q1 q2
      refine j_inc3 C eL_law_415 (by decide) ?_
      refine j_goto C eL_law_418 ?_
      rw [show ((i : Nat) : Int) + 4 = ((i + 4 : Nat) : Int) by omega]
      exact ih (i + 4) pen P F wt rr rf rl S G (by omega) q1 q2 (by omega)
    refine j_al0 C eL_law_26 ?_
    refine j_il3 C eL_law_27 ?_
    refine l_ld C Sx (i := i) (by omega) eL_law_28 rfl (by omega) ?_
    refine j_bipush C eL_law_29 (by decide) ?_
    refine j_iand C eL_law_31 ?_
    refine j_val (iI_and15 _) ?_
    have hw : 0 ≤ sv xs i % 16 ∧ sv xs i % 16 < 16 := by omega
    generalize sv xs i % 16 = w at hw ⊢
    rcases (show w = 0 ∨ w = 1 ∨ w = 2 ∨ w = 3 ∨ w = 4 ∨ w = 5 ∨ w = 6 ∨ w = 7 ∨ w = 8 ∨ w = 9 ∨ w = 10 ∨ 10 < w by omega) with rfl | rfl | rfl | rfl | rfl | rfl | rfl | rfl | rfl | rfl | rfl | hw2
    · refine j_tabIn C (t := 92) (off := 60) eL_law_32 (by decide) (by decide) (by decide) rfl (by decide) ?_
      refine j_al1 C eL_law_92 ?_
      refine j_al0 C eL_law_93 ?_
      refine j_il3 C eL_law_94 ?_
      refine j_iconst C eL_law_95 ?_
      refine j_iadd C eL_law_96 ?_
      refine l_ld C Sx (i := i + 1) (by omega) eL_law_97 (by omega) (by omega) ?_
      refine lx_callI C kL_13 (cx_pen _ _ _ _ _ _ _ _ _ _ (sv_r xs (i + 1)).1 (sv_r xs (i + 1)).2) (by decide) rfl rfl (Nat.le_of_ble_eq_true rfl) eL_law_98 ?_
      refine j_al2 C eL_law_101 ?_
      refine j_al0 C eL_law_102 ?_
      refine j_il3 C eL_law_103 ?_
      refine j_iconst C eL_law_104 ?_
      refine j_iadd C eL_law_105 ?_
      refine l_ld C Sx (i := i + 1) (by omega) eL_law_106 (by omega) (by omega) ?_
      refine lm_callI C kL_17 (cm_pen _ _ _ _ _ _ (sv_r xs (i + 1)).1 (sv_r xs (i + 1)).2) (by decide) rfl rfl (Nat.le_of_ble_eq_true rfl) eL_law_107 ?_
      refine j_ceqRT C eL_law_110 rfl ?_
      exact nx (by split <;> omega) hs
    · refine j_tabIn C (t := 115) (off := 83) eL_law_32 (by decide) (by decide) (by decide) rfl (by decide) ?_
      refine j_al1 C eL_law_115 ?_
      refine j_al0 C eL_law_116 ?_
      refine j_il3 C eL_law_117 ?_
      refine j_iconst C eL_law_118 ?_
      refine j_iadd C eL_law_119 ?_
      refine l_ld C Sx (i := i + 1) (by omega) eL_law_120 (by omega) (by omega) ?_
      refine j_al0 C eL_law_121 ?_
      refine j_il3 C eL_law_122 ?_
      refine j_iconst C eL_law_123 ?_
      refine j_iadd C eL_law_124 ?_
      refine l_ld C Sx (i := i + 2) (by omega) eL_law_125 (by omega) (by omega) ?_
      refine lx_callI C kL_18 (cx_line _ _ _ _ _ _ _ _ _ hp _ _ (sv_r xs (i + 1)) (sv_r xs (i + 2))) (by decide) rfl rfl (Nat.le_of_ble_eq_true rfl) eL_law_126 ?_
      refine j_al2 C eL_law_129 ?_
      refine j_al0 C eL_law_130 ?_
      refine j_il3 C eL_law_131 ?_
      refine j_iconst C eL_law_132 ?_
      refine j_iadd C eL_law_133 ?_
      refine l_ld C Sx (i := i + 1) (by omega) eL_law_134 (by omega) (by omega) ?_
      refine j_al0 C eL_law_135 ?_
      refine j_il3 C eL_law_136 ?_
      refine j_iconst C eL_law_137 ?_
      refine j_iadd C eL_law_138 ?_
      refine l_ld C Sx (i := i + 2) (by omega) eL_law_139 (by omega) (by omega) ?_
      refine lm_callI C kL_22 (cm_line _ _ _ _ _ hp _ _ (sv_r xs (i + 1)) (sv_r xs (i + 2))) (by decide) rfl rfl (Nat.le_of_ble_eq_true rfl) eL_law_140 ?_
      refine j_ceqRT C eL_law_143 (draw_step hs (fun q => same_line F G (of_decide_eq_true q.1) (of_decide_eq_true q.2))).1 ?_
      exact nx hp (draw_step hs (fun q => same_line F G (of_decide_eq_true q.1) (of_decide_eq_true q.2))).2
    · refine j_tabIn C (t := 148) (off := 116) eL_law_32 (by decide) (by decide) (by decide) rfl (by decide) ?_
      refine j_al1 C eL_law_148 ?_
      refine j_al0 C eL_law_149 ?_
      refine j_il3 C eL_law_150 ?_
      refine j_iconst C eL_law_151 ?_
      refine j_iadd C eL_law_152 ?_
      refine l_ld C Sx (i := i + 1) (by omega) eL_law_153 (by omega) (by omega) ?_
      refine j_al0 C eL_law_154 ?_
      refine j_il3 C eL_law_155 ?_
      refine j_iconst C eL_law_156 ?_
      refine j_iadd C eL_law_157 ?_
      refine l_ld C Sx (i := i + 2) (by omega) eL_law_158 (by omega) (by omega) ?_
      refine lx_callI C kL_23 (cx_disc _ _ _ _ _ _ _ _ _ hp _ _ (sv_r xs (i + 1)) (sv_r xs (i + 2))) (by decide) rfl rfl (Nat.le_of_ble_eq_true rfl) eL_law_159 ?_
      refine j_al2 C eL_law_162 ?_
      refine j_al0 C eL_law_163 ?_
      refine j_il3 C eL_law_164 ?_
      refine j_iconst C eL_law_165 ?_
      refine j_iadd C eL_law_166 ?_
      refine l_ld C Sx (i := i + 1) (by omega) eL_law_167 (by omega) (by omega) ?_
      refine j_al0 C eL_law_168 ?_
      refine j_il3 C eL_law_169 ?_
      refine j_iconst C eL_law_170 ?_
      refine j_iadd C eL_law_171 ?_
      refine l_ld C Sx (i := i + 2) (by omega) eL_law_172 (by omega) (by omega) ?_
      refine lm_callI C kL_26 (cm_disc _ _ _ _ _ hp _ _ (sv_r xs (i + 1)) (sv_r xs (i + 2))) (by decide) rfl rfl (Nat.le_of_ble_eq_true rfl) eL_law_173 ?_
      refine j_ceqRT C eL_law_176 (draw_step hs (fun q => same_disc F G (of_decide_eq_true q.1) q.2.1)).1 ?_
      exact nx hp (draw_step hs (fun q => same_disc F G (of_decide_eq_true q.1) q.2.1)).2
    · refine j_tabIn C (t := 181) (off := 149) eL_law_32 (by decide) (by decide) (by decide) rfl (by decide) ?_
      refine j_al1 C eL_law_181 ?_
      refine j_al0 C eL_law_182 ?_
      refine j_il3 C eL_law_183 ?_
      refine j_iconst C eL_law_184 ?_
      refine j_iadd C eL_law_185 ?_
      refine l_ld C Sx (i := i + 1) (by omega) eL_law_186 (by omega) (by omega) ?_
      refine j_al0 C eL_law_187 ?_
      refine j_il3 C eL_law_188 ?_
      refine j_iconst C eL_law_189 ?_
      refine j_iadd C eL_law_190 ?_
      refine l_ld C Sx (i := i + 2) (by omega) eL_law_191 (by omega) (by omega) ?_
      refine lx_callI C kL_27 (cx_ring _ _ _ _ _ _ _ _ _ hp _ _ (sv_r xs (i + 1)) (sv_r xs (i + 2))) (by decide) rfl rfl (Nat.le_of_ble_eq_true rfl) eL_law_192 ?_
      refine j_al2 C eL_law_195 ?_
      refine j_al0 C eL_law_196 ?_
      refine j_il3 C eL_law_197 ?_
      refine j_iconst C eL_law_198 ?_
      refine j_iadd C eL_law_199 ?_
      refine l_ld C Sx (i := i + 1) (by omega) eL_law_200 (by omega) (by omega) ?_
      refine j_al0 C eL_law_201 ?_
      refine j_il3 C eL_law_202 ?_
      refine j_iconst C eL_law_203 ?_
      refine j_iadd C eL_law_204 ?_
      refine l_ld C Sx (i := i + 2) (by omega) eL_law_205 (by omega) (by omega) ?_
      refine lm_callI C kL_30 (cm_ring _ _ _ _ _ hp _ _ (sv_r xs (i + 1)) (sv_r xs (i + 2))) (by decide) rfl rfl (Nat.le_of_ble_eq_true rfl) eL_law_206 ?_
      refine j_ceqRT C eL_law_209 (draw_step hs (fun q => same_ring F G (of_decide_eq_true q.1))).1 ?_
      exact nx hp (draw_step hs (fun q => same_ring F G (of_decide_eq_true q.1))).2
    · refine j_tabIn C (t := 214) (off := 182) eL_law_32 (by decide) (by decide) (by decide) rfl (by decide) ?_
      refine j_al1 C eL_law_214 ?_
      refine j_al0 C eL_law_215 ?_
      refine j_il3 C eL_law_216 ?_
      refine j_iconst C eL_law_217 ?_
      refine j_iadd C eL_law_218 ?_
      refine l_ld C Sx (i := i + 1) (by omega) eL_law_219 (by omega) (by omega) ?_
      refine j_al0 C eL_law_220 ?_
      refine j_il3 C eL_law_221 ?_
      refine j_iconst C eL_law_222 ?_
      refine j_iadd C eL_law_223 ?_
      refine l_ld C Sx (i := i + 2) (by omega) eL_law_224 (by omega) (by omega) ?_
      refine j_al0 C eL_law_225 ?_
      refine j_il3 C eL_law_226 ?_
      refine j_iconst C eL_law_227 ?_
      refine j_iadd C eL_law_228 ?_
      refine l_ld C Sx (i := i + 3) (by omega) eL_law_229 (by omega) (by omega) ?_
      refine lx_callI C kL_31 (cx_blot _ _ _ _ _ _ _ _ _ hp _ _ _ (sv_r xs (i + 1)) (sv_r xs (i + 2)) (sv_r xs (i + 3))) (by decide) rfl rfl (Nat.le_of_ble_eq_true rfl) eL_law_230 ?_
      refine j_al2 C eL_law_233 ?_
      refine j_al0 C eL_law_234 ?_
      refine j_il3 C eL_law_235 ?_
      refine j_iconst C eL_law_236 ?_
      refine j_iadd C eL_law_237 ?_
      refine l_ld C Sx (i := i + 1) (by omega) eL_law_238 (by omega) (by omega) ?_
      refine j_al0 C eL_law_239 ?_
      refine j_il3 C eL_law_240 ?_
      refine j_iconst C eL_law_241 ?_
      refine j_iadd C eL_law_242 ?_
      refine l_ld C Sx (i := i + 2) (by omega) eL_law_243 (by omega) (by omega) ?_
      refine j_al0 C eL_law_244 ?_
      refine j_il3 C eL_law_245 ?_
      refine j_iconst C eL_law_246 ?_
      refine j_iadd C eL_law_247 ?_
      refine l_ld C Sx (i := i + 3) (by omega) eL_law_248 (by omega) (by omega) ?_
      refine lm_callI C kL_35 (cm_blot _ _ _ _ _ hp _ _ _ (sv_r xs (i + 1)) (sv_r xs (i + 2)) (sv_r xs (i + 3))) (by decide) rfl rfl (Nat.le_of_ble_eq_true rfl) eL_law_249 ?_
      refine j_ceqRT C eL_law_252 (draw_step hs (fun q => same_blot F G (of_decide_eq_true q.1) q.2.1 q.2.2.2.1)).1 ?_
      exact nx hp (draw_step hs (fun q => same_blot F G (of_decide_eq_true q.1) q.2.1 q.2.2.2.1)).2
    · refine j_tabIn C (t := 257) (off := 225) eL_law_32 (by decide) (by decide) (by decide) rfl (by decide) ?_
      refine j_al1 C eL_law_257 ?_
      refine j_al0 C eL_law_258 ?_
      refine j_il3 C eL_law_259 ?_
      refine j_iconst C eL_law_260 ?_
      refine j_iadd C eL_law_261 ?_
      refine l_ld C Sx (i := i + 1) (by omega) eL_law_262 (by omega) (by omega) ?_
      refine j_al0 C eL_law_263 ?_
      refine j_il3 C eL_law_264 ?_
      refine j_iconst C eL_law_265 ?_
      refine j_iadd C eL_law_266 ?_
      refine l_ld C Sx (i := i + 2) (by omega) eL_law_267 (by omega) (by omega) ?_
      refine j_al0 C eL_law_268 ?_
      refine j_il3 C eL_law_269 ?_
      refine j_iconst C eL_law_270 ?_
      refine j_iadd C eL_law_271 ?_
      refine l_ld C Sx (i := i + 3) (by omega) eL_law_272 (by omega) (by omega) ?_
      refine lx_callI C kL_36 (cx_triangle _ _ _ _ _ _ _ _ _ hp _ _ _ (sv_r xs (i + 1)) (sv_r xs (i + 2)) (sv_r xs (i + 3))) (by decide) rfl rfl (Nat.le_of_ble_eq_true rfl) eL_law_273 ?_
      refine j_al2 C eL_law_276 ?_
      refine j_al0 C eL_law_277 ?_
      refine j_il3 C eL_law_278 ?_
      refine j_iconst C eL_law_279 ?_
      refine j_iadd C eL_law_280 ?_
      refine l_ld C Sx (i := i + 1) (by omega) eL_law_281 (by omega) (by omega) ?_
      refine j_al0 C eL_law_282 ?_
      refine j_il3 C eL_law_283 ?_
      refine j_iconst C eL_law_284 ?_
      refine j_iadd C eL_law_285 ?_
      refine l_ld C Sx (i := i + 2) (by omega) eL_law_286 (by omega) (by omega) ?_
      refine j_al0 C eL_law_287 ?_
      refine j_il3 C eL_law_288 ?_
      refine j_iconst C eL_law_289 ?_
      refine j_iadd C eL_law_290 ?_
      refine l_ld C Sx (i := i + 3) (by omega) eL_law_291 (by omega) (by omega) ?_
      refine lm_callI C kL_39 (cm_triangle _ _ _ _ _ hp _ _ _ (sv_r xs (i + 1)) (sv_r xs (i + 2)) (sv_r xs (i + 3))) (by decide) rfl rfl (Nat.le_of_ble_eq_true rfl) eL_law_292 ?_
      refine j_ceqRT C eL_law_295 (draw_step hs (fun q => same_tri F G)).1 ?_
      exact nx hp (draw_step hs (fun q => same_tri F G)).2
    · refine j_tabIn C (t := 300) (off := 268) eL_law_32 (by decide) (by decide) (by decide) rfl (by decide) ?_
      refine j_al1 C eL_law_300 ?_
      refine j_al0 C eL_law_301 ?_
      refine j_il3 C eL_law_302 ?_
      refine j_iconst C eL_law_303 ?_
      refine j_iadd C eL_law_304 ?_
      refine l_ld C Sx (i := i + 1) (by omega) eL_law_305 (by omega) (by omega) ?_
      refine lx_callG C kL_40 (cx_flood ad dc pen P F wt rr rf rl (sv xs (i + 1)) (sv_r xs (i + 1)).1 (sv_r xs (i + 1)).2) (by decide) rfl rfl (Nat.le_of_ble_eq_true rfl) eL_law_306 (fun w r h1 => ?_)
      cases hpx : isPx (sv xs (i + 1)) with
      | true =>
        obtain ⟨F1, rr1, rf1, rl1, g1, rfl, rfl⟩ := h1.1 hpx
        refine j_st (st' := [.int (iI (cntR F1 24 : Int))]) rfl ?_
        refine j_al2 C eL_law_309 ?_
        refine j_al0 C eL_law_310 ?_
        refine j_il3 C eL_law_311 ?_
        refine j_iconst C eL_law_312 ?_
        refine j_iadd C eL_law_313 ?_
        refine l_ld C Sx (i := i + 1) (by omega) eL_law_314 (by omega) (by omega) ?_
        refine lm_callG C kL_44 (cm_flood ad2 dc2 S G pen (sv xs (i + 1)) (sv_r xs (i + 1)).1 (sv_r xs (i + 1)).2) (by decide) rfl rfl (Nat.le_of_ble_eq_true rfl) eL_law_315 (fun w r h2 => ?_)
        obtain ⟨G1, e1, e2, rfl, rfl⟩ := h2.1 hpx
        refine j_st (st' := [.int (iI (cnt G1 576 : Int)), .int (iI (cntR F1 24 : Int))]) rfl ?_
        have hz : 0 ≤ sv xs (i + 1) ∧ sv xs (i + 1) % 32 < 24 ∧ sv xs (i + 1) / 32 < 24 := of_decide_eq_true hpx
        rw [show (24 * (sv xs (i + 1) / 32) + sv xs (i + 1) % 32).toNat = 24 * (sv xs (i + 1) / 32).toNat + (sv xs (i + 1) % 32).toNat by omega] at e1 e2
        have hFG := same_flood hs (by omega) (by omega) g1 e1 e2
        refine j_ceqRT C eL_law_318 (by rw [same_cnt hFG]) ?_
        exact nx hp (same_xor hs hFG)
      | false =>
        obtain ⟨rfl, rfl⟩ := h1.2 hpx
        refine j_st (st' := [.int (iI (-1))]) rfl ?_
        refine j_al2 C eL_law_309 ?_
        refine j_al0 C eL_law_310 ?_
        refine j_il3 C eL_law_311 ?_
        refine j_iconst C eL_law_312 ?_
        refine j_iadd C eL_law_313 ?_
        refine l_ld C Sx (i := i + 1) (by omega) eL_law_314 (by omega) (by omega) ?_
        refine lm_callG C kL_44 (cm_flood ad2 dc2 S G pen (sv xs (i + 1)) (sv_r xs (i + 1)).1 (sv_r xs (i + 1)).2) (by decide) rfl rfl (Nat.le_of_ble_eq_true rfl) eL_law_315 (fun w r h2 => ?_)
        obtain ⟨rfl, rfl⟩ := h2.2 hpx
        refine j_st (st' := [.int (iI (-1)), .int (iI (-1))]) rfl ?_
        refine j_ceqRT C eL_law_318 rfl ?_
        exact nx hp hs
    · refine j_tabIn C (t := 323) (off := 291) eL_law_32 (by decide) (by decide) (by decide) rfl (by decide) ?_
      refine j_al1 C eL_law_323 ?_
      refine j_al0 C eL_law_324 ?_
      refine j_il3 C eL_law_325 ?_
      refine j_iconst C eL_law_326 ?_
      refine j_iadd C eL_law_327 ?_
      refine l_ld C Sx (i := i + 1) (by omega) eL_law_328 (by omega) (by omega) ?_
      refine lx_callI C kL_45 (cx_get _ _ _ _ _ _ _ _ _ _ (sv_r xs (i + 1)).1 (sv_r xs (i + 1)).2) (by decide) rfl rfl (Nat.le_of_ble_eq_true rfl) eL_law_329 ?_
      refine j_al2 C eL_law_332 ?_
      refine j_al0 C eL_law_333 ?_
      refine j_il3 C eL_law_334 ?_
      refine j_iconst C eL_law_335 ?_
      refine j_iadd C eL_law_336 ?_
      refine l_ld C Sx (i := i + 1) (by omega) eL_law_337 (by omega) (by omega) ?_
      refine lm_callI C kL_48 (cm_get _ _ _ _ _ _ (sv_r xs (i + 1)).1 (sv_r xs (i + 1)).2) (by decide) rfl rfl (Nat.le_of_ble_eq_true rfl) eL_law_338 ?_
      refine j_ceqRT C eL_law_341 (by rw [same_get hs]) ?_
      exact nx hp hs
    · refine j_tabIn C (t := 346) (off := 314) eL_law_32 (by decide) (by decide) (by decide) rfl (by decide) ?_
      refine j_al1 C eL_law_346 ?_
      refine lx_callI C kL_49 (cx_count _ _ _ _ _ _ _ _ _) (by decide) rfl rfl (Nat.le_of_ble_eq_true rfl) eL_law_347 ?_
      refine j_al2 C eL_law_350 ?_
      refine lm_callI C kL_53 (cm_count _ _ _ _ _) (by decide) rfl rfl (Nat.le_of_ble_eq_true rfl) eL_law_351 ?_
      refine j_ceqRT C eL_law_354 (by rw [same_cnt hs]) ?_
      exact nx hp hs
    · refine j_tabIn C (t := 359) (off := 327) eL_law_32 (by decide) (by decide) (by decide) rfl (by decide) ?_
      refine j_al1 C eL_law_359 ?_
      refine j_al0 C eL_law_360 ?_
      refine j_il3 C eL_law_361 ?_
      refine j_iconst C eL_law_362 ?_
      refine j_iadd C eL_law_363 ?_
      refine l_ld C Sx (i := i + 1) (by omega) eL_law_364 (by omega) (by omega) ?_
      refine lx_callI C kL_54 (cx_row _ _ _ _ _ _ _ _ _ _ (sv_r xs (i + 1)).1 (sv_r xs (i + 1)).2) (by decide) rfl rfl (Nat.le_of_ble_eq_true rfl) eL_law_365 ?_
      refine j_al2 C eL_law_368 ?_
      refine j_al0 C eL_law_369 ?_
      refine j_il3 C eL_law_370 ?_
      refine j_iconst C eL_law_371 ?_
      refine j_iadd C eL_law_372 ?_
      refine l_ld C Sx (i := i + 1) (by omega) eL_law_373 (by omega) (by omega) ?_
      refine lm_callI C kL_57 (cm_row _ _ _ _ _ _ (sv_r xs (i + 1)).1 (sv_r xs (i + 1)).2) (by decide) rfl rfl (Nat.le_of_ble_eq_true rfl) eL_law_374 ?_
      refine j_ceqRT C eL_law_377 (same_row hs _) ?_
      exact nx hp hs
    · refine j_tabIn C (t := 382) (off := 350) eL_law_32 (by decide) (by decide) (by decide) rfl (by decide) ?_
      refine j_al1 C eL_law_382 ?_
      refine j_al0 C eL_law_383 ?_
      refine j_il3 C eL_law_384 ?_
      refine j_iconst C eL_law_385 ?_
      refine j_iadd C eL_law_386 ?_
      refine l_ld C Sx (i := i + 1) (by omega) eL_law_387 (by omega) (by omega) ?_
      refine j_al0 C eL_law_388 ?_
      refine j_il3 C eL_law_389 ?_
      refine j_iconst C eL_law_390 ?_
      refine j_iadd C eL_law_391 ?_
      refine l_ld C Sx (i := i + 2) (by omega) eL_law_392 (by omega) (by omega) ?_
      refine lx_callI C kL_58 (cx_move _ _ _ _ _ _ _ _ _ hs.2 _ _ (sv_r xs (i + 1)) (sv_r xs (i + 2))) (by decide) rfl rfl (Nat.le_of_ble_eq_true rfl) eL_law_393 ?_
      refine j_al2 C eL_law_396 ?_
      refine j_al0 C eL_law_397 ?_
      refine j_il3 C eL_law_398 ?_
      refine j_iconst C eL_law_399 ?_
      refine j_iadd C eL_law_400 ?_
      refine l_ld C Sx (i := i + 1) (by omega) eL_law_401 (by omega) (by omega) ?_
      refine j_al0 C eL_law_402 ?_
      refine j_il3 C eL_law_403 ?_
      refine j_iconst C eL_law_404 ?_
      refine j_iadd C eL_law_405 ?_
      refine l_ld C Sx (i := i + 2) (by omega) eL_law_406 (by omega) (by omega) ?_
      refine lm_callI C kL_61 (cm_move _ _ _ _ _ _ _ (sv_r xs (i + 1)) (sv_r xs (i + 2))) (by decide) rfl rfl (Nat.le_of_ble_eq_true rfl) eL_law_407 ?_
      refine j_ceqRT C eL_law_410 (move_step hs (fun _ => same_move hs)).1 ?_
      exact nx hp (move_step hs (fun _ => same_move hs)).2
    · refine j_tabOut C (t := 415) eL_law_32 (by omega) (by omega) (by decide) ?_
      exact nx hp hs
end
section
/-! THE CLAIM OUT OF ONE WALK OF THE LAW'S BODY. Your part is whole_start (and what it stands on); all else here is the same for every law, but numbers. -/
def R_law : String := "RasterRulesLaw"
def lw_P (b : Addr) (xs : List Int32) (args : Array Value) (s : State) : Prop := args = #[.ref b] ∧ s.IntsAt b xs ∧ xs.length ≤ 256 ∧ (Jvm.Cond.and given_1 narrow_1).before args s = true
def lw_Q (_ : Array Value) (s : State) (o : Outcome) (t : State) : Prop := o = .returned (some (.int 1)) ∧ Framed s o t [] 600000 7290000
def lw_Z (below : List Frame) (a : Array Value) (s : State) : State → Prop := fun t => ∃ o, t.status = .running ∧ Ended t below o ∧ lw_Q a s o t
/-- the law's own end, with 1 on the stack, nothing written that was there before, its room as the claim has it -/
theorem lw_ret {p : Program} {l : Launch} {e : Env} {s : State} {m : MethodId} {below : List Frame} {meth : Method} {c : Code} {b : Nat} (hx : p.tables.exec = Jvm.exec) (hb : c.code = code) (hr : meth.sig.returnType = ret) (hlocks : meth.locks = false) {pc : Nat} {H : Heap} {ls : Array Slot} (hdg : decode code pc = .ok (.ireturn, 1)) : W p l e room_1 s m #[Value.ref b] below meth c H [] 600000 7290000 (lw_Z below #[Value.ref b] s) (F0 m pc ls [.int 1]) := by
  intro T hT X
  obtain ⟨fs, hret, hrun, hended, hW, hframe⟩ := X.leave (v := some (.int 1)) (hlocks := hlocks) (fun h => by rw [hr] at h; cases h)
  have hmeth' : T.vm.method? m = some meth := X.method'
  refine ⟨T.setFrames fs, ?_, .returned (some (.int 1)), hrun, hended, rfl, ⟨_, rfl⟩, hW, hframe⟩
  jvm_step X.here [X.here.top, hx, hb, hdg, hmeth', hr, ret, narrow_b1]
  (try refine ⟨rfl, ?_⟩); (try refine ⟨rfl, ?_⟩)
  first | (intro acts; rw [hret _ acts rfl rfl rfl]) | rw [hret _ _ rfl rfl rfl]
  exact Steps.refl _
/-- what holds at the law's entry: the machine, the code, the tables' words (any of lw_tbl by 'hts w (by decide +kernel)'), the script of L ints xs at the cell b, what the Statement gives of the start (any of its parts by flat_of_before) -/
def lw_At (p : Program) (s : State) (m : MethodId) (meth : Method) (c : Code) (b L : Nat) (xs : Nat → Int32) : Prop :=
  p.tables.exec = Jvm.exec ∧ c.code = code ∧ meth.sig.returnType = ret ∧ c.maxLocals = 4 ∧ s.vm.findClass R_law = some m.cls ∧ (∀ w ∈ lw_tbl, w.before #[Value.ref b] s = true) ∧ va_X b L xs s s.heap ∧ b < s.heap.size ∧ meth.locks = false ∧ (Jvm.Cond.and given_1 narrow_1).before #[Value.ref b] s = true
-- ===== YOUR PART BEGINS =====
theorem jL_law {ls : Array Slot} {a b c : Nat} {x : Int32} (h : lv_has ls 4 [(3, .int x), (2, .ref c), (1, .ref b), (0, .ref a)]) : jL ls 4 [some (.ref a), some (.ref b), some (.ref c), some (.int x)] := by
  refine ⟨h.1, h.2.1, fun i v hi => ?_⟩
  match i, hi with
  | 0, hi => cases hi; exact ⟨h.2.2 (0, .ref a) (by simp), rfl⟩
  | 1, hi => cases hi; exact ⟨h.2.2 (1, .ref b) (by simp), rfl⟩
  | 2, hi => cases hi; exact ⟨h.2.2 (2, .ref c) (by simp), rfl⟩
  | 3, hi => cases hi; exact ⟨h.2.2 (3, .int x) (by simp), rfl⟩
  | k + 4, hi => simp at hi
theorem same_0 : same (fun _ _ => false) (fun _ => false) := ⟨fun _ _ _ _ => rfl, fun _ _ _ _ => rfl⟩
set_option maxHeartbeats 4000000 in
set_option maxRecDepth 100000 in
/-- from the entry, for every script of at most 256 ints, the law comes to its end with true -/
theorem whole_start {p : Program} {e : Env} {s : State} {m : MethodId} {below : List Frame} {meth : Method} {c : Code} (l : Launch) {b L : Nat} {xs : Nat → Int32} (hL : L ≤ 256) (C0 : lw_At p s m meth c b L xs) : W p l e room_1 s m #[Value.ref b] below meth c s.heap [] 0 0 (lw_Z below #[Value.ref b] s) (entryFrame m ([Value.ref b] : List Value).toArray 4) := by
  obtain ⟨hx, hb, hr, hml, hown, hts0, hX, hbl, hlocks, hgv⟩ := C0
  have hts : ∀ w ∈ lw_all, w.before #[Value.ref b] s = true := fun w h => hts0 w (lw_all_tbl h)
  have hown : s.vm.findClass "RasterRulesLaw" = some m.cls := hown
  have hA : ∀ q : Nat, s.heap.size ≤ q → (fun q : Nat => s.heap.size ≤ q) q := fun _ h => h
  have hbA : ¬ (fun q : Nat => s.heap.size ≤ q) b := Nat.not_le.mpr hbl
  obtain ⟨c0, iS0, hKn0⟩ := u_known (C := RX0) (T := TX0) (N := 7) (n := 7) hts in_X0 (hts _ q32)
  obtain ⟨c1, iS1, hKn1⟩ := u_known (C := RX1) (T := TX1) (N := 3) (n := 3) hts in_X1 (hts _ q179)
  obtain ⟨dC, dI, hKc⟩ : ∃ (dC : Nat → ClassId) (dI : Nat → Nat → Nat), ∀ (k : Nat) (q : vw_C), cls[k]? = some q → u_Kn s q.1 q.2.1 q.2.2 (dC k) (dI k) := by
    refine ⟨fun k => if k = 0 then c0 else c1, fun k => if k = 0 then iS0 else iS1, ?_⟩
    intro k q hq
    match k, hq with
    | 0, hq => cases hq; exact hKn0
    | 1, hq => cases hq; exact hKn1
    | k + 2, hq => simp [cls] at hq
  have hS : va_S (fun q : Nat => s.heap.size ≤ q) s.heap s.heap [] := va_S.rf
  have hK : va_K (dC, dI) cls [] s := ⟨hKc, fun k q h => by simp at h⟩
  have hP : va_P (dC, dI) cls [] s.heap := fun k q h => by simp at h
  have hD : va_D (fun q : Nat => s.heap.size ≤ q) [] := ⟨fun i j p q h => by simp at h, fun k q h => by simp at h⟩
  have hl := lv_entry ([.ref b]) (n := 4) (Nat.le_of_ble_eq_true rfl)
  rw [lg_entry_eq]
  generalize (lg_sl ([.ref b]) ++ List.replicate (4 - (lg_sl ([.ref b])).length) Slot.unset).toArray = ls at hl ⊢
  have hl : lv_has ls 4 [(0, .ref b)] := hl
  refine va_new (ci := 0) (fs := [.int (iI 0), .null, .null, .int (iI 0), .null, .null, .null]) (C := RX0) (T := TX0) (N := 7) hx hb hts in_X0 tyX0 tyX0_ok hown (hts _ q31) (hts _ q32) (hts _ q29) hK hP hD hS hA rfl (fun j hj => by rcases (show j = 0 ∨ j = 1 ∨ j = 2 ∨ j = 3 ∨ j = 4 ∨ j = 5 ∨ j = 6 by omega) with rfl | rfl | rfl | rfl | rfl | rfl | rfl <;> rfl) (Nat.le_of_ble_eq_true rfl) (Nat.le_of_ble_eq_true rfl) eL_law_0.1 (fun q0v H hP hD hS => ?_)
  have hP : va_P (dC, dI) cls [(q0v, .inr (0, [.int (iI 0), .null, .null, .int (iI 0), .null, .null, .null]))] H := hP
  have hD : va_D (fun q : Nat => s.heap.size ≤ q) [(q0v, .inr (0, [.int (iI 0), .null, .null, .int (iI 0), .null, .null, .null]))] := hD
  refine W.widen (k := 1) (n := 7) (by omega) (by omega) ?_
  refine lv_dup hx hb eL_law_3.1 rfl ?_
  have hPc := hP.sub (ws' := [(q0v, .inr (0, [.int (iI 0), .null, .null, .int (iI 0), .null, .null, .null]))]) [0] rfl
  have hDc := hD.sub (ws' := [(q0v, .inr (0, [.int (iI 0), .null, .null, .int (iI 0), .null, .null, .null]))]) [0] (by decide) rfl
  have hKc := hK.sub (tys' := []) [] rfl
  have hFc := va_free (wc := [(q0v, .inr (0, [.int (iI 0), .null, .null, .int (iI 0), .null, .null, .null]))]) hD hS hA [0] rfl
  refine va_callv (va_runI (As := []) (rest := [.ref q0v]) ⟨hx, hb, hml, hown, hts⟩ (mk_X0 l (dC, dI) q0v H.size) (cwI 0 hts (lw_meth q35) rfl rfl rfl (hts _ q29) (hts _ q33) (hts _ q34) rfl (by decide +kernel) ⟨Nat.le_of_ble_eq_true rfl, Nat.le_of_ble_eq_true rfl⟩) ⟨fun a U g mk q => by obtain ⟨q0, q1, qP, qK, qD⟩ := q; exact ⟨q0, q1, qP, va_K.moved (u := U) (U := U.calling g mk a) (Vm.Alike.refl U.vm) qK, qD⟩, fun U hU hW => ⟨rfl, by rw [hU], by rw [hU]; exact hPc, va_K.moved hW.alike hKc, hDc.weaken (fun _ _ _ _ => trivial)⟩⟩ rfl rfl hl.1 rfl (lv_room (Nat.le_of_ble_eq_true rfl)) eL_law_4.1 ⟨Nat.le_of_ble_eq_true rfl, Nat.le_of_ble_eq_true rfl⟩) hS (fun q _ h => hFc q h) hFc (fun u t H1 locs ht hvm hw hB hz1 hk1 hS => ?_)
  obtain ⟨ad, dc⟩ := u
  obtain ⟨hP1, hK1, hD1⟩ := hB
  rw [ht] at hP1
  have hK1 := va_K.moved hvm.symm hK1
  obtain rfl : ad 0 = q0v := hw
  obtain ⟨hP, hD⟩ := va_join (wr := []) (w1 := cW ad dc 0 (fun _ _ => false) (fun _ _ => false) 0 (fun _ => 0) (fun _ => 0) (fun _ => 0)) hP hD [0] [] rfl rfl (by decide) (by decide) hk1 hFc hP1 hD1
  have hK : va_K (dC, dI) cls (cTy dc) s := hK1
  generalize H1 = H at hP hS ⊢
  have hP : va_P (dC, dI) cls (cW ad dc 0 (fun _ _ => false) (fun _ _ => false) 0 (fun _ => 0) (fun _ => 0) (fun _ => 0)) H := hP
  have hD : va_D (fun q : Nat => s.heap.size ≤ q) (cW ad dc 0 (fun _ _ => false) (fun _ _ => false) 0 (fun _ => 0) (fun _ => 0) (fun _ => 0)) := hD
  refine W.widen (k := 6) (n := 919) (by omega) (by omega) ?_
  refine lv_astore_n (lv' := [(1, .ref (ad 0)), (0, .ref b)]) hx hb eL_law_7.1 rfl hl (by decide) rfl (fun ls hl => ?_)
  refine va_new (ci := 1) (fs := [.null, .null, .int (iI 0)]) (C := RX1) (T := TX1) (N := 3) hx hb hts in_X1 tyX1 tyX1_ok hown (hts _ q178) (hts _ q179) (hts _ q30) hK hP hD hS hA rfl (fun j hj => by rcases (show j = 0 ∨ j = 1 ∨ j = 2 by omega) with rfl | rfl | rfl <;> rfl) (Nat.le_of_ble_eq_true rfl) (Nat.le_of_ble_eq_true rfl) eL_law_8.1 (fun q1v H hP hD hS => ?_)
  refine W.widen (k := 7) (n := 922) (by omega) (by omega) ?_
  refine lv_dup hx hb eL_law_11.1 rfl ?_
  have hPc := hP.sub (ws' := [(q1v, .inr (1, [.null, .null, .int (iI 0)]))]) [6] rfl
  have hDc := hD.sub (ws' := [(q1v, .inr (1, [.null, .null, .int (iI 0)]))]) [6] (by decide) rfl
  have hKc := hK.sub (tys' := []) [] rfl
  have hFc := va_free (wc := [(q1v, .inr (1, [.null, .null, .int (iI 0)]))]) hD hS hA [6] rfl
  refine va_callv (va_runI (As := []) (rest := [.ref q1v]) ⟨hx, hb, hml, hown, hts⟩ (mk_X1 l (dC, dI) q1v H.size) (cwI 0 hts (lw_meth q182) rfl rfl rfl (hts _ q30) (hts _ q180) (hts _ q181) rfl (by decide +kernel) ⟨Nat.le_of_ble_eq_true rfl, Nat.le_of_ble_eq_true rfl⟩) ⟨fun a U g mk q => by obtain ⟨q0, q1, qP, qK, qD⟩ := q; exact ⟨q0, q1, qP, va_K.moved (u := U) (U := U.calling g mk a) (Vm.Alike.refl U.vm) qK, qD⟩, fun U hU hW => ⟨rfl, by rw [hU], by rw [hU]; exact hPc, va_K.moved hW.alike hKc, hDc.weaken (fun _ _ _ _ => trivial)⟩⟩ rfl rfl hl.1 rfl (lv_room (Nat.le_of_ble_eq_true rfl)) eL_law_12.1 ⟨Nat.le_of_ble_eq_true rfl, Nat.le_of_ble_eq_true rfl⟩) hS (fun q _ h => hFc q h) hFc (fun u t H1 locs ht hvm hw hB hz1 hk1 hS => ?_)
  obtain ⟨ad2, dc2⟩ := u
  obtain ⟨hP1, hK1, hD1⟩ := hB
  rw [ht] at hP1
  have hK1 := va_K.moved hvm.symm hK1
  obtain rfl : ad2 0 = q1v := hw
  obtain ⟨hP, hD⟩ := va_join (wr := cW ad dc 0 (fun _ _ => false) (fun _ _ => false) 0 (fun _ => 0) (fun _ => 0) (fun _ => 0)) (w1 := mW ad2 dc2 (fun _ => false) (fun _ => false) 0) hP hD [6] [0, 1, 2, 3, 4, 5] rfl rfl (by decide) (by decide) hk1 hFc hP1 hD1
  have hK : va_K (dC, dI) cls (cTy dc ++ mTy dc2) s := hK.app hK1
  refine lv_astore_n (lv' := [(2, .ref (ad2 0)), (1, .ref (ad 0)), (0, .ref b)]) hx hb eL_law_15.1 rfl hl (by decide) rfl (fun ls hl => ?_)
  refine lv_iconst (v := iI 0) hx hb eL_law_16.1 rfl ?_
  refine lv_istore_n (lv' := [(3, .int (iI 0)), (2, .ref (ad2 0)), (1, .ref (ad 0)), (0, .ref b)]) hx hb eL_law_17.1 rfl hl (by decide) rfl (fun ls hl => ?_)
  refine W.widen (k := 600000) (n := 7290000) (by omega) (by omega) ?_
  have hC : jC ((p, l, e, room_1, s), (m, #[Value.ref b], below, meth, c), (600000, 7290000, lw_Z below #[Value.ref b] s), ((dC, dI), (fun q : Nat => s.heap.size ≤ q), 4)) cL_law "RasterRulesLaw" 4 (cTy dc ++ mTy dc2) 6 188 := ⟨hx, hb, hml, rfl, hown, hts, hA, hK, Nat.le_refl _, Nat.le_refl _, Nat.le_refl _, Nat.le_refl _⟩
  have hK9 : ∀ (ws : va_W) (lv : List (Option Value)), J ((p, l, e, room_1, s), (m, #[Value.ref b], below, meth, c), (600000, 7290000, lw_Z below #[Value.ref b] s), ((dC, dI), (fun q : Nat => s.heap.size ≤ q), 4)) ws 421 lv [] := by
    intro ws lv H locs ls hP hD hS hl
    refine lv_iconst (v := 1) hx hb eL_law_421.1 (by decide) ?_
    refine va_forget (fun q hq => hS.2.2 q hq) ?_
    exact lw_ret hx hb hr hlocks eL_law_422.1
  exact law_loop ad ad2 dc dc2 hL hC ⟨hX, hbl, hbA⟩ hK9 (L + 1) 0 0 (fun _ _ => false) (fun _ _ => false) 0 (fun _ => 0) (fun _ => 0) (fun _ => 0) (fun _ => false) (fun _ => false) (by omega) (by decide) same_0 (by decide) _ _ _ hP hD hS (jL_law hl)
-- ===== YOUR PART ENDS =====
set_option maxHeartbeats 4000000 in
theorem lw_walk (l : Launch) (b : Addr) (xs : List Int32) : MetFree l x (headSpec (Jvm.Cond.code x code maxLocals ret :: tables_1) room_1) (lw_P b xs) (fun _ _ _ _ _ => True) lw_Q := by
  refine MetFree.of_bodyS (code := code) (maxLocals := maxLocals) (ret := ret) (by decide) ?_ ?_
  · intro args s m h hn
    obtain ⟨meth, c, h1, h2, h3, h4, h5, h6, -, -⟩ := Cond.code_spec hn (atoms_spec (ws := Jvm.Cond.code x code maxLocals ret :: tables_1) h _ List.mem_cons_self)
    exact ⟨meth, c, h1, h2, h3, h4, h5, h6⟩
  · intro p e s m args below meth c s₁ B hml0 hP _
    obtain ⟨rfl, hx, hbd, hgv⟩ := hP
    obtain ⟨scr, harrAt, hlist, hof, hsmall⟩ := hx
    obtain ⟨hcb, hkn, -, -⟩ := State.arrayAt?_spec harrAt
    have hown : s.vm.findClass R_law = some m.cls := findClass_of_methodNamed B.named
    have hts0 : ∀ c ∈ (Jvm.Cond.code x code maxLocals ret :: tables_1), c.before #[Value.ref b] s = true := atoms_spec (ws := Jvm.Cond.code x code maxLocals ret :: tables_1) B.pre
    have hts : ∀ w ∈ lw_tbl, w.before #[Value.ref b] s = true := k2_hts_sels lw_privs (fun w hw => hts0 w (List.mem_cons_of_mem _ hw)) lw_privs_ok
    have hml : c.maxLocals = 4 := B.maxLocals_eq (hts0 _ List.mem_cons_self)
    have X₀ : Stand p l e room_1 s m #[Value.ref b] below meth c s₁ [] 0 0 := Stand.of_body B
    have hh0 : s₁.heap = s.heap := by rw [B.state]; rfl
    have hsz : scr.slots.size = xs.length := by rw [← Array.length_toList, hlist, List.length_map]
    have hval : ∀ j : Nat, j < xs.length → scr.slots[j]? = some (.int (xs.getD j 0)) := fun j hj => by
      rw [← Array.getElem?_toList, hlist]
      simp [hj]
    have hbl : b < s.heap.size := (Array.getElem?_eq_some_iff.mp hcb).1
    have hX : va_X b xs.length (fun j => xs.getD j 0) s s.heap := ⟨scr, hcb, hof, hkn, hsz, hval⟩
    have K : W p l e room_1 s m #[Value.ref b] below meth c s₁.heap [] 0 0 (lw_Z below #[Value.ref b] s) (entryFrame m ([Value.ref b] : List Value).toArray 4) := by
      rw [hh0]
      exact whole_start l hbd ⟨B.exec, B.bytes, B.returns, hml, hown, hts, hX, hbl, B.notSynchronized, hgv⟩
    obtain ⟨t, a1, o, b1, b2, b3⟩ := K s₁ rfl X₀
    exact ⟨t, o, a1, b1, b2, b3⟩
theorem lw_pre_spec {args : Array Value} {s : State} (h : (Jvm.Cond.and given_1 narrow_1).before args s = true) (hr : rest_1_c.before args s = true) : ∃ (b : Addr) (xs : List Int32), lw_P b xs args s := by
  have hs := flat_of_before _ h
  have hq := flat_of_before _ hr
  have hc : (Cond.count 1).before args s = true := hs _ (by decide +kernel)
  have harr : (Cond.arrayOf (.arg 0) .int).before args s = true := hs _ (by decide +kernel)
  have hle : (Cond.le (.length (.arg 0)) (.int 256)).before args s = true := hs _ (by decide +kernel)
  have hlen : (Cond.isInt (.length (.arg 0))).before args s = true := hq _ (by decide +kernel)
  have hall : (Cond.all (.arg 0) (.isInt (.elem (.arg 0) (.index 0)))).before args s = true := hq _ (by decide +kernel)
  obtain ⟨b, xs, hb, hx⟩ := State.ints_of_pre rfl harr hlen hall
  have hsm : xs.length < 2 ^ 31 := hx.choose_spec.2.2.2
  have hev : (Term.length (.arg 0)).eval args s none [] s = some (.int xs.length.toInt32) := hx.length_eval hb
  have hv := Cond.le_ints hev (show (Term.int 256).eval args s none [] s = some (.int 256) from rfl)
  have hd : xs.length.toInt32 ≤ 256 := by
    simpa [Cond.before, Cond.holds, hv] using hle
  have hN : xs.length ≤ 256 := (Int32.ofNat_le_ofNat hsm (by decide)).mp (show Int32.ofNat xs.length ≤ Int32.ofNat 256 from hd)
  exact ⟨b, xs, Cond.one_arg hc (show args[0]? = some (.ref b) from hb), hx, hN, h⟩
theorem lw_comes (l : Launch) : Comes l x (Jvm.Cond.code x code maxLocals ret :: tables_1) room_1 (fun tb e args s => Calls_1 tb e args s ∧ rest_1 tb e args s ∧ Pre_1 tb e args s)
    (fun _ _ args s o t => lw_Q args s o t) := by
  intro p e ha hc hk s m args below hf hfit hheap happ hpre
  obtain ⟨b, xs, hP⟩ := lw_pre_spec hpre.2.2 hpre.2.1
  obtain ⟨k, o, h1, h2, h3, hQ⟩ := lw_walk l b xs p e ha hc hk s m args below hf ((Spec.applies_iff_loose hf).mp happ).1 hP trivial
  exact ⟨k, o, h1, h2, h3, hQ⟩
theorem lw_frame {s t : State} {o : Outcome} {args : Array Value} (h : Framed s o t [] 600000 7290000) :
    Framed s o t (fieldLocs frame_1_writes args s ++ arrayLocs frame_1_arrays args s ++ staticLocs frame_1_statics s) 600000 7290000 := h
theorem lw_limb (L : Cond) (hL : ∀ (args : Array Value) (s t : State), L.after args s (.returned (some (.int 1))) t = true) :
    ArmFor flags0 classFile x code maxLocals ret World_1 tables_1 room_1 Calls_1 rest_1 Pre_1
      (fun tb e a s o t => postC L tb e a s o t ∧ Framed s o t (fieldLocs frame_1_writes a s ++ arrayLocs frame_1_arrays a s ++ staticLocs frame_1_statics s) 600000 7290000) := by
  intro l _ _ _ p e ha hc hk s m args below hf hfit hheap happ hpre
  obtain ⟨k, o, h1, h2, h3, rfl, hF⟩ := lw_comes l p e ha hc hk s m args below hf hfit hheap happ hpre
  exact ⟨k, _, h1, h2, h3, hL args s _, lw_frame hF⟩
theorem i_vc : Claimed_1_1 ∧ Claimed_1_2 := ⟨lw_limb limb_1_1 (fun args s t => by simp [limb_1_1, Cond.after, Cond.holds, Cond.value]), lw_limb limb_1_2 (fun args s t => Cond.after_iff.mpr (by
  first | (rw [show limb_1_2 = Cond.eq .result (.int 1) from rfl, Cond.eq_ints (x := 1) (y := 1) rfl rfl]; simp; done) | (simp [limb_1_2, Cond.value, Term.eval]; done)))⟩
end
