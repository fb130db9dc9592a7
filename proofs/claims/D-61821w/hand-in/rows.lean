section
-- ===== PART A: goes FIRST, ahead of the names: the tables' words, and 'selects' of the private methods out of them =====
/-- a private method of a class that the tables say can be made, by its rows of tables_1 -/
def lw_okq (q : MethodName × Nat) : Prop := (q.1.cls ≠ "java/lang/invoke/MethodHandle" ∧ q.1.cls ≠ "java/lang/invoke/VarHandle") ∧ Cond.instantiable q.1.cls q.2 ∈ tables_1 ∧ Cond.privateMethod q.1 ∈ tables_1 ∧ Cond.instanceMethod q.1 ∈ tables_1
set_option maxRecDepth 100000
theorem lw_t1 {w : Cond} (h : w ∈ tables_1_1) : w ∈ tables_1 := List.mem_append_left _ h
theorem lw_t2 {w : Cond} (h : w ∈ tables_1_2) : w ∈ tables_1 := List.mem_append_right _ h
theorem lw_p0 : lw_okq (⟨"ShrinkRanker", "find", "(I)Z"⟩, 10) := ⟨⟨by decide +kernel, by decide +kernel⟩, lw_t1 (List.mem_of_getElem? (i := 4) rfl), lw_t1 (List.mem_of_getElem? (i := 70) rfl), lw_t1 (List.mem_of_getElem? (i := 71) rfl)⟩
theorem lw_p1 : lw_okq (⟨"ShrinkRanker", "total", "()I"⟩, 10) := ⟨⟨by decide +kernel, by decide +kernel⟩, lw_t1 (List.mem_of_getElem? (i := 4) rfl), lw_t1 (List.mem_of_getElem? (i := 74) rfl), lw_t1 (List.mem_of_getElem? (i := 75) rfl)⟩
theorem lw_p2 : lw_okq (⟨"ShrinkRanker", "prepare", "()V"⟩, 10) := ⟨⟨by decide +kernel, by decide +kernel⟩, lw_t1 (List.mem_of_getElem? (i := 4) rfl), lw_t1 (List.mem_of_getElem? (i := 78) rfl), lw_t1 (List.mem_of_getElem? (i := 79) rfl)⟩
theorem lw_p3 : lw_okq (⟨"ShrinkRanker", "accepting", "(I)Z"⟩, 10) := ⟨⟨by decide +kernel, by decide +kernel⟩, lw_t1 (List.mem_of_getElem? (i := 4) rfl), lw_t1 (List.mem_of_getElem? (i := 82) rfl), lw_t1 (List.mem_of_getElem? (i := 83) rfl)⟩
theorem lw_p4 : lw_okq (⟨"ShrinkRanker", "accepts", "(III)Z"⟩, 10) := ⟨⟨by decide +kernel, by decide +kernel⟩, lw_t1 (List.mem_of_getElem? (i := 4) rfl), lw_t1 (List.mem_of_getElem? (i := 86) rfl), lw_t1 (List.mem_of_getElem? (i := 87) rfl)⟩
theorem lw_p5 : lw_okq (⟨"ShrinkRanker", "sumOver", "(III)I"⟩, 10) := ⟨⟨by decide +kernel, by decide +kernel⟩, lw_t1 (List.mem_of_getElem? (i := 4) rfl), lw_t1 (List.mem_of_getElem? (i := 90) rfl), lw_t1 (List.mem_of_getElem? (i := 91) rfl)⟩
theorem lw_p6 : lw_okq (⟨"ShrinkRanker", "next", "(II)I"⟩, 10) := ⟨⟨by decide +kernel, by decide +kernel⟩, lw_t1 (List.mem_of_getElem? (i := 4) rfl), lw_t1 (List.mem_of_getElem? (i := 94) rfl), lw_t1 (List.mem_of_getElem? (i := 95) rfl)⟩
theorem lw_p7 : lw_okq (⟨"ShrinkRanker", "goOn", "(IIII)I"⟩, 10) := ⟨⟨by decide +kernel, by decide +kernel⟩, lw_t1 (List.mem_of_getElem? (i := 4) rfl), lw_t1 (List.mem_of_getElem? (i := 98) rfl), lw_t1 (List.mem_of_getElem? (i := 99) rfl)⟩
theorem lw_p8 : lw_okq (⟨"ShrinkRanker", "stageState", "(I)I"⟩, 10) := ⟨⟨by decide +kernel, by decide +kernel⟩, lw_t1 (List.mem_of_getElem? (i := 4) rfl), lw_t1 (List.mem_of_getElem? (i := 114) rfl), lw_t1 (List.mem_of_getElem? (i := 115) rfl)⟩
theorem lw_p9 : lw_okq (⟨"ShrinkRankerModel", "goodNumbers", "(III)Z"⟩, 8) := ⟨⟨by decide +kernel, by decide +kernel⟩, lw_t1 (List.mem_of_getElem? (i := 138) rfl), lw_t1 (List.mem_of_getElem? (i := 173) rfl), lw_t1 (List.mem_of_getElem? (i := 174) rfl)⟩
theorem lw_p10 : lw_okq (⟨"ShrinkRankerModel", "within", "(III)Z"⟩, 8) := ⟨⟨by decide +kernel, by decide +kernel⟩, lw_t1 (List.mem_of_getElem? (i := 138) rfl), lw_t1 (List.mem_of_getElem? (i := 177) rfl), lw_t1 (List.mem_of_getElem? (i := 178) rfl)⟩
theorem lw_p11 : lw_okq (⟨"ShrinkRankerModel", "find", "(I)I"⟩, 8) := ⟨⟨by decide +kernel, by decide +kernel⟩, lw_t1 (List.mem_of_getElem? (i := 138) rfl), lw_t1 (List.mem_of_getElem? (i := 197) rfl), lw_t1 (List.mem_of_getElem? (i := 198) rfl)⟩
theorem lw_p12 : lw_okq (⟨"ShrinkRankerModel", "markAll", "()V"⟩, 8) := ⟨⟨by decide +kernel, by decide +kernel⟩, lw_t1 (List.mem_of_getElem? (i := 138) rfl), lw_t1 (List.mem_of_getElem? (i := 201) rfl), lw_t1 (List.mem_of_getElem? (i := 202) rfl)⟩
theorem lw_p13 : lw_okq (⟨"ShrinkRankerModel", "start", "(I)I"⟩, 8) := ⟨⟨by decide +kernel, by decide +kernel⟩, lw_t1 (List.mem_of_getElem? (i := 138) rfl), lw_t1 (List.mem_of_getElem? (i := 205) rfl), lw_t1 (List.mem_of_getElem? (i := 206) rfl)⟩
theorem lw_p14 : lw_okq (⟨"ShrinkRankerModel", "failsList", "(II)Z"⟩, 8) := ⟨⟨by decide +kernel, by decide +kernel⟩, lw_t1 (List.mem_of_getElem? (i := 138) rfl), lw_t1 (List.mem_of_getElem? (i := 209) rfl), lw_t1 (List.mem_of_getElem? (i := 210) rfl)⟩
theorem lw_p15 : lw_okq (⟨"ShrinkRankerModel", "meets", "(IIIII)Z"⟩, 8) := ⟨⟨by decide +kernel, by decide +kernel⟩, lw_t1 (List.mem_of_getElem? (i := 138) rfl), lw_t1 (List.mem_of_getElem? (i := 213) rfl), lw_t1 (List.mem_of_getElem? (i := 214) rfl)⟩
def lw_privs_1 : List (MethodName × Nat) := [(⟨"ShrinkRanker", "find", "(I)Z"⟩, 10), (⟨"ShrinkRanker", "total", "()I"⟩, 10), (⟨"ShrinkRanker", "prepare", "()V"⟩, 10), (⟨"ShrinkRanker", "accepting", "(I)Z"⟩, 10), (⟨"ShrinkRanker", "accepts", "(III)Z"⟩, 10), (⟨"ShrinkRanker", "sumOver", "(III)I"⟩, 10), (⟨"ShrinkRanker", "next", "(II)I"⟩, 10), (⟨"ShrinkRanker", "goOn", "(IIII)I"⟩, 10), (⟨"ShrinkRanker", "stageState", "(I)I"⟩, 10), (⟨"ShrinkRankerModel", "goodNumbers", "(III)Z"⟩, 8), (⟨"ShrinkRankerModel", "within", "(III)Z"⟩, 8), (⟨"ShrinkRankerModel", "find", "(I)I"⟩, 8), (⟨"ShrinkRankerModel", "markAll", "()V"⟩, 8), (⟨"ShrinkRankerModel", "start", "(I)I"⟩, 8), (⟨"ShrinkRankerModel", "failsList", "(II)Z"⟩, 8), (⟨"ShrinkRankerModel", "meets", "(IIIII)Z"⟩, 8)]
theorem lw_r1 : ∀ q ∈ lw_privs_1, lw_okq q := List.forall_mem_cons.mpr ⟨lw_p0, List.forall_mem_cons.mpr ⟨lw_p1, List.forall_mem_cons.mpr ⟨lw_p2, List.forall_mem_cons.mpr ⟨lw_p3, List.forall_mem_cons.mpr ⟨lw_p4, List.forall_mem_cons.mpr ⟨lw_p5, List.forall_mem_cons.mpr ⟨lw_p6, List.forall_mem_cons.mpr ⟨lw_p7, List.forall_mem_cons.mpr ⟨lw_p8, List.forall_mem_cons.mpr ⟨lw_p9, List.forall_mem_cons.mpr ⟨lw_p10, List.forall_mem_cons.mpr ⟨lw_p11, List.forall_mem_cons.mpr ⟨lw_p12, List.forall_mem_cons.mpr ⟨lw_p13, List.forall_mem_cons.mpr ⟨lw_p14, List.forall_mem_cons.mpr ⟨lw_p15, fun _ h => absurd h List.not_mem_nil⟩⟩⟩⟩⟩⟩⟩⟩⟩⟩⟩⟩⟩⟩⟩⟩
theorem lw_p16 : lw_okq (⟨"ShrinkRankerModel", "sum", "(II)I"⟩, 8) := ⟨⟨by decide +kernel, by decide +kernel⟩, lw_t1 (List.mem_of_getElem? (i := 138) rfl), lw_t1 (List.mem_of_getElem? (i := 217) rfl), lw_t1 (List.mem_of_getElem? (i := 218) rfl)⟩
theorem lw_p17 : lw_okq (⟨"ShrinkRankerModel", "at", "(III)I"⟩, 8) := ⟨⟨by decide +kernel, by decide +kernel⟩, lw_t1 (List.mem_of_getElem? (i := 138) rfl), lw_t1 (List.mem_of_getElem? (i := 221) rfl), lw_t1 (List.mem_of_getElem? (i := 222) rfl)⟩
theorem lw_p18 : lw_okq (⟨"ShrinkRankerModel", "occurs", "(III)I"⟩, 8) := ⟨⟨by decide +kernel, by decide +kernel⟩, lw_t1 (List.mem_of_getElem? (i := 138) rfl), lw_t1 (List.mem_of_getElem? (i := 225) rfl), lw_t1 (List.mem_of_getElem? (i := 226) rfl)⟩
theorem lw_p19 : lw_okq (⟨"ShrinkRankerModel", "pair", "(IIII)Z"⟩, 8) := ⟨⟨by decide +kernel, by decide +kernel⟩, lw_t1 (List.mem_of_getElem? (i := 138) rfl), lw_t1 (List.mem_of_getElem? (i := 229) rfl), lw_t1 (List.mem_of_getElem? (i := 230) rfl)⟩
theorem lw_p20 : lw_okq (⟨"ShrinkRankerModel", "rises", "(II)Z"⟩, 8) := ⟨⟨by decide +kernel, by decide +kernel⟩, lw_t1 (List.mem_of_getElem? (i := 138) rfl), lw_t1 (List.mem_of_getElem? (i := 233) rfl), lw_t1 (List.mem_of_getElem? (i := 234) rfl)⟩
theorem lw_p21 : lw_okq (⟨"ShrinkRankerModel", "marked", "(I)Z"⟩, 8) := ⟨⟨by decide +kernel, by decide +kernel⟩, lw_t1 (List.mem_of_getElem? (i := 138) rfl), lw_t1 (List.mem_of_getElem? (i := 237) rfl), lw_t1 (List.mem_of_getElem? (i := 238) rfl)⟩
theorem lw_p22 : lw_okq (⟨"ShrinkRankerModel", "lengthOf", "(I)I"⟩, 8) := ⟨⟨by decide +kernel, by decide +kernel⟩, lw_t1 (List.mem_of_getElem? (i := 138) rfl), lw_t2 (List.mem_of_getElem? (i := 1) rfl), lw_t2 (List.mem_of_getElem? (i := 2) rfl)⟩
theorem lw_p23 : lw_okq (⟨"ShrinkRankerModel", "between", "(II)I"⟩, 8) := ⟨⟨by decide +kernel, by decide +kernel⟩, lw_t1 (List.mem_of_getElem? (i := 138) rfl), lw_t2 (List.mem_of_getElem? (i := 9) rfl), lw_t2 (List.mem_of_getElem? (i := 10) rfl)⟩
def lw_privs_2 : List (MethodName × Nat) := [(⟨"ShrinkRankerModel", "sum", "(II)I"⟩, 8), (⟨"ShrinkRankerModel", "at", "(III)I"⟩, 8), (⟨"ShrinkRankerModel", "occurs", "(III)I"⟩, 8), (⟨"ShrinkRankerModel", "pair", "(IIII)Z"⟩, 8), (⟨"ShrinkRankerModel", "rises", "(II)Z"⟩, 8), (⟨"ShrinkRankerModel", "marked", "(I)Z"⟩, 8), (⟨"ShrinkRankerModel", "lengthOf", "(I)I"⟩, 8), (⟨"ShrinkRankerModel", "between", "(II)I"⟩, 8)]
theorem lw_r2 : ∀ q ∈ lw_privs_2, lw_okq q := List.forall_mem_cons.mpr ⟨lw_p16, List.forall_mem_cons.mpr ⟨lw_p17, List.forall_mem_cons.mpr ⟨lw_p18, List.forall_mem_cons.mpr ⟨lw_p19, List.forall_mem_cons.mpr ⟨lw_p20, List.forall_mem_cons.mpr ⟨lw_p21, List.forall_mem_cons.mpr ⟨lw_p22, List.forall_mem_cons.mpr ⟨lw_p23, fun _ h => absurd h List.not_mem_nil⟩⟩⟩⟩⟩⟩⟩⟩
def lw_privs : List (MethodName × Nat) := lw_privs_1 ++ (lw_privs_2)
def lw_tbl : List Cond := k2_sels lw_privs ++ tables_1
theorem lw_privs_ok : ∀ q ∈ lw_privs, lw_okq q := by
  show ∀ q ∈ lw_privs_1 ++ (lw_privs_2), lw_okq q
  exact List.forall_mem_append.mpr ⟨lw_r1, lw_r2⟩
-- ===== ONE list of words for every method: the tables' words that hold all through a run =====
def lw_all : List Cond := lw_tbl.filter goodWord
/-- a word of the tables by its place: claim/WORDS.tsv -/
theorem lw_w {w : Cond} (i : Nat) (h : lw_tbl[i]? = some w) (g : goodWord w = true) : w ∈ lw_all := List.mem_filter.mpr ⟨List.mem_of_getElem? h, g⟩
theorem lw_all_tbl {w : Cond} (h : w ∈ lw_all) : w ∈ lw_tbl := (List.mem_filter.mp h).1
theorem lw_self : GoodIn lw_all lw_all := fun w h => ⟨h, good_of_word (List.mem_filter.mp h).2⟩
/-- a class's field words, by their places -/
theorem lw_in (ws : List Cond) (ps : List Nat) (hp : ws = ps.filterMap (fun i => lw_tbl[i]?)) (hg : ws.all goodWord = true) : ∀ w ∈ ws, w ∈ lw_all := by
  intro w h
  have h1 := List.all_eq_true.mp hg w h
  rw [hp] at h
  obtain ⟨i, -, hi⟩ := List.mem_filterMap.mp h
  exact lw_w i hi h1
/-- the words of a contract for the method y with code b, L locals, answer r -/
abbrev ws_ (y : MethodName) (b : ByteArray) (L : Nat) (r : Option FieldType) : List Cond := Cond.code y b L r :: lw_all
theorem lw_meth {y : MethodName} {b : ByteArray} {L : Nat} {r : Option FieldType} (h : Cond.code y b L r ∈ lw_all) : GoodIn lw_all (ws_ y b L r) := by
  intro w hw
  rcases List.mem_cons.mp hw with e | e
  · rw [e]
    exact lw_self _ h
  · exact lw_self _ e
theorem lw_app {a c : List Cond} (ha : ∀ w ∈ a, w ∈ lw_all) (hc : GoodIn lw_all c) : GoodIn lw_all (a ++ c) := by
  intro w hw
  rcases List.mem_append.mp hw with e | e
  · exact lw_self w (ha w e)
  · exact hc w e
/-- what a call through an object asks: cwV n hts (lw_V ..) -/
theorem lw_V {own : String} {idx : Nat} {C : String} {y : MethodName} {b : ByteArray} {L : Nat} {r : Option FieldType} (h1 : Cond.methodLink own idx y ∈ lw_all) (h2 : Cond.instanceMethod y ∈ lw_all) (h3 : Cond.selects C y y ∈ lw_all) (h4 : Cond.initialized C ∈ lw_all) (h5 : Cond.code y b L r ∈ lw_all) : GoodIn lw_all (wsV own idx C y (ws_ y b L r)) := by
  refine lw_app ?_ (lw_meth h5)
  intro w hw
  simp only [List.mem_cons, List.not_mem_nil, or_false] at hw
  rcases hw with e | e | e | e
  · rw [e]; exact h1
  · rw [e]; exact h2
  · rw [e]; exact h3
  · rw [e]; exact h4
/-- what a static call asks: va_cwS n hts (lw_S ..) -/
theorem lw_S {own : String} {idx : Nat} {y : MethodName} {b : ByteArray} {L : Nat} {r : Option FieldType} (h1 : Cond.methodLink own idx y ∈ lw_all) (h2 : Cond.static y ∈ lw_all) (h3 : Cond.initialized y.cls ∈ lw_all) (h4 : Cond.code y b L r ∈ lw_all) : GoodIn lw_all (va_wsS own idx y (ws_ y b L r)) := by
  refine lw_app ?_ (lw_meth h4)
  intro w hw
  simp only [List.mem_cons, List.not_mem_nil, or_false] at hw
  rcases hw with e | e | e
  · rw [e]; exact h1
  · rw [e]; exact h2
  · rw [e]; exact h3
/-- the words of a contract for a method WITH HANDLERS (hh: its table) -/
abbrev wsW_ (y : MethodName) (b : ByteArray) (L : Nat) (r : Option FieldType) (hh : List (Nat × Nat × Nat × Nat)) : List Cond := Cond.codeWith y b L r hh :: lw_all
theorem lw_methW {y : MethodName} {b : ByteArray} {L : Nat} {r : Option FieldType} {hh : List (Nat × Nat × Nat × Nat)} (h : Cond.codeWith y b L r hh ∈ lw_all) : GoodIn lw_all (wsW_ y b L r hh) := by
  intro w hw
  rcases List.mem_cons.mp hw with e | e
  · rw [e]
    exact lw_self _ h
  · exact lw_self _ e
/-- any list of words by their places (lw_in), good -/
theorem lw_good {ws : List Cond} (h : ∀ w ∈ ws, w ∈ lw_all) : GoodIn lw_all ws := fun w hw => lw_self w (h w hw)
/-- what a call of a method with handlers asks: vx_cwVW n hts (lw_VW ..), vx_cwSW n hts (lw_SW ..) -/
theorem lw_VW {own : String} {idx : Nat} {C : String} {y : MethodName} {b : ByteArray} {L : Nat} {r : Option FieldType} {hh : List (Nat × Nat × Nat × Nat)} (h1 : Cond.methodLink own idx y ∈ lw_all) (h2 : Cond.instanceMethod y ∈ lw_all) (h3 : Cond.selects C y y ∈ lw_all) (h4 : Cond.initialized C ∈ lw_all) (h5 : Cond.codeWith y b L r hh ∈ lw_all) : GoodIn lw_all (wsV own idx C y (wsW_ y b L r hh)) := by
  refine lw_app ?_ (lw_methW h5)
  intro w hw
  simp only [List.mem_cons, List.not_mem_nil, or_false] at hw
  rcases hw with e | e | e | e
  · rw [e]; exact h1
  · rw [e]; exact h2
  · rw [e]; exact h3
  · rw [e]; exact h4
theorem lw_SW {own : String} {idx : Nat} {y : MethodName} {b : ByteArray} {L : Nat} {r : Option FieldType} {hh : List (Nat × Nat × Nat × Nat)} (h1 : Cond.methodLink own idx y ∈ lw_all) (h2 : Cond.static y ∈ lw_all) (h3 : Cond.initialized y.cls ∈ lw_all) (h4 : Cond.codeWith y b L r hh ∈ lw_all) : GoodIn lw_all (va_wsS own idx y (wsW_ y b L r hh)) := by
  refine lw_app ?_ (lw_methW h4)
  intro w hw
  simp only [List.mem_cons, List.not_mem_nil, or_false] at hw
  rcases hw with e | e | e
  · rw [e]; exact h1
  · rw [e]; exact h2
  · rw [e]; exact h3
/-- a word by its place in its run of the tables -/
theorem lw_at {r : List Cond} (hr : ∀ w ∈ r, w ∈ lw_tbl) {w : Cond} (i : Nat) (h : r[i]? = some w) : w ∈ lw_tbl := hr w (List.mem_of_getElem? h)
theorem lw_g {w : Cond} (h : w ∈ lw_tbl) (g : goodWord w = true) : w ∈ lw_all := List.mem_filter.mpr ⟨h, g⟩
theorem lw_ms : ∀ w ∈ k2_sels lw_privs, w ∈ lw_tbl := fun w h => show w ∈ k2_sels lw_privs ++ tables_1 from List.mem_append_left _ h
theorem lw_m1 : ∀ w ∈ tables_1_1, w ∈ lw_tbl := fun w h => show w ∈ k2_sels lw_privs ++ tables_1 from List.mem_append_right (k2_sels lw_privs) (show w ∈ tables_1 from List.mem_append_left _ h)
theorem lw_m2 : ∀ w ∈ tables_1_2, w ∈ lw_tbl := fun w h => show w ∈ k2_sels lw_privs ++ tables_1 from List.mem_append_right (k2_sels lw_privs) (show w ∈ tables_1 from List.mem_append_right _ h)
theorem qs0 : (Cond.selects "ShrinkRanker" ⟨"ShrinkRanker", "find", "(I)Z"⟩ ⟨"ShrinkRanker", "find", "(I)Z"⟩) ∈ lw_all := lw_g (lw_at lw_ms 0 rfl) rfl
theorem qs1 : (Cond.selects "ShrinkRanker" ⟨"ShrinkRanker", "total", "()I"⟩ ⟨"ShrinkRanker", "total", "()I"⟩) ∈ lw_all := lw_g (lw_at lw_ms 1 rfl) rfl
theorem qs2 : (Cond.selects "ShrinkRanker" ⟨"ShrinkRanker", "prepare", "()V"⟩ ⟨"ShrinkRanker", "prepare", "()V"⟩) ∈ lw_all := lw_g (lw_at lw_ms 2 rfl) rfl
theorem qs3 : (Cond.selects "ShrinkRanker" ⟨"ShrinkRanker", "accepting", "(I)Z"⟩ ⟨"ShrinkRanker", "accepting", "(I)Z"⟩) ∈ lw_all := lw_g (lw_at lw_ms 3 rfl) rfl
theorem qs4 : (Cond.selects "ShrinkRanker" ⟨"ShrinkRanker", "accepts", "(III)Z"⟩ ⟨"ShrinkRanker", "accepts", "(III)Z"⟩) ∈ lw_all := lw_g (lw_at lw_ms 4 rfl) rfl
theorem qs5 : (Cond.selects "ShrinkRanker" ⟨"ShrinkRanker", "sumOver", "(III)I"⟩ ⟨"ShrinkRanker", "sumOver", "(III)I"⟩) ∈ lw_all := lw_g (lw_at lw_ms 5 rfl) rfl
theorem qs6 : (Cond.selects "ShrinkRanker" ⟨"ShrinkRanker", "next", "(II)I"⟩ ⟨"ShrinkRanker", "next", "(II)I"⟩) ∈ lw_all := lw_g (lw_at lw_ms 6 rfl) rfl
theorem qs7 : (Cond.selects "ShrinkRanker" ⟨"ShrinkRanker", "goOn", "(IIII)I"⟩ ⟨"ShrinkRanker", "goOn", "(IIII)I"⟩) ∈ lw_all := lw_g (lw_at lw_ms 7 rfl) rfl
theorem qs8 : (Cond.selects "ShrinkRanker" ⟨"ShrinkRanker", "stageState", "(I)I"⟩ ⟨"ShrinkRanker", "stageState", "(I)I"⟩) ∈ lw_all := lw_g (lw_at lw_ms 8 rfl) rfl
theorem qs9 : (Cond.selects "ShrinkRankerModel" ⟨"ShrinkRankerModel", "goodNumbers", "(III)Z"⟩ ⟨"ShrinkRankerModel", "goodNumbers", "(III)Z"⟩) ∈ lw_all := lw_g (lw_at lw_ms 9 rfl) rfl
theorem qs10 : (Cond.selects "ShrinkRankerModel" ⟨"ShrinkRankerModel", "within", "(III)Z"⟩ ⟨"ShrinkRankerModel", "within", "(III)Z"⟩) ∈ lw_all := lw_g (lw_at lw_ms 10 rfl) rfl
theorem qs11 : (Cond.selects "ShrinkRankerModel" ⟨"ShrinkRankerModel", "find", "(I)I"⟩ ⟨"ShrinkRankerModel", "find", "(I)I"⟩) ∈ lw_all := lw_g (lw_at lw_ms 11 rfl) rfl
theorem qs12 : (Cond.selects "ShrinkRankerModel" ⟨"ShrinkRankerModel", "markAll", "()V"⟩ ⟨"ShrinkRankerModel", "markAll", "()V"⟩) ∈ lw_all := lw_g (lw_at lw_ms 12 rfl) rfl
theorem qs13 : (Cond.selects "ShrinkRankerModel" ⟨"ShrinkRankerModel", "start", "(I)I"⟩ ⟨"ShrinkRankerModel", "start", "(I)I"⟩) ∈ lw_all := lw_g (lw_at lw_ms 13 rfl) rfl
theorem qs14 : (Cond.selects "ShrinkRankerModel" ⟨"ShrinkRankerModel", "failsList", "(II)Z"⟩ ⟨"ShrinkRankerModel", "failsList", "(II)Z"⟩) ∈ lw_all := lw_g (lw_at lw_ms 14 rfl) rfl
theorem qs15 : (Cond.selects "ShrinkRankerModel" ⟨"ShrinkRankerModel", "meets", "(IIIII)Z"⟩ ⟨"ShrinkRankerModel", "meets", "(IIIII)Z"⟩) ∈ lw_all := lw_g (lw_at lw_ms 15 rfl) rfl
theorem qs16 : (Cond.selects "ShrinkRankerModel" ⟨"ShrinkRankerModel", "sum", "(II)I"⟩ ⟨"ShrinkRankerModel", "sum", "(II)I"⟩) ∈ lw_all := lw_g (lw_at lw_ms 16 rfl) rfl
theorem qs17 : (Cond.selects "ShrinkRankerModel" ⟨"ShrinkRankerModel", "at", "(III)I"⟩ ⟨"ShrinkRankerModel", "at", "(III)I"⟩) ∈ lw_all := lw_g (lw_at lw_ms 17 rfl) rfl
theorem qs18 : (Cond.selects "ShrinkRankerModel" ⟨"ShrinkRankerModel", "occurs", "(III)I"⟩ ⟨"ShrinkRankerModel", "occurs", "(III)I"⟩) ∈ lw_all := lw_g (lw_at lw_ms 18 rfl) rfl
theorem qs19 : (Cond.selects "ShrinkRankerModel" ⟨"ShrinkRankerModel", "pair", "(IIII)Z"⟩ ⟨"ShrinkRankerModel", "pair", "(IIII)Z"⟩) ∈ lw_all := lw_g (lw_at lw_ms 19 rfl) rfl
theorem qs20 : (Cond.selects "ShrinkRankerModel" ⟨"ShrinkRankerModel", "rises", "(II)Z"⟩ ⟨"ShrinkRankerModel", "rises", "(II)Z"⟩) ∈ lw_all := lw_g (lw_at lw_ms 20 rfl) rfl
theorem qs21 : (Cond.selects "ShrinkRankerModel" ⟨"ShrinkRankerModel", "marked", "(I)Z"⟩ ⟨"ShrinkRankerModel", "marked", "(I)Z"⟩) ∈ lw_all := lw_g (lw_at lw_ms 21 rfl) rfl
theorem qs22 : (Cond.selects "ShrinkRankerModel" ⟨"ShrinkRankerModel", "lengthOf", "(I)I"⟩ ⟨"ShrinkRankerModel", "lengthOf", "(I)I"⟩) ∈ lw_all := lw_g (lw_at lw_ms 22 rfl) rfl
theorem qs23 : (Cond.selects "ShrinkRankerModel" ⟨"ShrinkRankerModel", "between", "(II)I"⟩ ⟨"ShrinkRankerModel", "between", "(II)I"⟩) ∈ lw_all := lw_g (lw_at lw_ms 23 rfl) rfl
end
section
set_option maxRecDepth 100000
/-! java/lang/Object -/
set_option maxRecDepth 100000
def RJ0 : String := "java/lang/Object"
abbrev cJ0_init : ByteArray := object_method_1_code
def yJ0_init : MethodName := ⟨RJ0, "<init>", "()V"⟩
theorem dJ0_init_0 : decode cJ0_init 0 = .ok (.return_, 1) := by decide +kernel
theorem q33 : (Jvm.Cond.instanceMethod ({ cls := "java/lang/Object", name := "<init>", desc := "()V" } : Jvm.MethodName)) ∈ lw_all := lw_g (lw_at lw_m1 9 rfl) rfl
theorem q34 : (Jvm.Cond.code ({ cls := "java/lang/Object", name := "<init>", desc := "()V" } : Jvm.MethodName) object_method_1_code (1 : Nat) (Option.none : Option Jvm.ClassFile.FieldType)) ∈ lw_all := lw_g (lw_at lw_m1 10 rfl) rfl
theorem q66 : (Jvm.Cond.arrayClass Jvm.ClassFile.FieldType.int) ∈ lw_all := lw_g (lw_at lw_m1 42 rfl) rfl
set_option maxRecDepth 100000
/-! ShrinkRanker -/
set_option maxRecDepth 100000
def RX0 : String := "ShrinkRanker"
def TX0 : u_T := fun k => match k with
  | 0 => ("ShrinkRanker", "conditions", "I", false)
  | 1 => ("ShrinkRanker", "kinds", "[I", true)
  | 2 => ("ShrinkRanker", "numA", "[I", true)
  | 3 => ("ShrinkRanker", "numB", "[I", true)
  | 4 => ("ShrinkRanker", "staged", "I", false)
  | 5 => ("ShrinkRanker", "stage", "[I", true)
  | 6 => ("ShrinkRanker", "foundLength", "I", false)
  | 7 => ("ShrinkRanker", "found", "[I", true)
  | 8 => ("ShrinkRanker", "ready", "Z", false)
  | _ => ("ShrinkRanker", "ways", "[I", true)
def tyX0 : Nat → FieldType := fun k => match k with
  | 0 => .int
  | 1 => .array .int
  | 2 => .array .int
  | 3 => .array .int
  | 4 => .int
  | 5 => .array .int
  | 6 => .int
  | 7 => .array .int
  | 8 => .boolean
  | _ => .array .int
abbrev wsX00 : List Cond := u_ws RX0 TX0 10
theorem nmX0 : ∀ a, a < 10 → ∀ b, b < 10 → a ≠ b → (TX0 a).2.1 ≠ (TX0 b).2.1 := by decide +kernel
theorem tyX0_ok : ∀ k, k < 10 → parseFieldDescriptor (TX0 k).2.2.1 = some (tyX0 k) := by decide +kernel
abbrev cX0_init : ByteArray := prog_1_method_1_code
def yX0_init : MethodName := ⟨RX0, "<init>", "()V"⟩
theorem dX0_init_0 : decode cX0_init 0 = .ok (.aload_n 0, 1) := by decide +kernel
theorem dX0_init_1 : decode cX0_init 1 = .ok (.invokespecial 1, 3) := by decide +kernel
theorem dX0_init_4 : decode cX0_init 4 = .ok (.aload_n 0, 1) := by decide +kernel
theorem dX0_init_5 : decode cX0_init 5 = .ok (.iconst 3, 1) := by decide +kernel
theorem dX0_init_6 : decode cX0_init 6 = .ok (.newarray .int, 2) := by decide +kernel
theorem dX0_init_8 : decode cX0_init 8 = .ok (.putfield 7, 3) := by decide +kernel
theorem dX0_init_11 : decode cX0_init 11 = .ok (.aload_n 0, 1) := by decide +kernel
theorem dX0_init_12 : decode cX0_init 12 = .ok (.iconst 3, 1) := by decide +kernel
theorem dX0_init_13 : decode cX0_init 13 = .ok (.newarray .int, 2) := by decide +kernel
theorem dX0_init_15 : decode cX0_init 15 = .ok (.putfield 13, 3) := by decide +kernel
theorem dX0_init_18 : decode cX0_init 18 = .ok (.aload_n 0, 1) := by decide +kernel
theorem dX0_init_19 : decode cX0_init 19 = .ok (.iconst 3, 1) := by decide +kernel
theorem dX0_init_20 : decode cX0_init 20 = .ok (.newarray .int, 2) := by decide +kernel
theorem dX0_init_22 : decode cX0_init 22 = .ok (.putfield 16, 3) := by decide +kernel
theorem dX0_init_25 : decode cX0_init 25 = .ok (.aload_n 0, 1) := by decide +kernel
theorem dX0_init_26 : decode cX0_init 26 = .ok (.bipush 6, 2) := by decide +kernel
theorem dX0_init_28 : decode cX0_init 28 = .ok (.newarray .int, 2) := by decide +kernel
theorem dX0_init_30 : decode cX0_init 30 = .ok (.putfield 19, 3) := by decide +kernel
theorem dX0_init_33 : decode cX0_init 33 = .ok (.aload_n 0, 1) := by decide +kernel
theorem dX0_init_34 : decode cX0_init 34 = .ok (.bipush 6, 2) := by decide +kernel
theorem dX0_init_36 : decode cX0_init 36 = .ok (.newarray .int, 2) := by decide +kernel
theorem dX0_init_38 : decode cX0_init 38 = .ok (.putfield 22, 3) := by decide +kernel
theorem dX0_init_41 : decode cX0_init 41 = .ok (.aload_n 0, 1) := by decide +kernel
theorem dX0_init_42 : decode cX0_init 42 = .ok (.sipush 2240, 3) := by decide +kernel
theorem dX0_init_45 : decode cX0_init 45 = .ok (.newarray .int, 2) := by decide +kernel
theorem dX0_init_47 : decode cX0_init 47 = .ok (.putfield 25, 3) := by decide +kernel
theorem dX0_init_50 : decode cX0_init 50 = .ok (.aload_n 0, 1) := by decide +kernel
theorem dX0_init_51 : decode cX0_init 51 = .ok (.iconst 0, 1) := by decide +kernel
theorem dX0_init_52 : decode cX0_init 52 = .ok (.putfield 28, 3) := by decide +kernel
theorem dX0_init_55 : decode cX0_init 55 = .ok (.return_, 1) := by decide +kernel
abbrev cX0_condition : ByteArray := prog_1_method_4_code
def yX0_condition : MethodName := ⟨RX0, "condition", "(III)I"⟩
theorem dX0_condition_0 : decode cX0_condition 0 = .ok (.iload_n 1, 1) := by decide +kernel
theorem dX0_condition_1 : decode cX0_condition 1 = .ok (.ifCond .lt 9, 3) := by decide +kernel
theorem dX0_condition_4 : decode cX0_condition 4 = .ok (.iload_n 1, 1) := by decide +kernel
theorem dX0_condition_5 : decode cX0_condition 5 = .ok (.bipush 9, 2) := by decide +kernel
theorem dX0_condition_7 : decode cX0_condition 7 = .ok (.if_icmp .le 5, 3) := by decide +kernel
theorem dX0_condition_10 : decode cX0_condition 10 = .ok (.iconst (-1), 1) := by decide +kernel
theorem dX0_condition_11 : decode cX0_condition 11 = .ok (.ireturn, 1) := by decide +kernel
theorem dX0_condition_12 : decode cX0_condition 12 = .ok (.iload_n 1, 1) := by decide +kernel
theorem dX0_condition_13 : decode cX0_condition 13 = .ok (.iload_n 2, 1) := by decide +kernel
theorem dX0_condition_14 : decode cX0_condition 14 = .ok (.iload_n 3, 1) := by decide +kernel
theorem dX0_condition_15 : decode cX0_condition 15 = .ok (.invokestatic 36, 3) := by decide +kernel
theorem dX0_condition_18 : decode cX0_condition 18 = .ok (.istore 4, 2) := by decide +kernel
theorem dX0_condition_20 : decode cX0_condition 20 = .ok (.iload 4, 2) := by decide +kernel
theorem dX0_condition_22 : decode cX0_condition 22 = .ok (.ifCond .ne 6, 3) := by decide +kernel
theorem dX0_condition_25 : decode cX0_condition 25 = .ok (.bipush (-2), 2) := by decide +kernel
theorem dX0_condition_27 : decode cX0_condition 27 = .ok (.ireturn, 1) := by decide +kernel
theorem dX0_condition_28 : decode cX0_condition 28 = .ok (.aload_n 0, 1) := by decide +kernel
theorem dX0_condition_29 : decode cX0_condition 29 = .ok (.getfield 39, 3) := by decide +kernel
theorem dX0_condition_32 : decode cX0_condition 32 = .ok (.iconst 3, 1) := by decide +kernel
theorem dX0_condition_33 : decode cX0_condition 33 = .ok (.if_icmp .lt 6, 3) := by decide +kernel
theorem dX0_condition_36 : decode cX0_condition 36 = .ok (.bipush (-3), 2) := by decide +kernel
theorem dX0_condition_38 : decode cX0_condition 38 = .ok (.ireturn, 1) := by decide +kernel
theorem dX0_condition_39 : decode cX0_condition 39 = .ok (.aload_n 0, 1) := by decide +kernel
theorem dX0_condition_40 : decode cX0_condition 40 = .ok (.getfield 7, 3) := by decide +kernel
theorem dX0_condition_43 : decode cX0_condition 43 = .ok (.aload_n 0, 1) := by decide +kernel
theorem dX0_condition_44 : decode cX0_condition 44 = .ok (.getfield 39, 3) := by decide +kernel
theorem dX0_condition_47 : decode cX0_condition 47 = .ok (.iload_n 1, 1) := by decide +kernel
theorem dX0_condition_48 : decode cX0_condition 48 = .ok (.iastore, 1) := by decide +kernel
theorem dX0_condition_49 : decode cX0_condition 49 = .ok (.aload_n 0, 1) := by decide +kernel
theorem dX0_condition_50 : decode cX0_condition 50 = .ok (.getfield 13, 3) := by decide +kernel
theorem dX0_condition_53 : decode cX0_condition 53 = .ok (.aload_n 0, 1) := by decide +kernel
theorem dX0_condition_54 : decode cX0_condition 54 = .ok (.getfield 39, 3) := by decide +kernel
theorem dX0_condition_57 : decode cX0_condition 57 = .ok (.iload_n 2, 1) := by decide +kernel
theorem dX0_condition_58 : decode cX0_condition 58 = .ok (.iastore, 1) := by decide +kernel
theorem dX0_condition_59 : decode cX0_condition 59 = .ok (.aload_n 0, 1) := by decide +kernel
theorem dX0_condition_60 : decode cX0_condition 60 = .ok (.getfield 16, 3) := by decide +kernel
theorem dX0_condition_63 : decode cX0_condition 63 = .ok (.aload_n 0, 1) := by decide +kernel
theorem dX0_condition_64 : decode cX0_condition 64 = .ok (.getfield 39, 3) := by decide +kernel
theorem dX0_condition_67 : decode cX0_condition 67 = .ok (.iload_n 3, 1) := by decide +kernel
theorem dX0_condition_68 : decode cX0_condition 68 = .ok (.iastore, 1) := by decide +kernel
theorem dX0_condition_69 : decode cX0_condition 69 = .ok (.aload_n 0, 1) := by decide +kernel
theorem dX0_condition_70 : decode cX0_condition 70 = .ok (.dup, 1) := by decide +kernel
theorem dX0_condition_71 : decode cX0_condition 71 = .ok (.getfield 39, 3) := by decide +kernel
theorem dX0_condition_74 : decode cX0_condition 74 = .ok (.iconst 1, 1) := by decide +kernel
theorem dX0_condition_75 : decode cX0_condition 75 = .ok (.iadd, 1) := by decide +kernel
theorem dX0_condition_76 : decode cX0_condition 76 = .ok (.putfield 39, 3) := by decide +kernel
theorem dX0_condition_79 : decode cX0_condition 79 = .ok (.aload_n 0, 1) := by decide +kernel
theorem dX0_condition_80 : decode cX0_condition 80 = .ok (.iconst 0, 1) := by decide +kernel
theorem dX0_condition_81 : decode cX0_condition 81 = .ok (.putfield 28, 3) := by decide +kernel
theorem dX0_condition_84 : decode cX0_condition 84 = .ok (.aload_n 0, 1) := by decide +kernel
theorem dX0_condition_85 : decode cX0_condition 85 = .ok (.getfield 39, 3) := by decide +kernel
theorem dX0_condition_88 : decode cX0_condition 88 = .ok (.ireturn, 1) := by decide +kernel
abbrev cX0_goodNumbers : ByteArray := prog_1_method_3_code
def yX0_goodNumbers : MethodName := ⟨RX0, "goodNumbers", "(III)Z"⟩
theorem dX0_goodNumbers_0 : decode cX0_goodNumbers 0 = .ok (.iload_n 0, 1) := by decide +kernel
theorem dX0_goodNumbers_1 : decode cX0_goodNumbers 1 = .ok (.tableswitch 158 0 8 #[51, 77, 101, 125, 125, 149, 149, 149, 156], 51) := by decide +kernel
theorem dX0_goodNumbers_52 : decode cX0_goodNumbers 52 = .ok (.iload_n 1, 1) := by decide +kernel
theorem dX0_goodNumbers_53 : decode cX0_goodNumbers 53 = .ok (.iconst 2, 1) := by decide +kernel
theorem dX0_goodNumbers_54 : decode cX0_goodNumbers 54 = .ok (.iconst 4, 1) := by decide +kernel
theorem dX0_goodNumbers_55 : decode cX0_goodNumbers 55 = .ok (.invokestatic 32, 3) := by decide +kernel
theorem dX0_goodNumbers_58 : decode cX0_goodNumbers 58 = .ok (.ifCond .eq 18, 3) := by decide +kernel
theorem dX0_goodNumbers_61 : decode cX0_goodNumbers 61 = .ok (.iload_n 2, 1) := by decide +kernel
theorem dX0_goodNumbers_62 : decode cX0_goodNumbers 62 = .ok (.iconst 0, 1) := by decide +kernel
theorem dX0_goodNumbers_63 : decode cX0_goodNumbers 63 = .ok (.iload_n 1, 1) := by decide +kernel
theorem dX0_goodNumbers_64 : decode cX0_goodNumbers 64 = .ok (.iconst 1, 1) := by decide +kernel
theorem dX0_goodNumbers_65 : decode cX0_goodNumbers 65 = .ok (.isub, 1) := by decide +kernel
theorem dX0_goodNumbers_66 : decode cX0_goodNumbers 66 = .ok (.invokestatic 32, 3) := by decide +kernel
theorem dX0_goodNumbers_69 : decode cX0_goodNumbers 69 = .ok (.ifCond .eq 7, 3) := by decide +kernel
theorem dX0_goodNumbers_72 : decode cX0_goodNumbers 72 = .ok (.iconst 1, 1) := by decide +kernel
theorem dX0_goodNumbers_73 : decode cX0_goodNumbers 73 = .ok (.goto 4, 3) := by decide +kernel
theorem dX0_goodNumbers_76 : decode cX0_goodNumbers 76 = .ok (.iconst 0, 1) := by decide +kernel
theorem dX0_goodNumbers_77 : decode cX0_goodNumbers 77 = .ok (.ireturn, 1) := by decide +kernel
theorem dX0_goodNumbers_78 : decode cX0_goodNumbers 78 = .ok (.iload_n 1, 1) := by decide +kernel
theorem dX0_goodNumbers_79 : decode cX0_goodNumbers 79 = .ok (.iconst 0, 1) := by decide +kernel
theorem dX0_goodNumbers_80 : decode cX0_goodNumbers 80 = .ok (.iconst 3, 1) := by decide +kernel
theorem dX0_goodNumbers_81 : decode cX0_goodNumbers 81 = .ok (.invokestatic 32, 3) := by decide +kernel
theorem dX0_goodNumbers_84 : decode cX0_goodNumbers 84 = .ok (.ifCond .eq 16, 3) := by decide +kernel
theorem dX0_goodNumbers_87 : decode cX0_goodNumbers 87 = .ok (.iload_n 2, 1) := by decide +kernel
theorem dX0_goodNumbers_88 : decode cX0_goodNumbers 88 = .ok (.iconst 1, 1) := by decide +kernel
theorem dX0_goodNumbers_89 : decode cX0_goodNumbers 89 = .ok (.iconst 3, 1) := by decide +kernel
theorem dX0_goodNumbers_90 : decode cX0_goodNumbers 90 = .ok (.invokestatic 32, 3) := by decide +kernel
theorem dX0_goodNumbers_93 : decode cX0_goodNumbers 93 = .ok (.ifCond .eq 7, 3) := by decide +kernel
theorem dX0_goodNumbers_96 : decode cX0_goodNumbers 96 = .ok (.iconst 1, 1) := by decide +kernel
theorem dX0_goodNumbers_97 : decode cX0_goodNumbers 97 = .ok (.goto 4, 3) := by decide +kernel
theorem dX0_goodNumbers_100 : decode cX0_goodNumbers 100 = .ok (.iconst 0, 1) := by decide +kernel
theorem dX0_goodNumbers_101 : decode cX0_goodNumbers 101 = .ok (.ireturn, 1) := by decide +kernel
theorem dX0_goodNumbers_102 : decode cX0_goodNumbers 102 = .ok (.iload_n 1, 1) := by decide +kernel
theorem dX0_goodNumbers_103 : decode cX0_goodNumbers 103 = .ok (.iconst 0, 1) := by decide +kernel
theorem dX0_goodNumbers_104 : decode cX0_goodNumbers 104 = .ok (.iconst 3, 1) := by decide +kernel
theorem dX0_goodNumbers_105 : decode cX0_goodNumbers 105 = .ok (.invokestatic 32, 3) := by decide +kernel
theorem dX0_goodNumbers_108 : decode cX0_goodNumbers 108 = .ok (.ifCond .eq 16, 3) := by decide +kernel
theorem dX0_goodNumbers_111 : decode cX0_goodNumbers 111 = .ok (.iload_n 2, 1) := by decide +kernel
theorem dX0_goodNumbers_112 : decode cX0_goodNumbers 112 = .ok (.iconst 0, 1) := by decide +kernel
theorem dX0_goodNumbers_113 : decode cX0_goodNumbers 113 = .ok (.iconst 2, 1) := by decide +kernel
theorem dX0_goodNumbers_114 : decode cX0_goodNumbers 114 = .ok (.invokestatic 32, 3) := by decide +kernel
theorem dX0_goodNumbers_117 : decode cX0_goodNumbers 117 = .ok (.ifCond .eq 7, 3) := by decide +kernel
theorem dX0_goodNumbers_120 : decode cX0_goodNumbers 120 = .ok (.iconst 1, 1) := by decide +kernel
theorem dX0_goodNumbers_121 : decode cX0_goodNumbers 121 = .ok (.goto 4, 3) := by decide +kernel
theorem dX0_goodNumbers_124 : decode cX0_goodNumbers 124 = .ok (.iconst 0, 1) := by decide +kernel
theorem dX0_goodNumbers_125 : decode cX0_goodNumbers 125 = .ok (.ireturn, 1) := by decide +kernel
theorem dX0_goodNumbers_126 : decode cX0_goodNumbers 126 = .ok (.iload_n 1, 1) := by decide +kernel
theorem dX0_goodNumbers_127 : decode cX0_goodNumbers 127 = .ok (.iconst 0, 1) := by decide +kernel
theorem dX0_goodNumbers_128 : decode cX0_goodNumbers 128 = .ok (.iconst 3, 1) := by decide +kernel
theorem dX0_goodNumbers_129 : decode cX0_goodNumbers 129 = .ok (.invokestatic 32, 3) := by decide +kernel
theorem dX0_goodNumbers_132 : decode cX0_goodNumbers 132 = .ok (.ifCond .eq 16, 3) := by decide +kernel
theorem dX0_goodNumbers_135 : decode cX0_goodNumbers 135 = .ok (.iload_n 2, 1) := by decide +kernel
theorem dX0_goodNumbers_136 : decode cX0_goodNumbers 136 = .ok (.iconst 0, 1) := by decide +kernel
theorem dX0_goodNumbers_137 : decode cX0_goodNumbers 137 = .ok (.iconst 3, 1) := by decide +kernel
theorem dX0_goodNumbers_138 : decode cX0_goodNumbers 138 = .ok (.invokestatic 32, 3) := by decide +kernel
theorem dX0_goodNumbers_141 : decode cX0_goodNumbers 141 = .ok (.ifCond .eq 7, 3) := by decide +kernel
theorem dX0_goodNumbers_144 : decode cX0_goodNumbers 144 = .ok (.iconst 1, 1) := by decide +kernel
theorem dX0_goodNumbers_145 : decode cX0_goodNumbers 145 = .ok (.goto 4, 3) := by decide +kernel
theorem dX0_goodNumbers_148 : decode cX0_goodNumbers 148 = .ok (.iconst 0, 1) := by decide +kernel
theorem dX0_goodNumbers_149 : decode cX0_goodNumbers 149 = .ok (.ireturn, 1) := by decide +kernel
theorem dX0_goodNumbers_150 : decode cX0_goodNumbers 150 = .ok (.iload_n 1, 1) := by decide +kernel
theorem dX0_goodNumbers_151 : decode cX0_goodNumbers 151 = .ok (.iconst 0, 1) := by decide +kernel
theorem dX0_goodNumbers_152 : decode cX0_goodNumbers 152 = .ok (.iconst 3, 1) := by decide +kernel
theorem dX0_goodNumbers_153 : decode cX0_goodNumbers 153 = .ok (.invokestatic 32, 3) := by decide +kernel
theorem dX0_goodNumbers_156 : decode cX0_goodNumbers 156 = .ok (.ireturn, 1) := by decide +kernel
theorem dX0_goodNumbers_157 : decode cX0_goodNumbers 157 = .ok (.iconst 1, 1) := by decide +kernel
theorem dX0_goodNumbers_158 : decode cX0_goodNumbers 158 = .ok (.ireturn, 1) := by decide +kernel
theorem dX0_goodNumbers_159 : decode cX0_goodNumbers 159 = .ok (.iload_n 1, 1) := by decide +kernel
theorem dX0_goodNumbers_160 : decode cX0_goodNumbers 160 = .ok (.iconst 0, 1) := by decide +kernel
theorem dX0_goodNumbers_161 : decode cX0_goodNumbers 161 = .ok (.iconst 3, 1) := by decide +kernel
theorem dX0_goodNumbers_162 : decode cX0_goodNumbers 162 = .ok (.invokestatic 32, 3) := by decide +kernel
theorem dX0_goodNumbers_165 : decode cX0_goodNumbers 165 = .ok (.ifCond .eq 16, 3) := by decide +kernel
theorem dX0_goodNumbers_168 : decode cX0_goodNumbers 168 = .ok (.iload_n 2, 1) := by decide +kernel
theorem dX0_goodNumbers_169 : decode cX0_goodNumbers 169 = .ok (.iconst 0, 1) := by decide +kernel
theorem dX0_goodNumbers_170 : decode cX0_goodNumbers 170 = .ok (.iconst 1, 1) := by decide +kernel
theorem dX0_goodNumbers_171 : decode cX0_goodNumbers 171 = .ok (.invokestatic 32, 3) := by decide +kernel
theorem dX0_goodNumbers_174 : decode cX0_goodNumbers 174 = .ok (.ifCond .eq 7, 3) := by decide +kernel
theorem dX0_goodNumbers_177 : decode cX0_goodNumbers 177 = .ok (.iconst 1, 1) := by decide +kernel
theorem dX0_goodNumbers_178 : decode cX0_goodNumbers 178 = .ok (.goto 4, 3) := by decide +kernel
theorem dX0_goodNumbers_181 : decode cX0_goodNumbers 181 = .ok (.iconst 0, 1) := by decide +kernel
theorem dX0_goodNumbers_182 : decode cX0_goodNumbers 182 = .ok (.ireturn, 1) := by decide +kernel
abbrev cX0_in : ByteArray := prog_1_method_2_code
def yX0_in : MethodName := ⟨RX0, "in", "(III)Z"⟩
theorem dX0_in_0 : decode cX0_in 0 = .ok (.iload_n 0, 1) := by decide +kernel
theorem dX0_in_1 : decode cX0_in 1 = .ok (.iload_n 1, 1) := by decide +kernel
theorem dX0_in_2 : decode cX0_in 2 = .ok (.if_icmp .lt 12, 3) := by decide +kernel
theorem dX0_in_5 : decode cX0_in 5 = .ok (.iload_n 0, 1) := by decide +kernel
theorem dX0_in_6 : decode cX0_in 6 = .ok (.iload_n 2, 1) := by decide +kernel
theorem dX0_in_7 : decode cX0_in 7 = .ok (.if_icmp .gt 7, 3) := by decide +kernel
theorem dX0_in_10 : decode cX0_in 10 = .ok (.iconst 1, 1) := by decide +kernel
theorem dX0_in_11 : decode cX0_in 11 = .ok (.goto 4, 3) := by decide +kernel
theorem dX0_in_14 : decode cX0_in 14 = .ok (.iconst 0, 1) := by decide +kernel
theorem dX0_in_15 : decode cX0_in 15 = .ok (.ireturn, 1) := by decide +kernel
abbrev cX0_drop : ByteArray := prog_1_method_5_code
def yX0_drop : MethodName := ⟨RX0, "drop", "()I"⟩
theorem dX0_drop_0 : decode cX0_drop 0 = .ok (.aload_n 0, 1) := by decide +kernel
theorem dX0_drop_1 : decode cX0_drop 1 = .ok (.getfield 39, 3) := by decide +kernel
theorem dX0_drop_4 : decode cX0_drop 4 = .ok (.ifCond .ne 6, 3) := by decide +kernel
theorem dX0_drop_7 : decode cX0_drop 7 = .ok (.bipush (-4), 2) := by decide +kernel
theorem dX0_drop_9 : decode cX0_drop 9 = .ok (.ireturn, 1) := by decide +kernel
theorem dX0_drop_10 : decode cX0_drop 10 = .ok (.aload_n 0, 1) := by decide +kernel
theorem dX0_drop_11 : decode cX0_drop 11 = .ok (.dup, 1) := by decide +kernel
theorem dX0_drop_12 : decode cX0_drop 12 = .ok (.getfield 39, 3) := by decide +kernel
theorem dX0_drop_15 : decode cX0_drop 15 = .ok (.iconst 1, 1) := by decide +kernel
theorem dX0_drop_16 : decode cX0_drop 16 = .ok (.isub, 1) := by decide +kernel
theorem dX0_drop_17 : decode cX0_drop 17 = .ok (.putfield 39, 3) := by decide +kernel
theorem dX0_drop_20 : decode cX0_drop 20 = .ok (.aload_n 0, 1) := by decide +kernel
theorem dX0_drop_21 : decode cX0_drop 21 = .ok (.iconst 0, 1) := by decide +kernel
theorem dX0_drop_22 : decode cX0_drop 22 = .ok (.putfield 28, 3) := by decide +kernel
theorem dX0_drop_25 : decode cX0_drop 25 = .ok (.aload_n 0, 1) := by decide +kernel
theorem dX0_drop_26 : decode cX0_drop 26 = .ok (.getfield 39, 3) := by decide +kernel
theorem dX0_drop_29 : decode cX0_drop 29 = .ok (.ireturn, 1) := by decide +kernel
abbrev cX0_push : ByteArray := prog_1_method_15_code
def yX0_push : MethodName := ⟨RX0, "push", "(I)I"⟩
theorem dX0_push_0 : decode cX0_push 0 = .ok (.iload_n 1, 1) := by decide +kernel
theorem dX0_push_1 : decode cX0_push 1 = .ok (.ifCond .lt 8, 3) := by decide +kernel
theorem dX0_push_4 : decode cX0_push 4 = .ok (.iload_n 1, 1) := by decide +kernel
theorem dX0_push_5 : decode cX0_push 5 = .ok (.iconst 3, 1) := by decide +kernel
theorem dX0_push_6 : decode cX0_push 6 = .ok (.if_icmp .le 6, 3) := by decide +kernel
theorem dX0_push_9 : decode cX0_push 9 = .ok (.bipush (-2), 2) := by decide +kernel
theorem dX0_push_11 : decode cX0_push 11 = .ok (.ireturn, 1) := by decide +kernel
theorem dX0_push_12 : decode cX0_push 12 = .ok (.aload_n 0, 1) := by decide +kernel
theorem dX0_push_13 : decode cX0_push 13 = .ok (.getfield 72, 3) := by decide +kernel
theorem dX0_push_16 : decode cX0_push 16 = .ok (.bipush 6, 2) := by decide +kernel
theorem dX0_push_18 : decode cX0_push 18 = .ok (.if_icmp .lt 6, 3) := by decide +kernel
theorem dX0_push_21 : decode cX0_push 21 = .ok (.bipush (-3), 2) := by decide +kernel
theorem dX0_push_23 : decode cX0_push 23 = .ok (.ireturn, 1) := by decide +kernel
theorem dX0_push_24 : decode cX0_push 24 = .ok (.aload_n 0, 1) := by decide +kernel
theorem dX0_push_25 : decode cX0_push 25 = .ok (.getfield 19, 3) := by decide +kernel
theorem dX0_push_28 : decode cX0_push 28 = .ok (.aload_n 0, 1) := by decide +kernel
theorem dX0_push_29 : decode cX0_push 29 = .ok (.getfield 72, 3) := by decide +kernel
theorem dX0_push_32 : decode cX0_push 32 = .ok (.iload_n 1, 1) := by decide +kernel
theorem dX0_push_33 : decode cX0_push 33 = .ok (.iastore, 1) := by decide +kernel
theorem dX0_push_34 : decode cX0_push 34 = .ok (.aload_n 0, 1) := by decide +kernel
theorem dX0_push_35 : decode cX0_push 35 = .ok (.dup, 1) := by decide +kernel
theorem dX0_push_36 : decode cX0_push 36 = .ok (.getfield 72, 3) := by decide +kernel
theorem dX0_push_39 : decode cX0_push 39 = .ok (.iconst 1, 1) := by decide +kernel
theorem dX0_push_40 : decode cX0_push 40 = .ok (.iadd, 1) := by decide +kernel
theorem dX0_push_41 : decode cX0_push 41 = .ok (.putfield 72, 3) := by decide +kernel
theorem dX0_push_44 : decode cX0_push 44 = .ok (.aload_n 0, 1) := by decide +kernel
theorem dX0_push_45 : decode cX0_push 45 = .ok (.getfield 72, 3) := by decide +kernel
theorem dX0_push_48 : decode cX0_push 48 = .ok (.ireturn, 1) := by decide +kernel
abbrev cX0_empty : ByteArray := prog_1_method_16_code
def yX0_empty : MethodName := ⟨RX0, "empty", "()V"⟩
theorem dX0_empty_0 : decode cX0_empty 0 = .ok (.aload_n 0, 1) := by decide +kernel
theorem dX0_empty_1 : decode cX0_empty 1 = .ok (.iconst 0, 1) := by decide +kernel
theorem dX0_empty_2 : decode cX0_empty 2 = .ok (.putfield 72, 3) := by decide +kernel
theorem dX0_empty_5 : decode cX0_empty 5 = .ok (.return_, 1) := by decide +kernel
abbrev cX0_load : ByteArray := prog_1_method_17_code
def yX0_load : MethodName := ⟨RX0, "load", "(I)I"⟩
theorem dX0_load_0 : decode cX0_load 0 = .ok (.aload_n 0, 1) := by decide +kernel
theorem dX0_load_1 : decode cX0_load 1 = .ok (.iload_n 1, 1) := by decide +kernel
theorem dX0_load_2 : decode cX0_load 2 = .ok (.invokevirtual 75, 3) := by decide +kernel
theorem dX0_load_5 : decode cX0_load 5 = .ok (.istore_n 2, 1) := by decide +kernel
theorem dX0_load_6 : decode cX0_load 6 = .ok (.iload_n 2, 1) := by decide +kernel
theorem dX0_load_7 : decode cX0_load 7 = .ok (.ifCond .ne 6, 3) := by decide +kernel
theorem dX0_load_10 : decode cX0_load 10 = .ok (.bipush (-4), 2) := by decide +kernel
theorem dX0_load_12 : decode cX0_load 12 = .ok (.ireturn, 1) := by decide +kernel
theorem dX0_load_13 : decode cX0_load 13 = .ok (.aload_n 0, 1) := by decide +kernel
theorem dX0_load_14 : decode cX0_load 14 = .ok (.aload_n 0, 1) := by decide +kernel
theorem dX0_load_15 : decode cX0_load 15 = .ok (.getfield 69, 3) := by decide +kernel
theorem dX0_load_18 : decode cX0_load 18 = .ok (.putfield 72, 3) := by decide +kernel
theorem dX0_load_21 : decode cX0_load 21 = .ok (.iconst 0, 1) := by decide +kernel
theorem dX0_load_22 : decode cX0_load 22 = .ok (.istore_n 3, 1) := by decide +kernel
theorem dX0_load_23 : decode cX0_load 23 = .ok (.iload_n 3, 1) := by decide +kernel
theorem dX0_load_24 : decode cX0_load 24 = .ok (.aload_n 0, 1) := by decide +kernel
theorem dX0_load_25 : decode cX0_load 25 = .ok (.getfield 72, 3) := by decide +kernel
theorem dX0_load_28 : decode cX0_load 28 = .ok (.if_icmp .ge 21, 3) := by decide +kernel
theorem dX0_load_31 : decode cX0_load 31 = .ok (.aload_n 0, 1) := by decide +kernel
theorem dX0_load_32 : decode cX0_load 32 = .ok (.getfield 19, 3) := by decide +kernel
theorem dX0_load_35 : decode cX0_load 35 = .ok (.iload_n 3, 1) := by decide +kernel
theorem dX0_load_36 : decode cX0_load 36 = .ok (.aload_n 0, 1) := by decide +kernel
theorem dX0_load_37 : decode cX0_load 37 = .ok (.getfield 22, 3) := by decide +kernel
theorem dX0_load_40 : decode cX0_load 40 = .ok (.iload_n 3, 1) := by decide +kernel
theorem dX0_load_41 : decode cX0_load 41 = .ok (.iaload, 1) := by decide +kernel
theorem dX0_load_42 : decode cX0_load 42 = .ok (.iastore, 1) := by decide +kernel
theorem dX0_load_43 : decode cX0_load 43 = .ok (.iinc 3 1, 3) := by decide +kernel
theorem dX0_load_46 : decode cX0_load 46 = .ok (.goto (-23), 3) := by decide +kernel
theorem dX0_load_49 : decode cX0_load 49 = .ok (.aload_n 0, 1) := by decide +kernel
theorem dX0_load_50 : decode cX0_load 50 = .ok (.getfield 72, 3) := by decide +kernel
theorem dX0_load_53 : decode cX0_load 53 = .ok (.ireturn, 1) := by decide +kernel
abbrev cX0_find : ByteArray := prog_1_method_14_code
def yX0_find : MethodName := ⟨RX0, "find", "(I)Z"⟩
theorem dX0_find_0 : decode cX0_find 0 = .ok (.aload_n 0, 1) := by decide +kernel
theorem dX0_find_1 : decode cX0_find 1 = .ok (.invokevirtual 65, 3) := by decide +kernel
theorem dX0_find_4 : decode cX0_find 4 = .ok (.istore_n 2, 1) := by decide +kernel
theorem dX0_find_5 : decode cX0_find 5 = .ok (.iload_n 1, 1) := by decide +kernel
theorem dX0_find_6 : decode cX0_find 6 = .ok (.ifCond .lt 8, 3) := by decide +kernel
theorem dX0_find_9 : decode cX0_find 9 = .ok (.iload_n 1, 1) := by decide +kernel
theorem dX0_find_10 : decode cX0_find 10 = .ok (.iload_n 2, 1) := by decide +kernel
theorem dX0_find_11 : decode cX0_find 11 = .ok (.if_icmp .lt 5, 3) := by decide +kernel
theorem dX0_find_14 : decode cX0_find 14 = .ok (.iconst 0, 1) := by decide +kernel
theorem dX0_find_15 : decode cX0_find 15 = .ok (.ireturn, 1) := by decide +kernel
theorem dX0_find_16 : decode cX0_find 16 = .ok (.iload_n 1, 1) := by decide +kernel
theorem dX0_find_17 : decode cX0_find 17 = .ok (.istore_n 3, 1) := by decide +kernel
theorem dX0_find_18 : decode cX0_find 18 = .ok (.iconst 0, 1) := by decide +kernel
theorem dX0_find_19 : decode cX0_find 19 = .ok (.istore 4, 2) := by decide +kernel
theorem dX0_find_21 : decode cX0_find 21 = .ok (.iload 4, 2) := by decide +kernel
theorem dX0_find_23 : decode cX0_find 23 = .ok (.bipush 6, 2) := by decide +kernel
theorem dX0_find_25 : decode cX0_find 25 = .ok (.if_icmp .ge 46, 3) := by decide +kernel
theorem dX0_find_28 : decode cX0_find 28 = .ok (.iload_n 3, 1) := by decide +kernel
theorem dX0_find_29 : decode cX0_find 29 = .ok (.aload_n 0, 1) := by decide +kernel
theorem dX0_find_30 : decode cX0_find 30 = .ok (.getfield 25, 3) := by decide +kernel
theorem dX0_find_33 : decode cX0_find 33 = .ok (.iload 4, 2) := by decide +kernel
theorem dX0_find_35 : decode cX0_find 35 = .ok (.sipush 320, 3) := by decide +kernel
theorem dX0_find_38 : decode cX0_find 38 = .ok (.imul, 1) := by decide +kernel
theorem dX0_find_39 : decode cX0_find 39 = .ok (.sipush 256, 3) := by decide +kernel
theorem dX0_find_42 : decode cX0_find 42 = .ok (.iadd, 1) := by decide +kernel
theorem dX0_find_43 : decode cX0_find 43 = .ok (.iaload, 1) := by decide +kernel
theorem dX0_find_44 : decode cX0_find 44 = .ok (.if_icmp .lt 27, 3) := by decide +kernel
theorem dX0_find_47 : decode cX0_find 47 = .ok (.iload_n 3, 1) := by decide +kernel
theorem dX0_find_48 : decode cX0_find 48 = .ok (.aload_n 0, 1) := by decide +kernel
theorem dX0_find_49 : decode cX0_find 49 = .ok (.getfield 25, 3) := by decide +kernel
theorem dX0_find_52 : decode cX0_find 52 = .ok (.iload 4, 2) := by decide +kernel
theorem dX0_find_54 : decode cX0_find 54 = .ok (.sipush 320, 3) := by decide +kernel
theorem dX0_find_57 : decode cX0_find 57 = .ok (.imul, 1) := by decide +kernel
theorem dX0_find_58 : decode cX0_find 58 = .ok (.sipush 256, 3) := by decide +kernel
theorem dX0_find_61 : decode cX0_find 61 = .ok (.iadd, 1) := by decide +kernel
theorem dX0_find_62 : decode cX0_find 62 = .ok (.iaload, 1) := by decide +kernel
theorem dX0_find_63 : decode cX0_find 63 = .ok (.isub, 1) := by decide +kernel
theorem dX0_find_64 : decode cX0_find 64 = .ok (.istore_n 3, 1) := by decide +kernel
theorem dX0_find_65 : decode cX0_find 65 = .ok (.iinc 4 1, 3) := by decide +kernel
theorem dX0_find_68 : decode cX0_find 68 = .ok (.goto (-47), 3) := by decide +kernel
theorem dX0_find_71 : decode cX0_find 71 = .ok (.aload_n 0, 1) := by decide +kernel
theorem dX0_find_72 : decode cX0_find 72 = .ok (.iload 4, 2) := by decide +kernel
theorem dX0_find_74 : decode cX0_find 74 = .ok (.putfield 69, 3) := by decide +kernel
theorem dX0_find_77 : decode cX0_find 77 = .ok (.sipush 256, 3) := by decide +kernel
theorem dX0_find_80 : decode cX0_find 80 = .ok (.istore 5, 2) := by decide +kernel
theorem dX0_find_82 : decode cX0_find 82 = .ok (.iconst 0, 1) := by decide +kernel
theorem dX0_find_83 : decode cX0_find 83 = .ok (.istore 6, 2) := by decide +kernel
theorem dX0_find_85 : decode cX0_find 85 = .ok (.iload 6, 2) := by decide +kernel
theorem dX0_find_87 : decode cX0_find 87 = .ok (.iload 4, 2) := by decide +kernel
theorem dX0_find_89 : decode cX0_find 89 = .ok (.if_icmp .ge 89, 3) := by decide +kernel
theorem dX0_find_92 : decode cX0_find 92 = .ok (.iconst 0, 1) := by decide +kernel
theorem dX0_find_93 : decode cX0_find 93 = .ok (.istore 7, 2) := by decide +kernel
theorem dX0_find_95 : decode cX0_find 95 = .ok (.iconst 0, 1) := by decide +kernel
theorem dX0_find_96 : decode cX0_find 96 = .ok (.istore 8, 2) := by decide +kernel
theorem dX0_find_98 : decode cX0_find 98 = .ok (.iload 7, 2) := by decide +kernel
theorem dX0_find_100 : decode cX0_find 100 = .ok (.iconst 3, 1) := by decide +kernel
theorem dX0_find_101 : decode cX0_find 101 = .ok (.if_icmp .ge 30, 3) := by decide +kernel
theorem dX0_find_104 : decode cX0_find 104 = .ok (.iload_n 3, 1) := by decide +kernel
theorem dX0_find_105 : decode cX0_find 105 = .ok (.aload_n 0, 1) := by decide +kernel
theorem dX0_find_106 : decode cX0_find 106 = .ok (.iload 4, 2) := by decide +kernel
theorem dX0_find_108 : decode cX0_find 108 = .ok (.iload 6, 2) := by decide +kernel
theorem dX0_find_110 : decode cX0_find 110 = .ok (.isub, 1) := by decide +kernel
theorem dX0_find_111 : decode cX0_find 111 = .ok (.iconst 1, 1) := by decide +kernel
theorem dX0_find_112 : decode cX0_find 112 = .ok (.isub, 1) := by decide +kernel
theorem dX0_find_113 : decode cX0_find 113 = .ok (.iload 5, 2) := by decide +kernel
theorem dX0_find_115 : decode cX0_find 115 = .ok (.iload 7, 2) := by decide +kernel
end
section
set_option maxRecDepth 100000
theorem dX0_find_117 : decode cX0_find 117 = .ok (.iconst 1, 1) := by decide +kernel
theorem dX0_find_118 : decode cX0_find 118 = .ok (.iadd, 1) := by decide +kernel
theorem dX0_find_119 : decode cX0_find 119 = .ok (.invokevirtual 54, 3) := by decide +kernel
theorem dX0_find_122 : decode cX0_find 122 = .ok (.if_icmp .lt 9, 3) := by decide +kernel
theorem dX0_find_125 : decode cX0_find 125 = .ok (.iinc 7 1, 3) := by decide +kernel
theorem dX0_find_128 : decode cX0_find 128 = .ok (.goto (-30), 3) := by decide +kernel
theorem dX0_find_131 : decode cX0_find 131 = .ok (.aload_n 0, 1) := by decide +kernel
theorem dX0_find_132 : decode cX0_find 132 = .ok (.iload 4, 2) := by decide +kernel
theorem dX0_find_134 : decode cX0_find 134 = .ok (.iload 6, 2) := by decide +kernel
theorem dX0_find_136 : decode cX0_find 136 = .ok (.isub, 1) := by decide +kernel
theorem dX0_find_137 : decode cX0_find 137 = .ok (.iconst 1, 1) := by decide +kernel
theorem dX0_find_138 : decode cX0_find 138 = .ok (.isub, 1) := by decide +kernel
theorem dX0_find_139 : decode cX0_find 139 = .ok (.iload 5, 2) := by decide +kernel
theorem dX0_find_141 : decode cX0_find 141 = .ok (.iload 7, 2) := by decide +kernel
theorem dX0_find_143 : decode cX0_find 143 = .ok (.invokevirtual 54, 3) := by decide +kernel
theorem dX0_find_146 : decode cX0_find 146 = .ok (.istore 8, 2) := by decide +kernel
theorem dX0_find_148 : decode cX0_find 148 = .ok (.iload_n 3, 1) := by decide +kernel
theorem dX0_find_149 : decode cX0_find 149 = .ok (.iload 8, 2) := by decide +kernel
theorem dX0_find_151 : decode cX0_find 151 = .ok (.isub, 1) := by decide +kernel
theorem dX0_find_152 : decode cX0_find 152 = .ok (.istore_n 3, 1) := by decide +kernel
theorem dX0_find_153 : decode cX0_find 153 = .ok (.aload_n 0, 1) := by decide +kernel
theorem dX0_find_154 : decode cX0_find 154 = .ok (.getfield 22, 3) := by decide +kernel
theorem dX0_find_157 : decode cX0_find 157 = .ok (.iload 6, 2) := by decide +kernel
theorem dX0_find_159 : decode cX0_find 159 = .ok (.iload 7, 2) := by decide +kernel
theorem dX0_find_161 : decode cX0_find 161 = .ok (.iastore, 1) := by decide +kernel
theorem dX0_find_162 : decode cX0_find 162 = .ok (.aload_n 0, 1) := by decide +kernel
theorem dX0_find_163 : decode cX0_find 163 = .ok (.iload 5, 2) := by decide +kernel
theorem dX0_find_165 : decode cX0_find 165 = .ok (.iload 7, 2) := by decide +kernel
theorem dX0_find_167 : decode cX0_find 167 = .ok (.invokevirtual 58, 3) := by decide +kernel
theorem dX0_find_170 : decode cX0_find 170 = .ok (.istore 5, 2) := by decide +kernel
theorem dX0_find_172 : decode cX0_find 172 = .ok (.iinc 6 1, 3) := by decide +kernel
theorem dX0_find_175 : decode cX0_find 175 = .ok (.goto (-90), 3) := by decide +kernel
theorem dX0_find_178 : decode cX0_find 178 = .ok (.iconst 1, 1) := by decide +kernel
theorem dX0_find_179 : decode cX0_find 179 = .ok (.ireturn, 1) := by decide +kernel
abbrev cX0_total : ByteArray := prog_1_method_13_code
def yX0_total : MethodName := ⟨RX0, "total", "()I"⟩
theorem dX0_total_0 : decode cX0_total 0 = .ok (.aload_n 0, 1) := by decide +kernel
theorem dX0_total_1 : decode cX0_total 1 = .ok (.invokevirtual 62, 3) := by decide +kernel
theorem dX0_total_4 : decode cX0_total 4 = .ok (.iconst 0, 1) := by decide +kernel
theorem dX0_total_5 : decode cX0_total 5 = .ok (.istore_n 1, 1) := by decide +kernel
theorem dX0_total_6 : decode cX0_total 6 = .ok (.iconst 0, 1) := by decide +kernel
theorem dX0_total_7 : decode cX0_total 7 = .ok (.istore_n 2, 1) := by decide +kernel
theorem dX0_total_8 : decode cX0_total 8 = .ok (.iload_n 2, 1) := by decide +kernel
theorem dX0_total_9 : decode cX0_total 9 = .ok (.bipush 6, 2) := by decide +kernel
theorem dX0_total_11 : decode cX0_total 11 = .ok (.if_icmp .gt 26, 3) := by decide +kernel
theorem dX0_total_14 : decode cX0_total 14 = .ok (.iload_n 1, 1) := by decide +kernel
theorem dX0_total_15 : decode cX0_total 15 = .ok (.aload_n 0, 1) := by decide +kernel
theorem dX0_total_16 : decode cX0_total 16 = .ok (.getfield 25, 3) := by decide +kernel
theorem dX0_total_19 : decode cX0_total 19 = .ok (.iload_n 2, 1) := by decide +kernel
theorem dX0_total_20 : decode cX0_total 20 = .ok (.sipush 320, 3) := by decide +kernel
theorem dX0_total_23 : decode cX0_total 23 = .ok (.imul, 1) := by decide +kernel
theorem dX0_total_24 : decode cX0_total 24 = .ok (.sipush 256, 3) := by decide +kernel
theorem dX0_total_27 : decode cX0_total 27 = .ok (.iadd, 1) := by decide +kernel
theorem dX0_total_28 : decode cX0_total 28 = .ok (.iaload, 1) := by decide +kernel
theorem dX0_total_29 : decode cX0_total 29 = .ok (.iadd, 1) := by decide +kernel
theorem dX0_total_30 : decode cX0_total 30 = .ok (.istore_n 1, 1) := by decide +kernel
theorem dX0_total_31 : decode cX0_total 31 = .ok (.iinc 2 1, 3) := by decide +kernel
theorem dX0_total_34 : decode cX0_total 34 = .ok (.goto (-26), 3) := by decide +kernel
theorem dX0_total_37 : decode cX0_total 37 = .ok (.iload_n 1, 1) := by decide +kernel
theorem dX0_total_38 : decode cX0_total 38 = .ok (.ireturn, 1) := by decide +kernel
abbrev cX0_prepare : ByteArray := prog_1_method_10_code
def yX0_prepare : MethodName := ⟨RX0, "prepare", "()V"⟩
theorem dX0_prepare_0 : decode cX0_prepare 0 = .ok (.aload_n 0, 1) := by decide +kernel
theorem dX0_prepare_1 : decode cX0_prepare 1 = .ok (.getfield 28, 3) := by decide +kernel
theorem dX0_prepare_4 : decode cX0_prepare 4 = .ok (.ifCond .eq 4, 3) := by decide +kernel
theorem dX0_prepare_7 : decode cX0_prepare 7 = .ok (.return_, 1) := by decide +kernel
theorem dX0_prepare_8 : decode cX0_prepare 8 = .ok (.aload_n 0, 1) := by decide +kernel
theorem dX0_prepare_9 : decode cX0_prepare 9 = .ok (.iconst 1, 1) := by decide +kernel
theorem dX0_prepare_10 : decode cX0_prepare 10 = .ok (.putfield 28, 3) := by decide +kernel
theorem dX0_prepare_13 : decode cX0_prepare 13 = .ok (.iconst 0, 1) := by decide +kernel
theorem dX0_prepare_14 : decode cX0_prepare 14 = .ok (.istore_n 1, 1) := by decide +kernel
theorem dX0_prepare_15 : decode cX0_prepare 15 = .ok (.iload_n 1, 1) := by decide +kernel
theorem dX0_prepare_16 : decode cX0_prepare 16 = .ok (.sipush 320, 3) := by decide +kernel
theorem dX0_prepare_19 : decode cX0_prepare 19 = .ok (.if_icmp .ge 30, 3) := by decide +kernel
theorem dX0_prepare_22 : decode cX0_prepare 22 = .ok (.aload_n 0, 1) := by decide +kernel
theorem dX0_prepare_23 : decode cX0_prepare 23 = .ok (.iload_n 1, 1) := by decide +kernel
theorem dX0_prepare_24 : decode cX0_prepare 24 = .ok (.invokevirtual 50, 3) := by decide +kernel
theorem dX0_prepare_27 : decode cX0_prepare 27 = .ok (.istore_n 2, 1) := by decide +kernel
theorem dX0_prepare_28 : decode cX0_prepare 28 = .ok (.aload_n 0, 1) := by decide +kernel
theorem dX0_prepare_29 : decode cX0_prepare 29 = .ok (.getfield 25, 3) := by decide +kernel
theorem dX0_prepare_32 : decode cX0_prepare 32 = .ok (.iload_n 1, 1) := by decide +kernel
theorem dX0_prepare_33 : decode cX0_prepare 33 = .ok (.iload_n 2, 1) := by decide +kernel
theorem dX0_prepare_34 : decode cX0_prepare 34 = .ok (.ifCond .eq 7, 3) := by decide +kernel
theorem dX0_prepare_37 : decode cX0_prepare 37 = .ok (.iconst 1, 1) := by decide +kernel
theorem dX0_prepare_38 : decode cX0_prepare 38 = .ok (.goto 4, 3) := by decide +kernel
theorem dX0_prepare_41 : decode cX0_prepare 41 = .ok (.iconst 0, 1) := by decide +kernel
theorem dX0_prepare_42 : decode cX0_prepare 42 = .ok (.iastore, 1) := by decide +kernel
theorem dX0_prepare_43 : decode cX0_prepare 43 = .ok (.iinc 1 1, 3) := by decide +kernel
theorem dX0_prepare_46 : decode cX0_prepare 46 = .ok (.goto (-31), 3) := by decide +kernel
theorem dX0_prepare_49 : decode cX0_prepare 49 = .ok (.iconst 1, 1) := by decide +kernel
theorem dX0_prepare_50 : decode cX0_prepare 50 = .ok (.istore_n 1, 1) := by decide +kernel
theorem dX0_prepare_51 : decode cX0_prepare 51 = .ok (.iload_n 1, 1) := by decide +kernel
theorem dX0_prepare_52 : decode cX0_prepare 52 = .ok (.bipush 6, 2) := by decide +kernel
theorem dX0_prepare_54 : decode cX0_prepare 54 = .ok (.if_icmp .gt 45, 3) := by decide +kernel
theorem dX0_prepare_57 : decode cX0_prepare 57 = .ok (.iconst 0, 1) := by decide +kernel
theorem dX0_prepare_58 : decode cX0_prepare 58 = .ok (.istore_n 2, 1) := by decide +kernel
theorem dX0_prepare_59 : decode cX0_prepare 59 = .ok (.iload_n 2, 1) := by decide +kernel
theorem dX0_prepare_60 : decode cX0_prepare 60 = .ok (.sipush 320, 3) := by decide +kernel
theorem dX0_prepare_63 : decode cX0_prepare 63 = .ok (.if_icmp .ge 30, 3) := by decide +kernel
theorem dX0_prepare_66 : decode cX0_prepare 66 = .ok (.aload_n 0, 1) := by decide +kernel
theorem dX0_prepare_67 : decode cX0_prepare 67 = .ok (.getfield 25, 3) := by decide +kernel
theorem dX0_prepare_70 : decode cX0_prepare 70 = .ok (.iload_n 1, 1) := by decide +kernel
theorem dX0_prepare_71 : decode cX0_prepare 71 = .ok (.sipush 320, 3) := by decide +kernel
theorem dX0_prepare_74 : decode cX0_prepare 74 = .ok (.imul, 1) := by decide +kernel
theorem dX0_prepare_75 : decode cX0_prepare 75 = .ok (.iload_n 2, 1) := by decide +kernel
theorem dX0_prepare_76 : decode cX0_prepare 76 = .ok (.iadd, 1) := by decide +kernel
theorem dX0_prepare_77 : decode cX0_prepare 77 = .ok (.aload_n 0, 1) := by decide +kernel
theorem dX0_prepare_78 : decode cX0_prepare 78 = .ok (.iload_n 1, 1) := by decide +kernel
theorem dX0_prepare_79 : decode cX0_prepare 79 = .ok (.iconst 1, 1) := by decide +kernel
theorem dX0_prepare_80 : decode cX0_prepare 80 = .ok (.isub, 1) := by decide +kernel
theorem dX0_prepare_81 : decode cX0_prepare 81 = .ok (.iload_n 2, 1) := by decide +kernel
theorem dX0_prepare_82 : decode cX0_prepare 82 = .ok (.iconst 4, 1) := by decide +kernel
theorem dX0_prepare_83 : decode cX0_prepare 83 = .ok (.invokevirtual 54, 3) := by decide +kernel
theorem dX0_prepare_86 : decode cX0_prepare 86 = .ok (.iastore, 1) := by decide +kernel
theorem dX0_prepare_87 : decode cX0_prepare 87 = .ok (.iinc 2 1, 3) := by decide +kernel
theorem dX0_prepare_90 : decode cX0_prepare 90 = .ok (.goto (-31), 3) := by decide +kernel
theorem dX0_prepare_93 : decode cX0_prepare 93 = .ok (.iinc 1 1, 3) := by decide +kernel
theorem dX0_prepare_96 : decode cX0_prepare 96 = .ok (.goto (-45), 3) := by decide +kernel
theorem dX0_prepare_99 : decode cX0_prepare 99 = .ok (.return_, 1) := by decide +kernel
abbrev cX0_accepting : ByteArray := prog_1_method_9_code
def yX0_accepting : MethodName := ⟨RX0, "accepting", "(I)Z"⟩
theorem dX0_accepting_0 : decode cX0_accepting 0 = .ok (.iconst 0, 1) := by decide +kernel
theorem dX0_accepting_1 : decode cX0_accepting 1 = .ok (.istore_n 2, 1) := by decide +kernel
theorem dX0_accepting_2 : decode cX0_accepting 2 = .ok (.iload_n 2, 1) := by decide +kernel
theorem dX0_accepting_3 : decode cX0_accepting 3 = .ok (.aload_n 0, 1) := by decide +kernel
theorem dX0_accepting_4 : decode cX0_accepting 4 = .ok (.getfield 39, 3) := by decide +kernel
theorem dX0_accepting_7 : decode cX0_accepting 7 = .ok (.if_icmp .ge 32, 3) := by decide +kernel
theorem dX0_accepting_10 : decode cX0_accepting 10 = .ok (.aload_n 0, 1) := by decide +kernel
theorem dX0_accepting_11 : decode cX0_accepting 11 = .ok (.iload_n 2, 1) := by decide +kernel
theorem dX0_accepting_12 : decode cX0_accepting 12 = .ok (.iload_n 1, 1) := by decide +kernel
theorem dX0_accepting_13 : decode cX0_accepting 13 = .ok (.iconst 2, 1) := by decide +kernel
theorem dX0_accepting_14 : decode cX0_accepting 14 = .ok (.iload_n 2, 1) := by decide +kernel
theorem dX0_accepting_15 : decode cX0_accepting 15 = .ok (.imul, 1) := by decide +kernel
theorem dX0_accepting_16 : decode cX0_accepting 16 = .ok (.ishr, 1) := by decide +kernel
theorem dX0_accepting_17 : decode cX0_accepting 17 = .ok (.iconst 3, 1) := by decide +kernel
theorem dX0_accepting_18 : decode cX0_accepting 18 = .ok (.iand, 1) := by decide +kernel
theorem dX0_accepting_19 : decode cX0_accepting 19 = .ok (.iload_n 1, 1) := by decide +kernel
theorem dX0_accepting_20 : decode cX0_accepting 20 = .ok (.bipush 6, 2) := by decide +kernel
theorem dX0_accepting_22 : decode cX0_accepting 22 = .ok (.ishr, 1) := by decide +kernel
theorem dX0_accepting_23 : decode cX0_accepting 23 = .ok (.invokevirtual 47, 3) := by decide +kernel
theorem dX0_accepting_26 : decode cX0_accepting 26 = .ok (.istore_n 3, 1) := by decide +kernel
theorem dX0_accepting_27 : decode cX0_accepting 27 = .ok (.iload_n 3, 1) := by decide +kernel
theorem dX0_accepting_28 : decode cX0_accepting 28 = .ok (.ifCond .ne 5, 3) := by decide +kernel
theorem dX0_accepting_31 : decode cX0_accepting 31 = .ok (.iconst 0, 1) := by decide +kernel
theorem dX0_accepting_32 : decode cX0_accepting 32 = .ok (.ireturn, 1) := by decide +kernel
theorem dX0_accepting_33 : decode cX0_accepting 33 = .ok (.iinc 2 1, 3) := by decide +kernel
theorem dX0_accepting_36 : decode cX0_accepting 36 = .ok (.goto (-34), 3) := by decide +kernel
theorem dX0_accepting_39 : decode cX0_accepting 39 = .ok (.iconst 1, 1) := by decide +kernel
theorem dX0_accepting_40 : decode cX0_accepting 40 = .ok (.ireturn, 1) := by decide +kernel
abbrev cX0_accepts : ByteArray := prog_1_method_7_code
def yX0_accepts : MethodName := ⟨RX0, "accepts", "(III)Z"⟩
theorem dX0_accepts_0 : decode cX0_accepts 0 = .ok (.aload_n 0, 1) := by decide +kernel
theorem dX0_accepts_1 : decode cX0_accepts 1 = .ok (.getfield 13, 3) := by decide +kernel
theorem dX0_accepts_4 : decode cX0_accepts 4 = .ok (.iload_n 1, 1) := by decide +kernel
theorem dX0_accepts_5 : decode cX0_accepts 5 = .ok (.iaload, 1) := by decide +kernel
theorem dX0_accepts_6 : decode cX0_accepts 6 = .ok (.istore 4, 2) := by decide +kernel
theorem dX0_accepts_8 : decode cX0_accepts 8 = .ok (.aload_n 0, 1) := by decide +kernel
theorem dX0_accepts_9 : decode cX0_accepts 9 = .ok (.getfield 16, 3) := by decide +kernel
theorem dX0_accepts_12 : decode cX0_accepts 12 = .ok (.iload_n 1, 1) := by decide +kernel
theorem dX0_accepts_13 : decode cX0_accepts 13 = .ok (.iaload, 1) := by decide +kernel
theorem dX0_accepts_14 : decode cX0_accepts 14 = .ok (.istore 5, 2) := by decide +kernel
theorem dX0_accepts_16 : decode cX0_accepts 16 = .ok (.aload_n 0, 1) := by decide +kernel
theorem dX0_accepts_17 : decode cX0_accepts 17 = .ok (.getfield 7, 3) := by decide +kernel
theorem dX0_accepts_20 : decode cX0_accepts 20 = .ok (.iload_n 1, 1) := by decide +kernel
theorem dX0_accepts_21 : decode cX0_accepts 21 = .ok (.iaload, 1) := by decide +kernel
theorem dX0_accepts_22 : decode cX0_accepts 22 = .ok (.tableswitch 158 0 8 #[50, 62, 74, 86, 97, 107, 118, 135, 147], 50) := by decide +kernel
theorem dX0_accepts_72 : decode cX0_accepts 72 = .ok (.iload_n 2, 1) := by decide +kernel
theorem dX0_accepts_73 : decode cX0_accepts 73 = .ok (.iload 5, 2) := by decide +kernel
theorem dX0_accepts_75 : decode cX0_accepts 75 = .ok (.if_icmp .ne 7, 3) := by decide +kernel
theorem dX0_accepts_78 : decode cX0_accepts 78 = .ok (.iconst 1, 1) := by decide +kernel
theorem dX0_accepts_79 : decode cX0_accepts 79 = .ok (.goto 4, 3) := by decide +kernel
theorem dX0_accepts_82 : decode cX0_accepts 82 = .ok (.iconst 0, 1) := by decide +kernel
theorem dX0_accepts_83 : decode cX0_accepts 83 = .ok (.ireturn, 1) := by decide +kernel
theorem dX0_accepts_84 : decode cX0_accepts 84 = .ok (.iload_n 2, 1) := by decide +kernel
theorem dX0_accepts_85 : decode cX0_accepts 85 = .ok (.iload 5, 2) := by decide +kernel
theorem dX0_accepts_87 : decode cX0_accepts 87 = .ok (.if_icmp .ne 7, 3) := by decide +kernel
theorem dX0_accepts_90 : decode cX0_accepts 90 = .ok (.iconst 1, 1) := by decide +kernel
theorem dX0_accepts_91 : decode cX0_accepts 91 = .ok (.goto 4, 3) := by decide +kernel
theorem dX0_accepts_94 : decode cX0_accepts 94 = .ok (.iconst 0, 1) := by decide +kernel
theorem dX0_accepts_95 : decode cX0_accepts 95 = .ok (.ireturn, 1) := by decide +kernel
theorem dX0_accepts_96 : decode cX0_accepts 96 = .ok (.iload_n 2, 1) := by decide +kernel
theorem dX0_accepts_97 : decode cX0_accepts 97 = .ok (.iload 5, 2) := by decide +kernel
theorem dX0_accepts_99 : decode cX0_accepts 99 = .ok (.if_icmp .gt 7, 3) := by decide +kernel
theorem dX0_accepts_102 : decode cX0_accepts 102 = .ok (.iconst 1, 1) := by decide +kernel
theorem dX0_accepts_103 : decode cX0_accepts 103 = .ok (.goto 4, 3) := by decide +kernel
theorem dX0_accepts_106 : decode cX0_accepts 106 = .ok (.iconst 0, 1) := by decide +kernel
theorem dX0_accepts_107 : decode cX0_accepts 107 = .ok (.ireturn, 1) := by decide +kernel
theorem dX0_accepts_108 : decode cX0_accepts 108 = .ok (.iload_n 2, 1) := by decide +kernel
theorem dX0_accepts_109 : decode cX0_accepts 109 = .ok (.iconst 1, 1) := by decide +kernel
theorem dX0_accepts_110 : decode cX0_accepts 110 = .ok (.if_icmp .ne 7, 3) := by decide +kernel
theorem dX0_accepts_113 : decode cX0_accepts 113 = .ok (.iconst 1, 1) := by decide +kernel
theorem dX0_accepts_114 : decode cX0_accepts 114 = .ok (.goto 4, 3) := by decide +kernel
theorem dX0_accepts_117 : decode cX0_accepts 117 = .ok (.iconst 0, 1) := by decide +kernel
theorem dX0_accepts_118 : decode cX0_accepts 118 = .ok (.ireturn, 1) := by decide +kernel
theorem dX0_accepts_119 : decode cX0_accepts 119 = .ok (.iload_n 2, 1) := by decide +kernel
theorem dX0_accepts_120 : decode cX0_accepts 120 = .ok (.ifCond .ne 7, 3) := by decide +kernel
theorem dX0_accepts_123 : decode cX0_accepts 123 = .ok (.iconst 1, 1) := by decide +kernel
theorem dX0_accepts_124 : decode cX0_accepts 124 = .ok (.goto 4, 3) := by decide +kernel
theorem dX0_accepts_127 : decode cX0_accepts 127 = .ok (.iconst 0, 1) := by decide +kernel
theorem dX0_accepts_128 : decode cX0_accepts 128 = .ok (.ireturn, 1) := by decide +kernel
theorem dX0_accepts_129 : decode cX0_accepts 129 = .ok (.iload_n 2, 1) := by decide +kernel
theorem dX0_accepts_130 : decode cX0_accepts 130 = .ok (.iconst 1, 1) := by decide +kernel
theorem dX0_accepts_131 : decode cX0_accepts 131 = .ok (.if_icmp .ne 7, 3) := by decide +kernel
theorem dX0_accepts_134 : decode cX0_accepts 134 = .ok (.iconst 1, 1) := by decide +kernel
theorem dX0_accepts_135 : decode cX0_accepts 135 = .ok (.goto 4, 3) := by decide +kernel
theorem dX0_accepts_138 : decode cX0_accepts 138 = .ok (.iconst 0, 1) := by decide +kernel
theorem dX0_accepts_139 : decode cX0_accepts 139 = .ok (.ireturn, 1) := by decide +kernel
theorem dX0_accepts_140 : decode cX0_accepts 140 = .ok (.iload_n 3, 1) := by decide +kernel
theorem dX0_accepts_141 : decode cX0_accepts 141 = .ok (.iconst 4, 1) := by decide +kernel
theorem dX0_accepts_142 : decode cX0_accepts 142 = .ok (.if_icmp .eq 13, 3) := by decide +kernel
theorem dX0_accepts_145 : decode cX0_accepts 145 = .ok (.iload_n 3, 1) := by decide +kernel
theorem dX0_accepts_146 : decode cX0_accepts 146 = .ok (.iload 4, 2) := by decide +kernel
theorem dX0_accepts_148 : decode cX0_accepts 148 = .ok (.if_icmp .lt 7, 3) := by decide +kernel
theorem dX0_accepts_151 : decode cX0_accepts 151 = .ok (.iconst 1, 1) := by decide +kernel
theorem dX0_accepts_152 : decode cX0_accepts 152 = .ok (.goto 4, 3) := by decide +kernel
theorem dX0_accepts_155 : decode cX0_accepts 155 = .ok (.iconst 0, 1) := by decide +kernel
theorem dX0_accepts_156 : decode cX0_accepts 156 = .ok (.ireturn, 1) := by decide +kernel
theorem dX0_accepts_157 : decode cX0_accepts 157 = .ok (.iload_n 2, 1) := by decide +kernel
theorem dX0_accepts_158 : decode cX0_accepts 158 = .ok (.iload 4, 2) := by decide +kernel
theorem dX0_accepts_160 : decode cX0_accepts 160 = .ok (.if_icmp .ne 7, 3) := by decide +kernel
theorem dX0_accepts_163 : decode cX0_accepts 163 = .ok (.iconst 1, 1) := by decide +kernel
theorem dX0_accepts_164 : decode cX0_accepts 164 = .ok (.goto 4, 3) := by decide +kernel
theorem dX0_accepts_167 : decode cX0_accepts 167 = .ok (.iconst 0, 1) := by decide +kernel
theorem dX0_accepts_168 : decode cX0_accepts 168 = .ok (.ireturn, 1) := by decide +kernel
theorem dX0_accepts_169 : decode cX0_accepts 169 = .ok (.iload_n 2, 1) := by decide +kernel
theorem dX0_accepts_170 : decode cX0_accepts 170 = .ok (.iconst 1, 1) := by decide +kernel
theorem dX0_accepts_171 : decode cX0_accepts 171 = .ok (.if_icmp .ne 7, 3) := by decide +kernel
theorem dX0_accepts_174 : decode cX0_accepts 174 = .ok (.iconst 1, 1) := by decide +kernel
theorem dX0_accepts_175 : decode cX0_accepts 175 = .ok (.goto 4, 3) := by decide +kernel
theorem dX0_accepts_178 : decode cX0_accepts 178 = .ok (.iconst 0, 1) := by decide +kernel
theorem dX0_accepts_179 : decode cX0_accepts 179 = .ok (.ireturn, 1) := by decide +kernel
theorem dX0_accepts_180 : decode cX0_accepts 180 = .ok (.iload_n 2, 1) := by decide +kernel
theorem dX0_accepts_181 : decode cX0_accepts 181 = .ok (.iload 5, 2) := by decide +kernel
theorem dX0_accepts_183 : decode cX0_accepts 183 = .ok (.if_icmp .ne 7, 3) := by decide +kernel
theorem dX0_accepts_186 : decode cX0_accepts 186 = .ok (.iconst 1, 1) := by decide +kernel
theorem dX0_accepts_187 : decode cX0_accepts 187 = .ok (.goto 4, 3) := by decide +kernel
theorem dX0_accepts_190 : decode cX0_accepts 190 = .ok (.iconst 0, 1) := by decide +kernel
theorem dX0_accepts_191 : decode cX0_accepts 191 = .ok (.ireturn, 1) := by decide +kernel
abbrev cX0_sumOver : ByteArray := prog_1_method_11_code
def yX0_sumOver : MethodName := ⟨RX0, "sumOver", "(III)I"⟩
theorem dX0_sumOver_0 : decode cX0_sumOver 0 = .ok (.iconst 0, 1) := by decide +kernel
theorem dX0_sumOver_1 : decode cX0_sumOver 1 = .ok (.istore 4, 2) := by decide +kernel
theorem dX0_sumOver_3 : decode cX0_sumOver 3 = .ok (.iconst 0, 1) := by decide +kernel
theorem dX0_sumOver_4 : decode cX0_sumOver 4 = .ok (.istore 5, 2) := by decide +kernel
theorem dX0_sumOver_6 : decode cX0_sumOver 6 = .ok (.iload 5, 2) := by decide +kernel
theorem dX0_sumOver_8 : decode cX0_sumOver 8 = .ok (.iload_n 3, 1) := by decide +kernel
theorem dX0_sumOver_9 : decode cX0_sumOver 9 = .ok (.if_icmp .ge 36, 3) := by decide +kernel
theorem dX0_sumOver_12 : decode cX0_sumOver 12 = .ok (.aload_n 0, 1) := by decide +kernel
theorem dX0_sumOver_13 : decode cX0_sumOver 13 = .ok (.iload_n 2, 1) := by decide +kernel
theorem dX0_sumOver_14 : decode cX0_sumOver 14 = .ok (.iload 5, 2) := by decide +kernel
theorem dX0_sumOver_16 : decode cX0_sumOver 16 = .ok (.invokevirtual 58, 3) := by decide +kernel
theorem dX0_sumOver_19 : decode cX0_sumOver 19 = .ok (.istore 6, 2) := by decide +kernel
theorem dX0_sumOver_21 : decode cX0_sumOver 21 = .ok (.iload 4, 2) := by decide +kernel
theorem dX0_sumOver_23 : decode cX0_sumOver 23 = .ok (.aload_n 0, 1) := by decide +kernel
theorem dX0_sumOver_24 : decode cX0_sumOver 24 = .ok (.getfield 25, 3) := by decide +kernel
theorem dX0_sumOver_27 : decode cX0_sumOver 27 = .ok (.iload_n 1, 1) := by decide +kernel
theorem dX0_sumOver_28 : decode cX0_sumOver 28 = .ok (.sipush 320, 3) := by decide +kernel
theorem dX0_sumOver_31 : decode cX0_sumOver 31 = .ok (.imul, 1) := by decide +kernel
theorem dX0_sumOver_32 : decode cX0_sumOver 32 = .ok (.iload 6, 2) := by decide +kernel
theorem dX0_sumOver_34 : decode cX0_sumOver 34 = .ok (.iadd, 1) := by decide +kernel
theorem dX0_sumOver_35 : decode cX0_sumOver 35 = .ok (.iaload, 1) := by decide +kernel
theorem dX0_sumOver_36 : decode cX0_sumOver 36 = .ok (.iadd, 1) := by decide +kernel
theorem dX0_sumOver_37 : decode cX0_sumOver 37 = .ok (.istore 4, 2) := by decide +kernel
theorem dX0_sumOver_39 : decode cX0_sumOver 39 = .ok (.iinc 5 1, 3) := by decide +kernel
theorem dX0_sumOver_42 : decode cX0_sumOver 42 = .ok (.goto (-36), 3) := by decide +kernel
theorem dX0_sumOver_45 : decode cX0_sumOver 45 = .ok (.iload 4, 2) := by decide +kernel
theorem dX0_sumOver_47 : decode cX0_sumOver 47 = .ok (.ireturn, 1) := by decide +kernel
abbrev cX0_next : ByteArray := prog_1_method_8_code
def yX0_next : MethodName := ⟨RX0, "next", "(II)I"⟩
theorem dX0_next_0 : decode cX0_next 0 = .ok (.iload_n 1, 1) := by decide +kernel
theorem dX0_next_1 : decode cX0_next 1 = .ok (.bipush 6, 2) := by decide +kernel
theorem dX0_next_3 : decode cX0_next 3 = .ok (.ishr, 1) := by decide +kernel
theorem dX0_next_4 : decode cX0_next 4 = .ok (.istore_n 3, 1) := by decide +kernel
theorem dX0_next_5 : decode cX0_next 5 = .ok (.iload_n 2, 1) := by decide +kernel
theorem dX0_next_6 : decode cX0_next 6 = .ok (.bipush 6, 2) := by decide +kernel
theorem dX0_next_8 : decode cX0_next 8 = .ok (.ishl, 1) := by decide +kernel
theorem dX0_next_9 : decode cX0_next 9 = .ok (.istore 4, 2) := by decide +kernel
theorem dX0_next_11 : decode cX0_next 11 = .ok (.iconst 0, 1) := by decide +kernel
theorem dX0_next_12 : decode cX0_next 12 = .ok (.istore 5, 2) := by decide +kernel
theorem dX0_next_14 : decode cX0_next 14 = .ok (.iload 5, 2) := by decide +kernel
theorem dX0_next_16 : decode cX0_next 16 = .ok (.aload_n 0, 1) := by decide +kernel
theorem dX0_next_17 : decode cX0_next 17 = .ok (.getfield 39, 3) := by decide +kernel
theorem dX0_next_20 : decode cX0_next 20 = .ok (.if_icmp .ge 39, 3) := by decide +kernel
theorem dX0_next_23 : decode cX0_next 23 = .ok (.aload_n 0, 1) := by decide +kernel
theorem dX0_next_24 : decode cX0_next 24 = .ok (.iload 5, 2) := by decide +kernel
theorem dX0_next_26 : decode cX0_next 26 = .ok (.iload_n 1, 1) := by decide +kernel
theorem dX0_next_27 : decode cX0_next 27 = .ok (.iconst 2, 1) := by decide +kernel
theorem dX0_next_28 : decode cX0_next 28 = .ok (.iload 5, 2) := by decide +kernel
theorem dX0_next_30 : decode cX0_next 30 = .ok (.imul, 1) := by decide +kernel
theorem dX0_next_31 : decode cX0_next 31 = .ok (.ishr, 1) := by decide +kernel
theorem dX0_next_32 : decode cX0_next 32 = .ok (.iconst 3, 1) := by decide +kernel
theorem dX0_next_33 : decode cX0_next 33 = .ok (.iand, 1) := by decide +kernel
theorem dX0_next_34 : decode cX0_next 34 = .ok (.iload_n 3, 1) := by decide +kernel
theorem dX0_next_35 : decode cX0_next 35 = .ok (.iload_n 2, 1) := by decide +kernel
theorem dX0_next_36 : decode cX0_next 36 = .ok (.invokevirtual 43, 3) := by decide +kernel
theorem dX0_next_39 : decode cX0_next 39 = .ok (.istore 6, 2) := by decide +kernel
theorem dX0_next_41 : decode cX0_next 41 = .ok (.iload 4, 2) := by decide +kernel
theorem dX0_next_43 : decode cX0_next 43 = .ok (.iload 6, 2) := by decide +kernel
theorem dX0_next_45 : decode cX0_next 45 = .ok (.iconst 2, 1) := by decide +kernel
theorem dX0_next_46 : decode cX0_next 46 = .ok (.iload 5, 2) := by decide +kernel
theorem dX0_next_48 : decode cX0_next 48 = .ok (.imul, 1) := by decide +kernel
theorem dX0_next_49 : decode cX0_next 49 = .ok (.ishl, 1) := by decide +kernel
theorem dX0_next_50 : decode cX0_next 50 = .ok (.ior, 1) := by decide +kernel
theorem dX0_next_51 : decode cX0_next 51 = .ok (.istore 4, 2) := by decide +kernel
theorem dX0_next_53 : decode cX0_next 53 = .ok (.iinc 5 1, 3) := by decide +kernel
theorem dX0_next_56 : decode cX0_next 56 = .ok (.goto (-42), 3) := by decide +kernel
theorem dX0_next_59 : decode cX0_next 59 = .ok (.iload 4, 2) := by decide +kernel
theorem dX0_next_61 : decode cX0_next 61 = .ok (.ireturn, 1) := by decide +kernel
abbrev cX0_goOn : ByteArray := prog_1_method_6_code
def yX0_goOn : MethodName := ⟨RX0, "goOn", "(IIII)I"⟩
theorem dX0_goOn_0 : decode cX0_goOn 0 = .ok (.aload_n 0, 1) := by decide +kernel
theorem dX0_goOn_1 : decode cX0_goOn 1 = .ok (.getfield 13, 3) := by decide +kernel
theorem dX0_goOn_4 : decode cX0_goOn 4 = .ok (.iload_n 1, 1) := by decide +kernel
theorem dX0_goOn_5 : decode cX0_goOn 5 = .ok (.iaload, 1) := by decide +kernel
theorem dX0_goOn_6 : decode cX0_goOn 6 = .ok (.istore 5, 2) := by decide +kernel
theorem dX0_goOn_8 : decode cX0_goOn 8 = .ok (.aload_n 0, 1) := by decide +kernel
theorem dX0_goOn_9 : decode cX0_goOn 9 = .ok (.getfield 16, 3) := by decide +kernel
theorem dX0_goOn_12 : decode cX0_goOn 12 = .ok (.iload_n 1, 1) := by decide +kernel
theorem dX0_goOn_13 : decode cX0_goOn 13 = .ok (.iaload, 1) := by decide +kernel
theorem dX0_goOn_14 : decode cX0_goOn 14 = .ok (.istore 6, 2) := by decide +kernel
theorem dX0_goOn_16 : decode cX0_goOn 16 = .ok (.aload_n 0, 1) := by decide +kernel
theorem dX0_goOn_17 : decode cX0_goOn 17 = .ok (.getfield 7, 3) := by decide +kernel
theorem dX0_goOn_20 : decode cX0_goOn 20 = .ok (.iload_n 1, 1) := by decide +kernel
theorem dX0_goOn_21 : decode cX0_goOn 21 = .ok (.iaload, 1) := by decide +kernel
theorem dX0_goOn_22 : decode cX0_goOn 22 = .ok (.tableswitch 176 0 8 #[50, 67, 88, 109, 109, 128, 148, 150, 164], 50) := by decide +kernel
theorem dX0_goOn_72 : decode cX0_goOn 72 = .ok (.iload_n 2, 1) := by decide +kernel
theorem dX0_goOn_73 : decode cX0_goOn 73 = .ok (.iload 4, 2) := by decide +kernel
theorem dX0_goOn_75 : decode cX0_goOn 75 = .ok (.iadd, 1) := by decide +kernel
theorem dX0_goOn_76 : decode cX0_goOn 76 = .ok (.iload 5, 2) := by decide +kernel
theorem dX0_goOn_78 : decode cX0_goOn 78 = .ok (.ifCond .le 8, 3) := by decide +kernel
theorem dX0_goOn_81 : decode cX0_goOn 81 = .ok (.iload 5, 2) := by decide +kernel
theorem dX0_goOn_83 : decode cX0_goOn 83 = .ok (.goto 4, 3) := by decide +kernel
theorem dX0_goOn_86 : decode cX0_goOn 86 = .ok (.iconst 1, 1) := by decide +kernel
theorem dX0_goOn_87 : decode cX0_goOn 87 = .ok (.irem, 1) := by decide +kernel
theorem dX0_goOn_88 : decode cX0_goOn 88 = .ok (.ireturn, 1) := by decide +kernel
theorem dX0_goOn_89 : decode cX0_goOn 89 = .ok (.iload 4, 2) := by decide +kernel
theorem dX0_goOn_91 : decode cX0_goOn 91 = .ok (.iload 5, 2) := by decide +kernel
theorem dX0_goOn_93 : decode cX0_goOn 93 = .ok (.if_icmp .ne 15, 3) := by decide +kernel
theorem dX0_goOn_96 : decode cX0_goOn 96 = .ok (.iload_n 2, 1) := by decide +kernel
theorem dX0_goOn_97 : decode cX0_goOn 97 = .ok (.iload 6, 2) := by decide +kernel
theorem dX0_goOn_99 : decode cX0_goOn 99 = .ok (.if_icmp .ge 9, 3) := by decide +kernel
theorem dX0_goOn_102 : decode cX0_goOn 102 = .ok (.iload_n 2, 1) := by decide +kernel
theorem dX0_goOn_103 : decode cX0_goOn 103 = .ok (.iconst 1, 1) := by decide +kernel
theorem dX0_goOn_104 : decode cX0_goOn 104 = .ok (.iadd, 1) := by decide +kernel
theorem dX0_goOn_105 : decode cX0_goOn 105 = .ok (.goto 4, 3) := by decide +kernel
theorem dX0_goOn_108 : decode cX0_goOn 108 = .ok (.iload_n 2, 1) := by decide +kernel
theorem dX0_goOn_109 : decode cX0_goOn 109 = .ok (.ireturn, 1) := by decide +kernel
theorem dX0_goOn_110 : decode cX0_goOn 110 = .ok (.iload 4, 2) := by decide +kernel
theorem dX0_goOn_112 : decode cX0_goOn 112 = .ok (.iload 5, 2) := by decide +kernel
theorem dX0_goOn_114 : decode cX0_goOn 114 = .ok (.if_icmp .ne 15, 3) := by decide +kernel
theorem dX0_goOn_117 : decode cX0_goOn 117 = .ok (.iload_n 2, 1) := by decide +kernel
theorem dX0_goOn_118 : decode cX0_goOn 118 = .ok (.iload 6, 2) := by decide +kernel
theorem dX0_goOn_120 : decode cX0_goOn 120 = .ok (.if_icmp .gt 9, 3) := by decide +kernel
theorem dX0_goOn_123 : decode cX0_goOn 123 = .ok (.iload_n 2, 1) := by decide +kernel
theorem dX0_goOn_124 : decode cX0_goOn 124 = .ok (.iconst 1, 1) := by decide +kernel
theorem dX0_goOn_125 : decode cX0_goOn 125 = .ok (.iadd, 1) := by decide +kernel
theorem dX0_goOn_126 : decode cX0_goOn 126 = .ok (.goto 4, 3) := by decide +kernel
theorem dX0_goOn_129 : decode cX0_goOn 129 = .ok (.iload_n 2, 1) := by decide +kernel
theorem dX0_goOn_130 : decode cX0_goOn 130 = .ok (.ireturn, 1) := by decide +kernel
theorem dX0_goOn_131 : decode cX0_goOn 131 = .ok (.iload_n 3, 1) := by decide +kernel
theorem dX0_goOn_132 : decode cX0_goOn 132 = .ok (.iload 5, 2) := by decide +kernel
theorem dX0_goOn_134 : decode cX0_goOn 134 = .ok (.if_icmp .ne 14, 3) := by decide +kernel
theorem dX0_goOn_137 : decode cX0_goOn 137 = .ok (.iload 4, 2) := by decide +kernel
theorem dX0_goOn_139 : decode cX0_goOn 139 = .ok (.iload 6, 2) := by decide +kernel
theorem dX0_goOn_141 : decode cX0_goOn 141 = .ok (.if_icmp .ne 7, 3) := by decide +kernel
end
section
set_option maxRecDepth 100000
theorem dX0_goOn_144 : decode cX0_goOn 144 = .ok (.iconst 1, 1) := by decide +kernel
theorem dX0_goOn_145 : decode cX0_goOn 145 = .ok (.goto 4, 3) := by decide +kernel
theorem dX0_goOn_148 : decode cX0_goOn 148 = .ok (.iload_n 2, 1) := by decide +kernel
theorem dX0_goOn_149 : decode cX0_goOn 149 = .ok (.ireturn, 1) := by decide +kernel
theorem dX0_goOn_150 : decode cX0_goOn 150 = .ok (.iload_n 3, 1) := by decide +kernel
theorem dX0_goOn_151 : decode cX0_goOn 151 = .ok (.iconst 4, 1) := by decide +kernel
theorem dX0_goOn_152 : decode cX0_goOn 152 = .ok (.if_icmp .eq 5, 3) := by decide +kernel
theorem dX0_goOn_155 : decode cX0_goOn 155 = .ok (.iload_n 2, 1) := by decide +kernel
theorem dX0_goOn_156 : decode cX0_goOn 156 = .ok (.ireturn, 1) := by decide +kernel
theorem dX0_goOn_157 : decode cX0_goOn 157 = .ok (.iload 4, 2) := by decide +kernel
theorem dX0_goOn_159 : decode cX0_goOn 159 = .ok (.iload 5, 2) := by decide +kernel
theorem dX0_goOn_161 : decode cX0_goOn 161 = .ok (.if_icmp .lt 7, 3) := by decide +kernel
theorem dX0_goOn_164 : decode cX0_goOn 164 = .ok (.iconst 1, 1) := by decide +kernel
theorem dX0_goOn_165 : decode cX0_goOn 165 = .ok (.goto 4, 3) := by decide +kernel
theorem dX0_goOn_168 : decode cX0_goOn 168 = .ok (.iconst 2, 1) := by decide +kernel
theorem dX0_goOn_169 : decode cX0_goOn 169 = .ok (.ireturn, 1) := by decide +kernel
theorem dX0_goOn_170 : decode cX0_goOn 170 = .ok (.iconst 0, 1) := by decide +kernel
theorem dX0_goOn_171 : decode cX0_goOn 171 = .ok (.ireturn, 1) := by decide +kernel
theorem dX0_goOn_172 : decode cX0_goOn 172 = .ok (.iload_n 2, 1) := by decide +kernel
theorem dX0_goOn_173 : decode cX0_goOn 173 = .ok (.iload 5, 2) := by decide +kernel
theorem dX0_goOn_175 : decode cX0_goOn 175 = .ok (.if_icmp .ge 9, 3) := by decide +kernel
theorem dX0_goOn_178 : decode cX0_goOn 178 = .ok (.iload_n 2, 1) := by decide +kernel
theorem dX0_goOn_179 : decode cX0_goOn 179 = .ok (.iconst 1, 1) := by decide +kernel
theorem dX0_goOn_180 : decode cX0_goOn 180 = .ok (.iadd, 1) := by decide +kernel
theorem dX0_goOn_181 : decode cX0_goOn 181 = .ok (.goto 4, 3) := by decide +kernel
theorem dX0_goOn_184 : decode cX0_goOn 184 = .ok (.iload_n 2, 1) := by decide +kernel
theorem dX0_goOn_185 : decode cX0_goOn 185 = .ok (.ireturn, 1) := by decide +kernel
theorem dX0_goOn_186 : decode cX0_goOn 186 = .ok (.iload_n 3, 1) := by decide +kernel
theorem dX0_goOn_187 : decode cX0_goOn 187 = .ok (.iload 4, 2) := by decide +kernel
theorem dX0_goOn_189 : decode cX0_goOn 189 = .ok (.if_icmp .ge 7, 3) := by decide +kernel
theorem dX0_goOn_192 : decode cX0_goOn 192 = .ok (.iconst 1, 1) := by decide +kernel
theorem dX0_goOn_193 : decode cX0_goOn 193 = .ok (.goto 4, 3) := by decide +kernel
theorem dX0_goOn_196 : decode cX0_goOn 196 = .ok (.iload_n 2, 1) := by decide +kernel
theorem dX0_goOn_197 : decode cX0_goOn 197 = .ok (.ireturn, 1) := by decide +kernel
theorem dX0_goOn_198 : decode cX0_goOn 198 = .ok (.iload 4, 2) := by decide +kernel
theorem dX0_goOn_200 : decode cX0_goOn 200 = .ok (.iload 5, 2) := by decide +kernel
theorem dX0_goOn_202 : decode cX0_goOn 202 = .ok (.if_icmp .ne 9, 3) := by decide +kernel
theorem dX0_goOn_205 : decode cX0_goOn 205 = .ok (.iload_n 2, 1) := by decide +kernel
theorem dX0_goOn_206 : decode cX0_goOn 206 = .ok (.iconst 1, 1) := by decide +kernel
theorem dX0_goOn_207 : decode cX0_goOn 207 = .ok (.ixor, 1) := by decide +kernel
theorem dX0_goOn_208 : decode cX0_goOn 208 = .ok (.goto 4, 3) := by decide +kernel
theorem dX0_goOn_211 : decode cX0_goOn 211 = .ok (.iload_n 2, 1) := by decide +kernel
theorem dX0_goOn_212 : decode cX0_goOn 212 = .ok (.ireturn, 1) := by decide +kernel
abbrev cX0_failing : ByteArray := prog_1_method_18_code
def yX0_failing : MethodName := ⟨RX0, "failing", "()I"⟩
theorem dX0_failing_0 : decode cX0_failing 0 = .ok (.aload_n 0, 1) := by decide +kernel
theorem dX0_failing_1 : decode cX0_failing 1 = .ok (.invokevirtual 65, 3) := by decide +kernel
theorem dX0_failing_4 : decode cX0_failing 4 = .ok (.ireturn, 1) := by decide +kernel
abbrev cX0_failingOf : ByteArray := prog_1_method_19_code
def yX0_failingOf : MethodName := ⟨RX0, "failingOf", "(I)I"⟩
theorem dX0_failingOf_0 : decode cX0_failingOf 0 = .ok (.iload_n 1, 1) := by decide +kernel
theorem dX0_failingOf_1 : decode cX0_failingOf 1 = .ok (.ifCond .lt 9, 3) := by decide +kernel
theorem dX0_failingOf_4 : decode cX0_failingOf 4 = .ok (.iload_n 1, 1) := by decide +kernel
theorem dX0_failingOf_5 : decode cX0_failingOf 5 = .ok (.bipush 6, 2) := by decide +kernel
theorem dX0_failingOf_7 : decode cX0_failingOf 7 = .ok (.if_icmp .le 5, 3) := by decide +kernel
theorem dX0_failingOf_10 : decode cX0_failingOf 10 = .ok (.iconst 0, 1) := by decide +kernel
theorem dX0_failingOf_11 : decode cX0_failingOf 11 = .ok (.ireturn, 1) := by decide +kernel
theorem dX0_failingOf_12 : decode cX0_failingOf 12 = .ok (.aload_n 0, 1) := by decide +kernel
theorem dX0_failingOf_13 : decode cX0_failingOf 13 = .ok (.invokevirtual 62, 3) := by decide +kernel
theorem dX0_failingOf_16 : decode cX0_failingOf 16 = .ok (.aload_n 0, 1) := by decide +kernel
theorem dX0_failingOf_17 : decode cX0_failingOf 17 = .ok (.getfield 25, 3) := by decide +kernel
theorem dX0_failingOf_20 : decode cX0_failingOf 20 = .ok (.iload_n 1, 1) := by decide +kernel
theorem dX0_failingOf_21 : decode cX0_failingOf 21 = .ok (.sipush 320, 3) := by decide +kernel
theorem dX0_failingOf_24 : decode cX0_failingOf 24 = .ok (.imul, 1) := by decide +kernel
theorem dX0_failingOf_25 : decode cX0_failingOf 25 = .ok (.sipush 256, 3) := by decide +kernel
theorem dX0_failingOf_28 : decode cX0_failingOf 28 = .ok (.iadd, 1) := by decide +kernel
theorem dX0_failingOf_29 : decode cX0_failingOf 29 = .ok (.iaload, 1) := by decide +kernel
theorem dX0_failingOf_30 : decode cX0_failingOf 30 = .ok (.ireturn, 1) := by decide +kernel
abbrev cX0_fails : ByteArray := prog_1_method_20_code
def yX0_fails : MethodName := ⟨RX0, "fails", "()Z"⟩
theorem dX0_fails_0 : decode cX0_fails 0 = .ok (.aload_n 0, 1) := by decide +kernel
theorem dX0_fails_1 : decode cX0_fails 1 = .ok (.aload_n 0, 1) := by decide +kernel
theorem dX0_fails_2 : decode cX0_fails 2 = .ok (.getfield 72, 3) := by decide +kernel
theorem dX0_fails_5 : decode cX0_fails 5 = .ok (.invokevirtual 78, 3) := by decide +kernel
theorem dX0_fails_8 : decode cX0_fails 8 = .ok (.istore_n 1, 1) := by decide +kernel
theorem dX0_fails_9 : decode cX0_fails 9 = .ok (.aload_n 0, 1) := by decide +kernel
theorem dX0_fails_10 : decode cX0_fails 10 = .ok (.iload_n 1, 1) := by decide +kernel
theorem dX0_fails_11 : decode cX0_fails 11 = .ok (.invokevirtual 50, 3) := by decide +kernel
theorem dX0_fails_14 : decode cX0_fails 14 = .ok (.ireturn, 1) := by decide +kernel
abbrev cX0_stageState : ByteArray := prog_1_method_12_code
def yX0_stageState : MethodName := ⟨RX0, "stageState", "(I)I"⟩
theorem dX0_stageState_0 : decode cX0_stageState 0 = .ok (.sipush 256, 3) := by decide +kernel
theorem dX0_stageState_3 : decode cX0_stageState 3 = .ok (.istore_n 2, 1) := by decide +kernel
theorem dX0_stageState_4 : decode cX0_stageState 4 = .ok (.iconst 0, 1) := by decide +kernel
theorem dX0_stageState_5 : decode cX0_stageState 5 = .ok (.istore_n 3, 1) := by decide +kernel
theorem dX0_stageState_6 : decode cX0_stageState 6 = .ok (.iload_n 3, 1) := by decide +kernel
theorem dX0_stageState_7 : decode cX0_stageState 7 = .ok (.iload_n 1, 1) := by decide +kernel
theorem dX0_stageState_8 : decode cX0_stageState 8 = .ok (.if_icmp .ge 21, 3) := by decide +kernel
theorem dX0_stageState_11 : decode cX0_stageState 11 = .ok (.aload_n 0, 1) := by decide +kernel
theorem dX0_stageState_12 : decode cX0_stageState 12 = .ok (.iload_n 2, 1) := by decide +kernel
theorem dX0_stageState_13 : decode cX0_stageState 13 = .ok (.aload_n 0, 1) := by decide +kernel
theorem dX0_stageState_14 : decode cX0_stageState 14 = .ok (.getfield 19, 3) := by decide +kernel
theorem dX0_stageState_17 : decode cX0_stageState 17 = .ok (.iload_n 3, 1) := by decide +kernel
theorem dX0_stageState_18 : decode cX0_stageState 18 = .ok (.iaload, 1) := by decide +kernel
theorem dX0_stageState_19 : decode cX0_stageState 19 = .ok (.invokevirtual 58, 3) := by decide +kernel
theorem dX0_stageState_22 : decode cX0_stageState 22 = .ok (.istore_n 2, 1) := by decide +kernel
theorem dX0_stageState_23 : decode cX0_stageState 23 = .ok (.iinc 3 1, 3) := by decide +kernel
theorem dX0_stageState_26 : decode cX0_stageState 26 = .ok (.goto (-20), 3) := by decide +kernel
theorem dX0_stageState_29 : decode cX0_stageState 29 = .ok (.iload_n 2, 1) := by decide +kernel
theorem dX0_stageState_30 : decode cX0_stageState 30 = .ok (.ireturn, 1) := by decide +kernel
abbrev cX0_rank : ByteArray := prog_1_method_21_code
def yX0_rank : MethodName := ⟨RX0, "rank", "()I"⟩
theorem dX0_rank_0 : decode cX0_rank 0 = .ok (.aload_n 0, 1) := by decide +kernel
theorem dX0_rank_1 : decode cX0_rank 1 = .ok (.invokevirtual 62, 3) := by decide +kernel
theorem dX0_rank_4 : decode cX0_rank 4 = .ok (.iconst 0, 1) := by decide +kernel
theorem dX0_rank_5 : decode cX0_rank 5 = .ok (.istore_n 1, 1) := by decide +kernel
theorem dX0_rank_6 : decode cX0_rank 6 = .ok (.iconst 0, 1) := by decide +kernel
theorem dX0_rank_7 : decode cX0_rank 7 = .ok (.istore_n 2, 1) := by decide +kernel
theorem dX0_rank_8 : decode cX0_rank 8 = .ok (.iload_n 2, 1) := by decide +kernel
theorem dX0_rank_9 : decode cX0_rank 9 = .ok (.aload_n 0, 1) := by decide +kernel
theorem dX0_rank_10 : decode cX0_rank 10 = .ok (.getfield 72, 3) := by decide +kernel
theorem dX0_rank_13 : decode cX0_rank 13 = .ok (.if_icmp .ge 26, 3) := by decide +kernel
theorem dX0_rank_16 : decode cX0_rank 16 = .ok (.iload_n 1, 1) := by decide +kernel
theorem dX0_rank_17 : decode cX0_rank 17 = .ok (.aload_n 0, 1) := by decide +kernel
theorem dX0_rank_18 : decode cX0_rank 18 = .ok (.getfield 25, 3) := by decide +kernel
theorem dX0_rank_21 : decode cX0_rank 21 = .ok (.iload_n 2, 1) := by decide +kernel
theorem dX0_rank_22 : decode cX0_rank 22 = .ok (.sipush 320, 3) := by decide +kernel
theorem dX0_rank_25 : decode cX0_rank 25 = .ok (.imul, 1) := by decide +kernel
theorem dX0_rank_26 : decode cX0_rank 26 = .ok (.sipush 256, 3) := by decide +kernel
theorem dX0_rank_29 : decode cX0_rank 29 = .ok (.iadd, 1) := by decide +kernel
theorem dX0_rank_30 : decode cX0_rank 30 = .ok (.iaload, 1) := by decide +kernel
theorem dX0_rank_31 : decode cX0_rank 31 = .ok (.iadd, 1) := by decide +kernel
theorem dX0_rank_32 : decode cX0_rank 32 = .ok (.istore_n 1, 1) := by decide +kernel
theorem dX0_rank_33 : decode cX0_rank 33 = .ok (.iinc 2 1, 3) := by decide +kernel
theorem dX0_rank_36 : decode cX0_rank 36 = .ok (.goto (-28), 3) := by decide +kernel
theorem dX0_rank_39 : decode cX0_rank 39 = .ok (.sipush 256, 3) := by decide +kernel
theorem dX0_rank_42 : decode cX0_rank 42 = .ok (.istore_n 2, 1) := by decide +kernel
theorem dX0_rank_43 : decode cX0_rank 43 = .ok (.iconst 0, 1) := by decide +kernel
theorem dX0_rank_44 : decode cX0_rank 44 = .ok (.istore_n 3, 1) := by decide +kernel
theorem dX0_rank_45 : decode cX0_rank 45 = .ok (.iload_n 3, 1) := by decide +kernel
theorem dX0_rank_46 : decode cX0_rank 46 = .ok (.aload_n 0, 1) := by decide +kernel
theorem dX0_rank_47 : decode cX0_rank 47 = .ok (.getfield 72, 3) := by decide +kernel
theorem dX0_rank_50 : decode cX0_rank 50 = .ok (.if_icmp .ge 43, 3) := by decide +kernel
theorem dX0_rank_53 : decode cX0_rank 53 = .ok (.iload_n 1, 1) := by decide +kernel
theorem dX0_rank_54 : decode cX0_rank 54 = .ok (.aload_n 0, 1) := by decide +kernel
theorem dX0_rank_55 : decode cX0_rank 55 = .ok (.aload_n 0, 1) := by decide +kernel
theorem dX0_rank_56 : decode cX0_rank 56 = .ok (.getfield 72, 3) := by decide +kernel
theorem dX0_rank_59 : decode cX0_rank 59 = .ok (.iload_n 3, 1) := by decide +kernel
theorem dX0_rank_60 : decode cX0_rank 60 = .ok (.isub, 1) := by decide +kernel
theorem dX0_rank_61 : decode cX0_rank 61 = .ok (.iconst 1, 1) := by decide +kernel
theorem dX0_rank_62 : decode cX0_rank 62 = .ok (.isub, 1) := by decide +kernel
theorem dX0_rank_63 : decode cX0_rank 63 = .ok (.iload_n 2, 1) := by decide +kernel
theorem dX0_rank_64 : decode cX0_rank 64 = .ok (.aload_n 0, 1) := by decide +kernel
theorem dX0_rank_65 : decode cX0_rank 65 = .ok (.getfield 19, 3) := by decide +kernel
theorem dX0_rank_68 : decode cX0_rank 68 = .ok (.iload_n 3, 1) := by decide +kernel
theorem dX0_rank_69 : decode cX0_rank 69 = .ok (.iaload, 1) := by decide +kernel
theorem dX0_rank_70 : decode cX0_rank 70 = .ok (.invokevirtual 54, 3) := by decide +kernel
theorem dX0_rank_73 : decode cX0_rank 73 = .ok (.iadd, 1) := by decide +kernel
theorem dX0_rank_74 : decode cX0_rank 74 = .ok (.istore_n 1, 1) := by decide +kernel
theorem dX0_rank_75 : decode cX0_rank 75 = .ok (.aload_n 0, 1) := by decide +kernel
theorem dX0_rank_76 : decode cX0_rank 76 = .ok (.iload_n 2, 1) := by decide +kernel
theorem dX0_rank_77 : decode cX0_rank 77 = .ok (.aload_n 0, 1) := by decide +kernel
theorem dX0_rank_78 : decode cX0_rank 78 = .ok (.getfield 19, 3) := by decide +kernel
theorem dX0_rank_81 : decode cX0_rank 81 = .ok (.iload_n 3, 1) := by decide +kernel
theorem dX0_rank_82 : decode cX0_rank 82 = .ok (.iaload, 1) := by decide +kernel
theorem dX0_rank_83 : decode cX0_rank 83 = .ok (.invokevirtual 58, 3) := by decide +kernel
theorem dX0_rank_86 : decode cX0_rank 86 = .ok (.istore_n 2, 1) := by decide +kernel
theorem dX0_rank_87 : decode cX0_rank 87 = .ok (.iinc 3 1, 3) := by decide +kernel
theorem dX0_rank_90 : decode cX0_rank 90 = .ok (.goto (-45), 3) := by decide +kernel
theorem dX0_rank_93 : decode cX0_rank 93 = .ok (.iload_n 1, 1) := by decide +kernel
theorem dX0_rank_94 : decode cX0_rank 94 = .ok (.ireturn, 1) := by decide +kernel
abbrev cX0_extending : ByteArray := prog_1_method_22_code
def yX0_extending : MethodName := ⟨RX0, "extending", "()I"⟩
theorem dX0_extending_0 : decode cX0_extending 0 = .ok (.aload_n 0, 1) := by decide +kernel
theorem dX0_extending_1 : decode cX0_extending 1 = .ok (.invokevirtual 62, 3) := by decide +kernel
theorem dX0_extending_4 : decode cX0_extending 4 = .ok (.aload_n 0, 1) := by decide +kernel
theorem dX0_extending_5 : decode cX0_extending 5 = .ok (.aload_n 0, 1) := by decide +kernel
theorem dX0_extending_6 : decode cX0_extending 6 = .ok (.getfield 72, 3) := by decide +kernel
theorem dX0_extending_9 : decode cX0_extending 9 = .ok (.invokevirtual 78, 3) := by decide +kernel
theorem dX0_extending_12 : decode cX0_extending 12 = .ok (.istore_n 1, 1) := by decide +kernel
theorem dX0_extending_13 : decode cX0_extending 13 = .ok (.iconst 0, 1) := by decide +kernel
theorem dX0_extending_14 : decode cX0_extending 14 = .ok (.istore_n 2, 1) := by decide +kernel
theorem dX0_extending_15 : decode cX0_extending 15 = .ok (.iconst 0, 1) := by decide +kernel
theorem dX0_extending_16 : decode cX0_extending 16 = .ok (.istore_n 3, 1) := by decide +kernel
theorem dX0_extending_17 : decode cX0_extending 17 = .ok (.iload_n 3, 1) := by decide +kernel
theorem dX0_extending_18 : decode cX0_extending 18 = .ok (.bipush 6, 2) := by decide +kernel
theorem dX0_extending_20 : decode cX0_extending 20 = .ok (.aload_n 0, 1) := by decide +kernel
theorem dX0_extending_21 : decode cX0_extending 21 = .ok (.getfield 72, 3) := by decide +kernel
theorem dX0_extending_24 : decode cX0_extending 24 = .ok (.isub, 1) := by decide +kernel
theorem dX0_extending_25 : decode cX0_extending 25 = .ok (.if_icmp .gt 24, 3) := by decide +kernel
theorem dX0_extending_28 : decode cX0_extending 28 = .ok (.iload_n 2, 1) := by decide +kernel
theorem dX0_extending_29 : decode cX0_extending 29 = .ok (.aload_n 0, 1) := by decide +kernel
theorem dX0_extending_30 : decode cX0_extending 30 = .ok (.getfield 25, 3) := by decide +kernel
theorem dX0_extending_33 : decode cX0_extending 33 = .ok (.iload_n 3, 1) := by decide +kernel
theorem dX0_extending_34 : decode cX0_extending 34 = .ok (.sipush 320, 3) := by decide +kernel
theorem dX0_extending_37 : decode cX0_extending 37 = .ok (.imul, 1) := by decide +kernel
theorem dX0_extending_38 : decode cX0_extending 38 = .ok (.iload_n 1, 1) := by decide +kernel
theorem dX0_extending_39 : decode cX0_extending 39 = .ok (.iadd, 1) := by decide +kernel
theorem dX0_extending_40 : decode cX0_extending 40 = .ok (.iaload, 1) := by decide +kernel
theorem dX0_extending_41 : decode cX0_extending 41 = .ok (.iadd, 1) := by decide +kernel
theorem dX0_extending_42 : decode cX0_extending 42 = .ok (.istore_n 2, 1) := by decide +kernel
theorem dX0_extending_43 : decode cX0_extending 43 = .ok (.iinc 3 1, 3) := by decide +kernel
theorem dX0_extending_46 : decode cX0_extending 46 = .ok (.goto (-29), 3) := by decide +kernel
theorem dX0_extending_49 : decode cX0_extending 49 = .ok (.iload_n 2, 1) := by decide +kernel
theorem dX0_extending_50 : decode cX0_extending 50 = .ok (.ireturn, 1) := by decide +kernel
abbrev cX0_leastLength : ByteArray := prog_1_method_23_code
def yX0_leastLength : MethodName := ⟨RX0, "leastLength", "()I"⟩
theorem dX0_leastLength_0 : decode cX0_leastLength 0 = .ok (.aload_n 0, 1) := by decide +kernel
theorem dX0_leastLength_1 : decode cX0_leastLength 1 = .ok (.iconst 0, 1) := by decide +kernel
theorem dX0_leastLength_2 : decode cX0_leastLength 2 = .ok (.invokevirtual 75, 3) := by decide +kernel
theorem dX0_leastLength_5 : decode cX0_leastLength 5 = .ok (.istore_n 1, 1) := by decide +kernel
theorem dX0_leastLength_6 : decode cX0_leastLength 6 = .ok (.iload_n 1, 1) := by decide +kernel
theorem dX0_leastLength_7 : decode cX0_leastLength 7 = .ok (.ifCond .eq 10, 3) := by decide +kernel
theorem dX0_leastLength_10 : decode cX0_leastLength 10 = .ok (.aload_n 0, 1) := by decide +kernel
theorem dX0_leastLength_11 : decode cX0_leastLength 11 = .ok (.getfield 69, 3) := by decide +kernel
theorem dX0_leastLength_14 : decode cX0_leastLength 14 = .ok (.goto 5, 3) := by decide +kernel
theorem dX0_leastLength_17 : decode cX0_leastLength 17 = .ok (.bipush (-4), 2) := by decide +kernel
theorem dX0_leastLength_19 : decode cX0_leastLength 19 = .ok (.ireturn, 1) := by decide +kernel
abbrev cX0_least : ByteArray := prog_1_method_24_code
def yX0_least : MethodName := ⟨RX0, "least", "(I)I"⟩
theorem dX0_least_0 : decode cX0_least 0 = .ok (.aload_n 0, 1) := by decide +kernel
theorem dX0_least_1 : decode cX0_least 1 = .ok (.iconst 0, 1) := by decide +kernel
theorem dX0_least_2 : decode cX0_least 2 = .ok (.invokevirtual 75, 3) := by decide +kernel
theorem dX0_least_5 : decode cX0_least 5 = .ok (.istore_n 2, 1) := by decide +kernel
theorem dX0_least_6 : decode cX0_least 6 = .ok (.iload_n 2, 1) := by decide +kernel
theorem dX0_least_7 : decode cX0_least 7 = .ok (.ifCond .eq 15, 3) := by decide +kernel
theorem dX0_least_10 : decode cX0_least 10 = .ok (.iload_n 1, 1) := by decide +kernel
theorem dX0_least_11 : decode cX0_least 11 = .ok (.ifCond .lt 11, 3) := by decide +kernel
theorem dX0_least_14 : decode cX0_least 14 = .ok (.iload_n 1, 1) := by decide +kernel
theorem dX0_least_15 : decode cX0_least 15 = .ok (.aload_n 0, 1) := by decide +kernel
theorem dX0_least_16 : decode cX0_least 16 = .ok (.getfield 69, 3) := by decide +kernel
theorem dX0_least_19 : decode cX0_least 19 = .ok (.if_icmp .lt 6, 3) := by decide +kernel
theorem dX0_least_22 : decode cX0_least 22 = .ok (.bipush (-4), 2) := by decide +kernel
theorem dX0_least_24 : decode cX0_least 24 = .ok (.ireturn, 1) := by decide +kernel
theorem dX0_least_25 : decode cX0_least 25 = .ok (.aload_n 0, 1) := by decide +kernel
theorem dX0_least_26 : decode cX0_least 26 = .ok (.getfield 22, 3) := by decide +kernel
theorem dX0_least_29 : decode cX0_least 29 = .ok (.iload_n 1, 1) := by decide +kernel
theorem dX0_least_30 : decode cX0_least 30 = .ok (.iaload, 1) := by decide +kernel
theorem dX0_least_31 : decode cX0_least 31 = .ok (.ireturn, 1) := by decide +kernel
abbrev cX0_element : ByteArray := prog_1_method_25_code
def yX0_element : MethodName := ⟨RX0, "element", "(I)I"⟩
theorem dX0_element_0 : decode cX0_element 0 = .ok (.iload_n 1, 1) := by decide +kernel
theorem dX0_element_1 : decode cX0_element 1 = .ok (.ifCond .lt 11, 3) := by decide +kernel
theorem dX0_element_4 : decode cX0_element 4 = .ok (.iload_n 1, 1) := by decide +kernel
theorem dX0_element_5 : decode cX0_element 5 = .ok (.aload_n 0, 1) := by decide +kernel
theorem dX0_element_6 : decode cX0_element 6 = .ok (.getfield 72, 3) := by decide +kernel
theorem dX0_element_9 : decode cX0_element 9 = .ok (.if_icmp .lt 8, 3) := by decide +kernel
theorem dX0_element_12 : decode cX0_element 12 = .ok (.bipush (-4), 2) := by decide +kernel
theorem dX0_element_14 : decode cX0_element 14 = .ok (.goto 9, 3) := by decide +kernel
theorem dX0_element_17 : decode cX0_element 17 = .ok (.aload_n 0, 1) := by decide +kernel
theorem dX0_element_18 : decode cX0_element 18 = .ok (.getfield 19, 3) := by decide +kernel
theorem dX0_element_21 : decode cX0_element 21 = .ok (.iload_n 1, 1) := by decide +kernel
theorem dX0_element_22 : decode cX0_element 22 = .ok (.iaload, 1) := by decide +kernel
theorem dX0_element_23 : decode cX0_element 23 = .ok (.ireturn, 1) := by decide +kernel
theorem q25 : (Jvm.Cond.initialized "ShrinkRanker") ∈ lw_all := lw_g (lw_at lw_m1 1 rfl) rfl
theorem q28 : (Jvm.Cond.instantiable "ShrinkRanker" (10 : Nat)) ∈ lw_all := lw_g (lw_at lw_m1 4 rfl) rfl
theorem q30 : (Jvm.Cond.instanceMethod ({ cls := "ShrinkRanker", name := "<init>", desc := "()V" } : Jvm.MethodName)) ∈ lw_all := lw_g (lw_at lw_m1 6 rfl) rfl
theorem q31 : (Jvm.Cond.code ({ cls := "ShrinkRanker", name := "<init>", desc := "()V" } : Jvm.MethodName) prog_1_method_1_code (1 : Nat) (Option.none : Option Jvm.ClassFile.FieldType)) ∈ lw_all := lw_g (lw_at lw_m1 7 rfl) rfl
theorem q32 : (Jvm.Cond.methodLink "ShrinkRanker" (1 : Nat) ({ cls := "java/lang/Object", name := "<init>", desc := "()V" } : Jvm.MethodName)) ∈ lw_all := lw_g (lw_at lw_m1 8 rfl) rfl
theorem q35 : (Jvm.Cond.fieldLink "ShrinkRanker" (39 : Nat) "ShrinkRanker" "conditions" "I") ∈ lw_all := lw_g (lw_at lw_m1 11 rfl) rfl
theorem q36 : (Jvm.Cond.fieldLink "ShrinkRanker" (7 : Nat) "ShrinkRanker" "kinds" "[I") ∈ lw_all := lw_g (lw_at lw_m1 12 rfl) rfl
theorem q37 : (Jvm.Cond.fieldLink "ShrinkRanker" (13 : Nat) "ShrinkRanker" "numA" "[I") ∈ lw_all := lw_g (lw_at lw_m1 13 rfl) rfl
theorem q38 : (Jvm.Cond.fieldLink "ShrinkRanker" (16 : Nat) "ShrinkRanker" "numB" "[I") ∈ lw_all := lw_g (lw_at lw_m1 14 rfl) rfl
theorem q39 : (Jvm.Cond.fieldLink "ShrinkRanker" (72 : Nat) "ShrinkRanker" "staged" "I") ∈ lw_all := lw_g (lw_at lw_m1 15 rfl) rfl
theorem q40 : (Jvm.Cond.fieldLink "ShrinkRanker" (19 : Nat) "ShrinkRanker" "stage" "[I") ∈ lw_all := lw_g (lw_at lw_m1 16 rfl) rfl
theorem q41 : (Jvm.Cond.fieldLink "ShrinkRanker" (69 : Nat) "ShrinkRanker" "foundLength" "I") ∈ lw_all := lw_g (lw_at lw_m1 17 rfl) rfl
theorem q42 : (Jvm.Cond.fieldLink "ShrinkRanker" (22 : Nat) "ShrinkRanker" "found" "[I") ∈ lw_all := lw_g (lw_at lw_m1 18 rfl) rfl
theorem q43 : (Jvm.Cond.fieldLink "ShrinkRanker" (28 : Nat) "ShrinkRanker" "ready" "Z") ∈ lw_all := lw_g (lw_at lw_m1 19 rfl) rfl
theorem q44 : (Jvm.Cond.fieldLink "ShrinkRanker" (25 : Nat) "ShrinkRanker" "ways" "[I") ∈ lw_all := lw_g (lw_at lw_m1 20 rfl) rfl
theorem q45 : (Jvm.Cond.lays "ShrinkRanker" "ShrinkRanker" "conditions" "I") ∈ lw_all := lw_g (lw_at lw_m1 21 rfl) rfl
theorem q46 : (Jvm.Cond.soleField "ShrinkRanker" "conditions") ∈ lw_all := lw_g (lw_at lw_m1 22 rfl) rfl
theorem q47 : (Jvm.Cond.laysFinal "ShrinkRanker" "ShrinkRanker" "kinds" "[I") ∈ lw_all := lw_g (lw_at lw_m1 23 rfl) rfl
theorem q48 : (Jvm.Cond.soleField "ShrinkRanker" "kinds") ∈ lw_all := lw_g (lw_at lw_m1 24 rfl) rfl
theorem q49 : (Jvm.Cond.laysFinal "ShrinkRanker" "ShrinkRanker" "numA" "[I") ∈ lw_all := lw_g (lw_at lw_m1 25 rfl) rfl
theorem q50 : (Jvm.Cond.soleField "ShrinkRanker" "numA") ∈ lw_all := lw_g (lw_at lw_m1 26 rfl) rfl
theorem q51 : (Jvm.Cond.laysFinal "ShrinkRanker" "ShrinkRanker" "numB" "[I") ∈ lw_all := lw_g (lw_at lw_m1 27 rfl) rfl
theorem q52 : (Jvm.Cond.soleField "ShrinkRanker" "numB") ∈ lw_all := lw_g (lw_at lw_m1 28 rfl) rfl
theorem q53 : (Jvm.Cond.lays "ShrinkRanker" "ShrinkRanker" "staged" "I") ∈ lw_all := lw_g (lw_at lw_m1 29 rfl) rfl
theorem q54 : (Jvm.Cond.soleField "ShrinkRanker" "staged") ∈ lw_all := lw_g (lw_at lw_m1 30 rfl) rfl
theorem q55 : (Jvm.Cond.laysFinal "ShrinkRanker" "ShrinkRanker" "stage" "[I") ∈ lw_all := lw_g (lw_at lw_m1 31 rfl) rfl
theorem q56 : (Jvm.Cond.soleField "ShrinkRanker" "stage") ∈ lw_all := lw_g (lw_at lw_m1 32 rfl) rfl
theorem q57 : (Jvm.Cond.lays "ShrinkRanker" "ShrinkRanker" "foundLength" "I") ∈ lw_all := lw_g (lw_at lw_m1 33 rfl) rfl
theorem q58 : (Jvm.Cond.soleField "ShrinkRanker" "foundLength") ∈ lw_all := lw_g (lw_at lw_m1 34 rfl) rfl
theorem q59 : (Jvm.Cond.laysFinal "ShrinkRanker" "ShrinkRanker" "found" "[I") ∈ lw_all := lw_g (lw_at lw_m1 35 rfl) rfl
theorem q60 : (Jvm.Cond.soleField "ShrinkRanker" "found") ∈ lw_all := lw_g (lw_at lw_m1 36 rfl) rfl
theorem q61 : (Jvm.Cond.lays "ShrinkRanker" "ShrinkRanker" "ready" "Z") ∈ lw_all := lw_g (lw_at lw_m1 37 rfl) rfl
theorem q62 : (Jvm.Cond.soleField "ShrinkRanker" "ready") ∈ lw_all := lw_g (lw_at lw_m1 38 rfl) rfl
theorem q63 : (Jvm.Cond.laysFinal "ShrinkRanker" "ShrinkRanker" "ways" "[I") ∈ lw_all := lw_g (lw_at lw_m1 39 rfl) rfl
theorem q64 : (Jvm.Cond.soleField "ShrinkRanker" "ways") ∈ lw_all := lw_g (lw_at lw_m1 40 rfl) rfl
theorem q65 : (Jvm.Cond.superclass "ShrinkRanker" "java/lang/Object") ∈ lw_all := lw_g (lw_at lw_m1 41 rfl) rfl
theorem q68 : (Jvm.Cond.instanceMethod ({ cls := "ShrinkRanker", name := "condition", desc := "(III)I" } : Jvm.MethodName)) ∈ lw_all := lw_g (lw_at lw_m1 44 rfl) rfl
theorem q69 : (Jvm.Cond.selects "ShrinkRanker" ({ cls := "ShrinkRanker", name := "condition", desc := "(III)I" } : Jvm.MethodName) ({ cls := "ShrinkRanker", name := "condition", desc := "(III)I" } : Jvm.MethodName)) ∈ lw_all := lw_g (lw_at lw_m1 45 rfl) rfl
theorem q70 : (Jvm.Cond.code ({ cls := "ShrinkRanker", name := "condition", desc := "(III)I" } : Jvm.MethodName) prog_1_method_4_code (5 : Nat) (Option.some Jvm.ClassFile.FieldType.int)) ∈ lw_all := lw_g (lw_at lw_m1 46 rfl) rfl
theorem q71 : (Jvm.Cond.methodLink "ShrinkRanker" (36 : Nat) ({ cls := "ShrinkRanker", name := "goodNumbers", desc := "(III)Z" } : Jvm.MethodName)) ∈ lw_all := lw_g (lw_at lw_m1 47 rfl) rfl
theorem q72 : (Jvm.Cond.static ({ cls := "ShrinkRanker", name := "goodNumbers", desc := "(III)Z" } : Jvm.MethodName)) ∈ lw_all := lw_g (lw_at lw_m1 48 rfl) rfl
theorem q73 : (Jvm.Cond.code ({ cls := "ShrinkRanker", name := "goodNumbers", desc := "(III)Z" } : Jvm.MethodName) prog_1_method_3_code (3 : Nat) (Option.some Jvm.ClassFile.FieldType.boolean)) ∈ lw_all := lw_g (lw_at lw_m1 49 rfl) rfl
theorem q74 : (Jvm.Cond.methodLink "ShrinkRanker" (32 : Nat) ({ cls := "ShrinkRanker", name := "in", desc := "(III)Z" } : Jvm.MethodName)) ∈ lw_all := lw_g (lw_at lw_m1 50 rfl) rfl
theorem q75 : (Jvm.Cond.static ({ cls := "ShrinkRanker", name := "in", desc := "(III)Z" } : Jvm.MethodName)) ∈ lw_all := lw_g (lw_at lw_m1 51 rfl) rfl
theorem q76 : (Jvm.Cond.code ({ cls := "ShrinkRanker", name := "in", desc := "(III)Z" } : Jvm.MethodName) prog_1_method_2_code (3 : Nat) (Option.some Jvm.ClassFile.FieldType.boolean)) ∈ lw_all := lw_g (lw_at lw_m1 52 rfl) rfl
theorem q78 : (Jvm.Cond.instanceMethod ({ cls := "ShrinkRanker", name := "drop", desc := "()I" } : Jvm.MethodName)) ∈ lw_all := lw_g (lw_at lw_m1 54 rfl) rfl
theorem q79 : (Jvm.Cond.selects "ShrinkRanker" ({ cls := "ShrinkRanker", name := "drop", desc := "()I" } : Jvm.MethodName) ({ cls := "ShrinkRanker", name := "drop", desc := "()I" } : Jvm.MethodName)) ∈ lw_all := lw_g (lw_at lw_m1 55 rfl) rfl
theorem q80 : (Jvm.Cond.code ({ cls := "ShrinkRanker", name := "drop", desc := "()I" } : Jvm.MethodName) prog_1_method_5_code (1 : Nat) (Option.some Jvm.ClassFile.FieldType.int)) ∈ lw_all := lw_g (lw_at lw_m1 56 rfl) rfl
theorem q82 : (Jvm.Cond.instanceMethod ({ cls := "ShrinkRanker", name := "push", desc := "(I)I" } : Jvm.MethodName)) ∈ lw_all := lw_g (lw_at lw_m1 58 rfl) rfl
theorem q83 : (Jvm.Cond.selects "ShrinkRanker" ({ cls := "ShrinkRanker", name := "push", desc := "(I)I" } : Jvm.MethodName) ({ cls := "ShrinkRanker", name := "push", desc := "(I)I" } : Jvm.MethodName)) ∈ lw_all := lw_g (lw_at lw_m1 59 rfl) rfl
theorem q84 : (Jvm.Cond.code ({ cls := "ShrinkRanker", name := "push", desc := "(I)I" } : Jvm.MethodName) prog_1_method_15_code (2 : Nat) (Option.some Jvm.ClassFile.FieldType.int)) ∈ lw_all := lw_g (lw_at lw_m1 60 rfl) rfl
theorem q86 : (Jvm.Cond.instanceMethod ({ cls := "ShrinkRanker", name := "empty", desc := "()V" } : Jvm.MethodName)) ∈ lw_all := lw_g (lw_at lw_m1 62 rfl) rfl
theorem q87 : (Jvm.Cond.selects "ShrinkRanker" ({ cls := "ShrinkRanker", name := "empty", desc := "()V" } : Jvm.MethodName) ({ cls := "ShrinkRanker", name := "empty", desc := "()V" } : Jvm.MethodName)) ∈ lw_all := lw_g (lw_at lw_m1 63 rfl) rfl
theorem q88 : (Jvm.Cond.code ({ cls := "ShrinkRanker", name := "empty", desc := "()V" } : Jvm.MethodName) prog_1_method_16_code (1 : Nat) (Option.none : Option Jvm.ClassFile.FieldType)) ∈ lw_all := lw_g (lw_at lw_m1 64 rfl) rfl
theorem q90 : (Jvm.Cond.instanceMethod ({ cls := "ShrinkRanker", name := "load", desc := "(I)I" } : Jvm.MethodName)) ∈ lw_all := lw_g (lw_at lw_m1 66 rfl) rfl
theorem q91 : (Jvm.Cond.selects "ShrinkRanker" ({ cls := "ShrinkRanker", name := "load", desc := "(I)I" } : Jvm.MethodName) ({ cls := "ShrinkRanker", name := "load", desc := "(I)I" } : Jvm.MethodName)) ∈ lw_all := lw_g (lw_at lw_m1 67 rfl) rfl
theorem q92 : (Jvm.Cond.code ({ cls := "ShrinkRanker", name := "load", desc := "(I)I" } : Jvm.MethodName) prog_1_method_17_code (4 : Nat) (Option.some Jvm.ClassFile.FieldType.int)) ∈ lw_all := lw_g (lw_at lw_m1 68 rfl) rfl
theorem q93 : (Jvm.Cond.methodLink "ShrinkRanker" (75 : Nat) ({ cls := "ShrinkRanker", name := "find", desc := "(I)Z" } : Jvm.MethodName)) ∈ lw_all := lw_g (lw_at lw_m1 69 rfl) rfl
theorem q94 : (Jvm.Cond.privateMethod ({ cls := "ShrinkRanker", name := "find", desc := "(I)Z" } : Jvm.MethodName)) ∈ lw_tbl := lw_at lw_m1 70 rfl
theorem q95 : (Jvm.Cond.instanceMethod ({ cls := "ShrinkRanker", name := "find", desc := "(I)Z" } : Jvm.MethodName)) ∈ lw_all := lw_g (lw_at lw_m1 71 rfl) rfl
theorem q96 : (Jvm.Cond.code ({ cls := "ShrinkRanker", name := "find", desc := "(I)Z" } : Jvm.MethodName) prog_1_method_14_code (9 : Nat) (Option.some Jvm.ClassFile.FieldType.boolean)) ∈ lw_all := lw_g (lw_at lw_m1 72 rfl) rfl
theorem q97 : (Jvm.Cond.methodLink "ShrinkRanker" (65 : Nat) ({ cls := "ShrinkRanker", name := "total", desc := "()I" } : Jvm.MethodName)) ∈ lw_all := lw_g (lw_at lw_m1 73 rfl) rfl
theorem q98 : (Jvm.Cond.privateMethod ({ cls := "ShrinkRanker", name := "total", desc := "()I" } : Jvm.MethodName)) ∈ lw_tbl := lw_at lw_m1 74 rfl
theorem q99 : (Jvm.Cond.instanceMethod ({ cls := "ShrinkRanker", name := "total", desc := "()I" } : Jvm.MethodName)) ∈ lw_all := lw_g (lw_at lw_m1 75 rfl) rfl
theorem q100 : (Jvm.Cond.code ({ cls := "ShrinkRanker", name := "total", desc := "()I" } : Jvm.MethodName) prog_1_method_13_code (3 : Nat) (Option.some Jvm.ClassFile.FieldType.int)) ∈ lw_all := lw_g (lw_at lw_m1 76 rfl) rfl
theorem q101 : (Jvm.Cond.methodLink "ShrinkRanker" (62 : Nat) ({ cls := "ShrinkRanker", name := "prepare", desc := "()V" } : Jvm.MethodName)) ∈ lw_all := lw_g (lw_at lw_m1 77 rfl) rfl
theorem q102 : (Jvm.Cond.privateMethod ({ cls := "ShrinkRanker", name := "prepare", desc := "()V" } : Jvm.MethodName)) ∈ lw_tbl := lw_at lw_m1 78 rfl
theorem q103 : (Jvm.Cond.instanceMethod ({ cls := "ShrinkRanker", name := "prepare", desc := "()V" } : Jvm.MethodName)) ∈ lw_all := lw_g (lw_at lw_m1 79 rfl) rfl
theorem q104 : (Jvm.Cond.code ({ cls := "ShrinkRanker", name := "prepare", desc := "()V" } : Jvm.MethodName) prog_1_method_10_code (3 : Nat) (Option.none : Option Jvm.ClassFile.FieldType)) ∈ lw_all := lw_g (lw_at lw_m1 80 rfl) rfl
theorem q105 : (Jvm.Cond.methodLink "ShrinkRanker" (50 : Nat) ({ cls := "ShrinkRanker", name := "accepting", desc := "(I)Z" } : Jvm.MethodName)) ∈ lw_all := lw_g (lw_at lw_m1 81 rfl) rfl
theorem q106 : (Jvm.Cond.privateMethod ({ cls := "ShrinkRanker", name := "accepting", desc := "(I)Z" } : Jvm.MethodName)) ∈ lw_tbl := lw_at lw_m1 82 rfl
theorem q107 : (Jvm.Cond.instanceMethod ({ cls := "ShrinkRanker", name := "accepting", desc := "(I)Z" } : Jvm.MethodName)) ∈ lw_all := lw_g (lw_at lw_m1 83 rfl) rfl
theorem q108 : (Jvm.Cond.code ({ cls := "ShrinkRanker", name := "accepting", desc := "(I)Z" } : Jvm.MethodName) prog_1_method_9_code (4 : Nat) (Option.some Jvm.ClassFile.FieldType.boolean)) ∈ lw_all := lw_g (lw_at lw_m1 84 rfl) rfl
theorem q109 : (Jvm.Cond.methodLink "ShrinkRanker" (47 : Nat) ({ cls := "ShrinkRanker", name := "accepts", desc := "(III)Z" } : Jvm.MethodName)) ∈ lw_all := lw_g (lw_at lw_m1 85 rfl) rfl
theorem q110 : (Jvm.Cond.privateMethod ({ cls := "ShrinkRanker", name := "accepts", desc := "(III)Z" } : Jvm.MethodName)) ∈ lw_tbl := lw_at lw_m1 86 rfl
theorem q111 : (Jvm.Cond.instanceMethod ({ cls := "ShrinkRanker", name := "accepts", desc := "(III)Z" } : Jvm.MethodName)) ∈ lw_all := lw_g (lw_at lw_m1 87 rfl) rfl
theorem q112 : (Jvm.Cond.code ({ cls := "ShrinkRanker", name := "accepts", desc := "(III)Z" } : Jvm.MethodName) prog_1_method_7_code (6 : Nat) (Option.some Jvm.ClassFile.FieldType.boolean)) ∈ lw_all := lw_g (lw_at lw_m1 88 rfl) rfl
theorem q113 : (Jvm.Cond.methodLink "ShrinkRanker" (54 : Nat) ({ cls := "ShrinkRanker", name := "sumOver", desc := "(III)I" } : Jvm.MethodName)) ∈ lw_all := lw_g (lw_at lw_m1 89 rfl) rfl
theorem q114 : (Jvm.Cond.privateMethod ({ cls := "ShrinkRanker", name := "sumOver", desc := "(III)I" } : Jvm.MethodName)) ∈ lw_tbl := lw_at lw_m1 90 rfl
theorem q115 : (Jvm.Cond.instanceMethod ({ cls := "ShrinkRanker", name := "sumOver", desc := "(III)I" } : Jvm.MethodName)) ∈ lw_all := lw_g (lw_at lw_m1 91 rfl) rfl
theorem q116 : (Jvm.Cond.code ({ cls := "ShrinkRanker", name := "sumOver", desc := "(III)I" } : Jvm.MethodName) prog_1_method_11_code (7 : Nat) (Option.some Jvm.ClassFile.FieldType.int)) ∈ lw_all := lw_g (lw_at lw_m1 92 rfl) rfl
theorem q117 : (Jvm.Cond.methodLink "ShrinkRanker" (58 : Nat) ({ cls := "ShrinkRanker", name := "next", desc := "(II)I" } : Jvm.MethodName)) ∈ lw_all := lw_g (lw_at lw_m1 93 rfl) rfl
theorem q118 : (Jvm.Cond.privateMethod ({ cls := "ShrinkRanker", name := "next", desc := "(II)I" } : Jvm.MethodName)) ∈ lw_tbl := lw_at lw_m1 94 rfl
theorem q119 : (Jvm.Cond.instanceMethod ({ cls := "ShrinkRanker", name := "next", desc := "(II)I" } : Jvm.MethodName)) ∈ lw_all := lw_g (lw_at lw_m1 95 rfl) rfl
theorem q120 : (Jvm.Cond.code ({ cls := "ShrinkRanker", name := "next", desc := "(II)I" } : Jvm.MethodName) prog_1_method_8_code (7 : Nat) (Option.some Jvm.ClassFile.FieldType.int)) ∈ lw_all := lw_g (lw_at lw_m1 96 rfl) rfl
theorem q121 : (Jvm.Cond.methodLink "ShrinkRanker" (43 : Nat) ({ cls := "ShrinkRanker", name := "goOn", desc := "(IIII)I" } : Jvm.MethodName)) ∈ lw_all := lw_g (lw_at lw_m1 97 rfl) rfl
theorem q122 : (Jvm.Cond.privateMethod ({ cls := "ShrinkRanker", name := "goOn", desc := "(IIII)I" } : Jvm.MethodName)) ∈ lw_tbl := lw_at lw_m1 98 rfl
theorem q123 : (Jvm.Cond.instanceMethod ({ cls := "ShrinkRanker", name := "goOn", desc := "(IIII)I" } : Jvm.MethodName)) ∈ lw_all := lw_g (lw_at lw_m1 99 rfl) rfl
theorem q124 : (Jvm.Cond.code ({ cls := "ShrinkRanker", name := "goOn", desc := "(IIII)I" } : Jvm.MethodName) prog_1_method_6_code (7 : Nat) (Option.some Jvm.ClassFile.FieldType.int)) ∈ lw_all := lw_g (lw_at lw_m1 100 rfl) rfl
theorem q126 : (Jvm.Cond.instanceMethod ({ cls := "ShrinkRanker", name := "failing", desc := "()I" } : Jvm.MethodName)) ∈ lw_all := lw_g (lw_at lw_m1 102 rfl) rfl
theorem q127 : (Jvm.Cond.selects "ShrinkRanker" ({ cls := "ShrinkRanker", name := "failing", desc := "()I" } : Jvm.MethodName) ({ cls := "ShrinkRanker", name := "failing", desc := "()I" } : Jvm.MethodName)) ∈ lw_all := lw_g (lw_at lw_m1 103 rfl) rfl
theorem q128 : (Jvm.Cond.code ({ cls := "ShrinkRanker", name := "failing", desc := "()I" } : Jvm.MethodName) prog_1_method_18_code (1 : Nat) (Option.some Jvm.ClassFile.FieldType.int)) ∈ lw_all := lw_g (lw_at lw_m1 104 rfl) rfl
theorem q130 : (Jvm.Cond.instanceMethod ({ cls := "ShrinkRanker", name := "failingOf", desc := "(I)I" } : Jvm.MethodName)) ∈ lw_all := lw_g (lw_at lw_m1 106 rfl) rfl
theorem q131 : (Jvm.Cond.selects "ShrinkRanker" ({ cls := "ShrinkRanker", name := "failingOf", desc := "(I)I" } : Jvm.MethodName) ({ cls := "ShrinkRanker", name := "failingOf", desc := "(I)I" } : Jvm.MethodName)) ∈ lw_all := lw_g (lw_at lw_m1 107 rfl) rfl
theorem q132 : (Jvm.Cond.code ({ cls := "ShrinkRanker", name := "failingOf", desc := "(I)I" } : Jvm.MethodName) prog_1_method_19_code (2 : Nat) (Option.some Jvm.ClassFile.FieldType.int)) ∈ lw_all := lw_g (lw_at lw_m1 108 rfl) rfl
theorem q134 : (Jvm.Cond.instanceMethod ({ cls := "ShrinkRanker", name := "fails", desc := "()Z" } : Jvm.MethodName)) ∈ lw_all := lw_g (lw_at lw_m1 110 rfl) rfl
theorem q135 : (Jvm.Cond.selects "ShrinkRanker" ({ cls := "ShrinkRanker", name := "fails", desc := "()Z" } : Jvm.MethodName) ({ cls := "ShrinkRanker", name := "fails", desc := "()Z" } : Jvm.MethodName)) ∈ lw_all := lw_g (lw_at lw_m1 111 rfl) rfl
theorem q136 : (Jvm.Cond.code ({ cls := "ShrinkRanker", name := "fails", desc := "()Z" } : Jvm.MethodName) prog_1_method_20_code (2 : Nat) (Option.some Jvm.ClassFile.FieldType.boolean)) ∈ lw_all := lw_g (lw_at lw_m1 112 rfl) rfl
theorem q137 : (Jvm.Cond.methodLink "ShrinkRanker" (78 : Nat) ({ cls := "ShrinkRanker", name := "stageState", desc := "(I)I" } : Jvm.MethodName)) ∈ lw_all := lw_g (lw_at lw_m1 113 rfl) rfl
theorem q138 : (Jvm.Cond.privateMethod ({ cls := "ShrinkRanker", name := "stageState", desc := "(I)I" } : Jvm.MethodName)) ∈ lw_tbl := lw_at lw_m1 114 rfl
theorem q139 : (Jvm.Cond.instanceMethod ({ cls := "ShrinkRanker", name := "stageState", desc := "(I)I" } : Jvm.MethodName)) ∈ lw_all := lw_g (lw_at lw_m1 115 rfl) rfl
theorem q140 : (Jvm.Cond.code ({ cls := "ShrinkRanker", name := "stageState", desc := "(I)I" } : Jvm.MethodName) prog_1_method_12_code (4 : Nat) (Option.some Jvm.ClassFile.FieldType.int)) ∈ lw_all := lw_g (lw_at lw_m1 116 rfl) rfl
theorem q142 : (Jvm.Cond.instanceMethod ({ cls := "ShrinkRanker", name := "rank", desc := "()I" } : Jvm.MethodName)) ∈ lw_all := lw_g (lw_at lw_m1 118 rfl) rfl
theorem q143 : (Jvm.Cond.selects "ShrinkRanker" ({ cls := "ShrinkRanker", name := "rank", desc := "()I" } : Jvm.MethodName) ({ cls := "ShrinkRanker", name := "rank", desc := "()I" } : Jvm.MethodName)) ∈ lw_all := lw_g (lw_at lw_m1 119 rfl) rfl
theorem q144 : (Jvm.Cond.code ({ cls := "ShrinkRanker", name := "rank", desc := "()I" } : Jvm.MethodName) prog_1_method_21_code (4 : Nat) (Option.some Jvm.ClassFile.FieldType.int)) ∈ lw_all := lw_g (lw_at lw_m1 120 rfl) rfl
theorem q146 : (Jvm.Cond.instanceMethod ({ cls := "ShrinkRanker", name := "extending", desc := "()I" } : Jvm.MethodName)) ∈ lw_all := lw_g (lw_at lw_m1 122 rfl) rfl
theorem q147 : (Jvm.Cond.selects "ShrinkRanker" ({ cls := "ShrinkRanker", name := "extending", desc := "()I" } : Jvm.MethodName) ({ cls := "ShrinkRanker", name := "extending", desc := "()I" } : Jvm.MethodName)) ∈ lw_all := lw_g (lw_at lw_m1 123 rfl) rfl
theorem q148 : (Jvm.Cond.code ({ cls := "ShrinkRanker", name := "extending", desc := "()I" } : Jvm.MethodName) prog_1_method_22_code (4 : Nat) (Option.some Jvm.ClassFile.FieldType.int)) ∈ lw_all := lw_g (lw_at lw_m1 124 rfl) rfl
theorem q150 : (Jvm.Cond.instanceMethod ({ cls := "ShrinkRanker", name := "leastLength", desc := "()I" } : Jvm.MethodName)) ∈ lw_all := lw_g (lw_at lw_m1 126 rfl) rfl
theorem q151 : (Jvm.Cond.selects "ShrinkRanker" ({ cls := "ShrinkRanker", name := "leastLength", desc := "()I" } : Jvm.MethodName) ({ cls := "ShrinkRanker", name := "leastLength", desc := "()I" } : Jvm.MethodName)) ∈ lw_all := lw_g (lw_at lw_m1 127 rfl) rfl
theorem q152 : (Jvm.Cond.code ({ cls := "ShrinkRanker", name := "leastLength", desc := "()I" } : Jvm.MethodName) prog_1_method_23_code (2 : Nat) (Option.some Jvm.ClassFile.FieldType.int)) ∈ lw_all := lw_g (lw_at lw_m1 128 rfl) rfl
theorem q154 : (Jvm.Cond.instanceMethod ({ cls := "ShrinkRanker", name := "least", desc := "(I)I" } : Jvm.MethodName)) ∈ lw_all := lw_g (lw_at lw_m1 130 rfl) rfl
theorem q155 : (Jvm.Cond.selects "ShrinkRanker" ({ cls := "ShrinkRanker", name := "least", desc := "(I)I" } : Jvm.MethodName) ({ cls := "ShrinkRanker", name := "least", desc := "(I)I" } : Jvm.MethodName)) ∈ lw_all := lw_g (lw_at lw_m1 131 rfl) rfl
theorem q156 : (Jvm.Cond.code ({ cls := "ShrinkRanker", name := "least", desc := "(I)I" } : Jvm.MethodName) prog_1_method_24_code (3 : Nat) (Option.some Jvm.ClassFile.FieldType.int)) ∈ lw_all := lw_g (lw_at lw_m1 132 rfl) rfl
theorem q158 : (Jvm.Cond.instanceMethod ({ cls := "ShrinkRanker", name := "element", desc := "(I)I" } : Jvm.MethodName)) ∈ lw_all := lw_g (lw_at lw_m1 134 rfl) rfl
theorem q159 : (Jvm.Cond.selects "ShrinkRanker" ({ cls := "ShrinkRanker", name := "element", desc := "(I)I" } : Jvm.MethodName) ({ cls := "ShrinkRanker", name := "element", desc := "(I)I" } : Jvm.MethodName)) ∈ lw_all := lw_g (lw_at lw_m1 135 rfl) rfl
theorem q160 : (Jvm.Cond.code ({ cls := "ShrinkRanker", name := "element", desc := "(I)I" } : Jvm.MethodName) prog_1_method_25_code (2 : Nat) (Option.some Jvm.ClassFile.FieldType.int)) ∈ lw_all := lw_g (lw_at lw_m1 136 rfl) rfl
theorem in_X0 : ∀ w ∈ wsX00, w ∈ lw_all := lw_in wsX00 [45, 47, 49, 51, 53, 55, 57, 59, 61, 63] (by decide +kernel) (by decide +kernel)
end
section
set_option maxRecDepth 100000
/-! ShrinkRankerModel -/
set_option maxRecDepth 100000
def RX1 : String := "ShrinkRankerModel"
def TX1 : u_T := fun k => match k with
  | 0 => ("ShrinkRankerModel", "count", "I", false)
  | 1 => ("ShrinkRankerModel", "kinds", "[I", true)
  | 2 => ("ShrinkRankerModel", "as", "[I", true)
  | 3 => ("ShrinkRankerModel", "bs", "[I", true)
  | 4 => ("ShrinkRankerModel", "length", "I", false)
  | 5 => ("ShrinkRankerModel", "digits", "I", false)
  | 6 => ("ShrinkRankerModel", "known", "Z", false)
  | _ => ("ShrinkRankerModel", "marks", "[I", true)
def tyX1 : Nat → FieldType := fun k => match k with
  | 0 => .int
  | 1 => .array .int
  | 2 => .array .int
  | 3 => .array .int
  | 4 => .int
  | 5 => .int
  | 6 => .boolean
  | _ => .array .int
abbrev wsX10 : List Cond := u_ws RX1 TX1 8
theorem nmX1 : ∀ a, a < 8 → ∀ b, b < 8 → a ≠ b → (TX1 a).2.1 ≠ (TX1 b).2.1 := by decide +kernel
theorem tyX1_ok : ∀ k, k < 8 → parseFieldDescriptor (TX1 k).2.2.1 = some (tyX1 k) := by decide +kernel
abbrev cX1_init : ByteArray := prog_3_method_1_code
def yX1_init : MethodName := ⟨RX1, "<init>", "()V"⟩
theorem dX1_init_0 : decode cX1_init 0 = .ok (.aload_n 0, 1) := by decide +kernel
theorem dX1_init_1 : decode cX1_init 1 = .ok (.invokespecial 1, 3) := by decide +kernel
theorem dX1_init_4 : decode cX1_init 4 = .ok (.aload_n 0, 1) := by decide +kernel
theorem dX1_init_5 : decode cX1_init 5 = .ok (.iconst 3, 1) := by decide +kernel
theorem dX1_init_6 : decode cX1_init 6 = .ok (.newarray .int, 2) := by decide +kernel
theorem dX1_init_8 : decode cX1_init 8 = .ok (.putfield 7, 3) := by decide +kernel
theorem dX1_init_11 : decode cX1_init 11 = .ok (.aload_n 0, 1) := by decide +kernel
theorem dX1_init_12 : decode cX1_init 12 = .ok (.iconst 3, 1) := by decide +kernel
theorem dX1_init_13 : decode cX1_init 13 = .ok (.newarray .int, 2) := by decide +kernel
theorem dX1_init_15 : decode cX1_init 15 = .ok (.putfield 13, 3) := by decide +kernel
theorem dX1_init_18 : decode cX1_init 18 = .ok (.aload_n 0, 1) := by decide +kernel
theorem dX1_init_19 : decode cX1_init 19 = .ok (.iconst 3, 1) := by decide +kernel
theorem dX1_init_20 : decode cX1_init 20 = .ok (.newarray .int, 2) := by decide +kernel
theorem dX1_init_22 : decode cX1_init 22 = .ok (.putfield 16, 3) := by decide +kernel
theorem dX1_init_25 : decode cX1_init 25 = .ok (.aload_n 0, 1) := by decide +kernel
theorem dX1_init_26 : decode cX1_init 26 = .ok (.sipush 171, 3) := by decide +kernel
theorem dX1_init_29 : decode cX1_init 29 = .ok (.newarray .int, 2) := by decide +kernel
theorem dX1_init_31 : decode cX1_init 31 = .ok (.putfield 19, 3) := by decide +kernel
theorem dX1_init_34 : decode cX1_init 34 = .ok (.return_, 1) := by decide +kernel
abbrev cX1_condition : ByteArray := prog_3_method_4_code
def yX1_condition : MethodName := ⟨RX1, "condition", "(III)I"⟩
theorem dX1_condition_0 : decode cX1_condition 0 = .ok (.iload_n 1, 1) := by decide +kernel
theorem dX1_condition_1 : decode cX1_condition 1 = .ok (.ifCond .lt 9, 3) := by decide +kernel
theorem dX1_condition_4 : decode cX1_condition 4 = .ok (.iload_n 1, 1) := by decide +kernel
theorem dX1_condition_5 : decode cX1_condition 5 = .ok (.bipush 9, 2) := by decide +kernel
theorem dX1_condition_7 : decode cX1_condition 7 = .ok (.if_icmp .le 5, 3) := by decide +kernel
theorem dX1_condition_10 : decode cX1_condition 10 = .ok (.iconst (-1), 1) := by decide +kernel
theorem dX1_condition_11 : decode cX1_condition 11 = .ok (.ireturn, 1) := by decide +kernel
theorem dX1_condition_12 : decode cX1_condition 12 = .ok (.aload_n 0, 1) := by decide +kernel
theorem dX1_condition_13 : decode cX1_condition 13 = .ok (.iload_n 1, 1) := by decide +kernel
theorem dX1_condition_14 : decode cX1_condition 14 = .ok (.iload_n 2, 1) := by decide +kernel
theorem dX1_condition_15 : decode cX1_condition 15 = .ok (.iload_n 3, 1) := by decide +kernel
theorem dX1_condition_16 : decode cX1_condition 16 = .ok (.invokevirtual 26, 3) := by decide +kernel
theorem dX1_condition_19 : decode cX1_condition 19 = .ok (.ifCond .ne 6, 3) := by decide +kernel
theorem dX1_condition_22 : decode cX1_condition 22 = .ok (.bipush (-2), 2) := by decide +kernel
theorem dX1_condition_24 : decode cX1_condition 24 = .ok (.ireturn, 1) := by decide +kernel
theorem dX1_condition_25 : decode cX1_condition 25 = .ok (.aload_n 0, 1) := by decide +kernel
theorem dX1_condition_26 : decode cX1_condition 26 = .ok (.getfield 29, 3) := by decide +kernel
theorem dX1_condition_29 : decode cX1_condition 29 = .ok (.iconst 3, 1) := by decide +kernel
theorem dX1_condition_30 : decode cX1_condition 30 = .ok (.if_icmp .ne 6, 3) := by decide +kernel
theorem dX1_condition_33 : decode cX1_condition 33 = .ok (.bipush (-3), 2) := by decide +kernel
theorem dX1_condition_35 : decode cX1_condition 35 = .ok (.ireturn, 1) := by decide +kernel
theorem dX1_condition_36 : decode cX1_condition 36 = .ok (.aload_n 0, 1) := by decide +kernel
theorem dX1_condition_37 : decode cX1_condition 37 = .ok (.getfield 7, 3) := by decide +kernel
theorem dX1_condition_40 : decode cX1_condition 40 = .ok (.aload_n 0, 1) := by decide +kernel
theorem dX1_condition_41 : decode cX1_condition 41 = .ok (.getfield 29, 3) := by decide +kernel
theorem dX1_condition_44 : decode cX1_condition 44 = .ok (.iload_n 1, 1) := by decide +kernel
theorem dX1_condition_45 : decode cX1_condition 45 = .ok (.iastore, 1) := by decide +kernel
theorem dX1_condition_46 : decode cX1_condition 46 = .ok (.aload_n 0, 1) := by decide +kernel
theorem dX1_condition_47 : decode cX1_condition 47 = .ok (.getfield 13, 3) := by decide +kernel
theorem dX1_condition_50 : decode cX1_condition 50 = .ok (.aload_n 0, 1) := by decide +kernel
theorem dX1_condition_51 : decode cX1_condition 51 = .ok (.getfield 29, 3) := by decide +kernel
theorem dX1_condition_54 : decode cX1_condition 54 = .ok (.iload_n 2, 1) := by decide +kernel
theorem dX1_condition_55 : decode cX1_condition 55 = .ok (.iastore, 1) := by decide +kernel
theorem dX1_condition_56 : decode cX1_condition 56 = .ok (.aload_n 0, 1) := by decide +kernel
theorem dX1_condition_57 : decode cX1_condition 57 = .ok (.getfield 16, 3) := by decide +kernel
theorem dX1_condition_60 : decode cX1_condition 60 = .ok (.aload_n 0, 1) := by decide +kernel
theorem dX1_condition_61 : decode cX1_condition 61 = .ok (.getfield 29, 3) := by decide +kernel
theorem dX1_condition_64 : decode cX1_condition 64 = .ok (.iload_n 3, 1) := by decide +kernel
theorem dX1_condition_65 : decode cX1_condition 65 = .ok (.iastore, 1) := by decide +kernel
theorem dX1_condition_66 : decode cX1_condition 66 = .ok (.aload_n 0, 1) := by decide +kernel
theorem dX1_condition_67 : decode cX1_condition 67 = .ok (.aload_n 0, 1) := by decide +kernel
theorem dX1_condition_68 : decode cX1_condition 68 = .ok (.getfield 29, 3) := by decide +kernel
theorem dX1_condition_71 : decode cX1_condition 71 = .ok (.iconst 1, 1) := by decide +kernel
theorem dX1_condition_72 : decode cX1_condition 72 = .ok (.iadd, 1) := by decide +kernel
theorem dX1_condition_73 : decode cX1_condition 73 = .ok (.putfield 29, 3) := by decide +kernel
theorem dX1_condition_76 : decode cX1_condition 76 = .ok (.aload_n 0, 1) := by decide +kernel
theorem dX1_condition_77 : decode cX1_condition 77 = .ok (.iconst 0, 1) := by decide +kernel
theorem dX1_condition_78 : decode cX1_condition 78 = .ok (.putfield 33, 3) := by decide +kernel
theorem dX1_condition_81 : decode cX1_condition 81 = .ok (.aload_n 0, 1) := by decide +kernel
theorem dX1_condition_82 : decode cX1_condition 82 = .ok (.getfield 29, 3) := by decide +kernel
theorem dX1_condition_85 : decode cX1_condition 85 = .ok (.ireturn, 1) := by decide +kernel
abbrev cX1_goodNumbers : ByteArray := prog_3_method_3_code
def yX1_goodNumbers : MethodName := ⟨RX1, "goodNumbers", "(III)Z"⟩
theorem dX1_goodNumbers_0 : decode cX1_goodNumbers 0 = .ok (.iload_n 1, 1) := by decide +kernel
theorem dX1_goodNumbers_1 : decode cX1_goodNumbers 1 = .ok (.ifCond .ne 31, 3) := by decide +kernel
theorem dX1_goodNumbers_4 : decode cX1_goodNumbers 4 = .ok (.aload_n 0, 1) := by decide +kernel
theorem dX1_goodNumbers_5 : decode cX1_goodNumbers 5 = .ok (.iload_n 2, 1) := by decide +kernel
theorem dX1_goodNumbers_6 : decode cX1_goodNumbers 6 = .ok (.iconst 2, 1) := by decide +kernel
theorem dX1_goodNumbers_7 : decode cX1_goodNumbers 7 = .ok (.iconst 4, 1) := by decide +kernel
theorem dX1_goodNumbers_8 : decode cX1_goodNumbers 8 = .ok (.invokevirtual 22, 3) := by decide +kernel
theorem dX1_goodNumbers_11 : decode cX1_goodNumbers 11 = .ok (.ifCond .eq 19, 3) := by decide +kernel
theorem dX1_goodNumbers_14 : decode cX1_goodNumbers 14 = .ok (.aload_n 0, 1) := by decide +kernel
theorem dX1_goodNumbers_15 : decode cX1_goodNumbers 15 = .ok (.iload_n 3, 1) := by decide +kernel
theorem dX1_goodNumbers_16 : decode cX1_goodNumbers 16 = .ok (.iconst 0, 1) := by decide +kernel
theorem dX1_goodNumbers_17 : decode cX1_goodNumbers 17 = .ok (.iload_n 2, 1) := by decide +kernel
theorem dX1_goodNumbers_18 : decode cX1_goodNumbers 18 = .ok (.iconst 1, 1) := by decide +kernel
theorem dX1_goodNumbers_19 : decode cX1_goodNumbers 19 = .ok (.isub, 1) := by decide +kernel
theorem dX1_goodNumbers_20 : decode cX1_goodNumbers 20 = .ok (.invokevirtual 22, 3) := by decide +kernel
theorem dX1_goodNumbers_23 : decode cX1_goodNumbers 23 = .ok (.ifCond .eq 7, 3) := by decide +kernel
theorem dX1_goodNumbers_26 : decode cX1_goodNumbers 26 = .ok (.iconst 1, 1) := by decide +kernel
theorem dX1_goodNumbers_27 : decode cX1_goodNumbers 27 = .ok (.goto 4, 3) := by decide +kernel
theorem dX1_goodNumbers_30 : decode cX1_goodNumbers 30 = .ok (.iconst 0, 1) := by decide +kernel
theorem dX1_goodNumbers_31 : decode cX1_goodNumbers 31 = .ok (.ireturn, 1) := by decide +kernel
theorem dX1_goodNumbers_32 : decode cX1_goodNumbers 32 = .ok (.iload_n 1, 1) := by decide +kernel
theorem dX1_goodNumbers_33 : decode cX1_goodNumbers 33 = .ok (.bipush 8, 2) := by decide +kernel
theorem dX1_goodNumbers_35 : decode cX1_goodNumbers 35 = .ok (.if_icmp .ne 5, 3) := by decide +kernel
theorem dX1_goodNumbers_38 : decode cX1_goodNumbers 38 = .ok (.iconst 1, 1) := by decide +kernel
theorem dX1_goodNumbers_39 : decode cX1_goodNumbers 39 = .ok (.ireturn, 1) := by decide +kernel
theorem dX1_goodNumbers_40 : decode cX1_goodNumbers 40 = .ok (.aload_n 0, 1) := by decide +kernel
theorem dX1_goodNumbers_41 : decode cX1_goodNumbers 41 = .ok (.iload_n 2, 1) := by decide +kernel
theorem dX1_goodNumbers_42 : decode cX1_goodNumbers 42 = .ok (.iconst 0, 1) := by decide +kernel
theorem dX1_goodNumbers_43 : decode cX1_goodNumbers 43 = .ok (.iconst 3, 1) := by decide +kernel
theorem dX1_goodNumbers_44 : decode cX1_goodNumbers 44 = .ok (.invokevirtual 22, 3) := by decide +kernel
theorem dX1_goodNumbers_47 : decode cX1_goodNumbers 47 = .ok (.ifCond .ne 5, 3) := by decide +kernel
theorem dX1_goodNumbers_50 : decode cX1_goodNumbers 50 = .ok (.iconst 0, 1) := by decide +kernel
theorem dX1_goodNumbers_51 : decode cX1_goodNumbers 51 = .ok (.ireturn, 1) := by decide +kernel
theorem dX1_goodNumbers_52 : decode cX1_goodNumbers 52 = .ok (.iload_n 1, 1) := by decide +kernel
theorem dX1_goodNumbers_53 : decode cX1_goodNumbers 53 = .ok (.iconst 1, 1) := by decide +kernel
theorem dX1_goodNumbers_54 : decode cX1_goodNumbers 54 = .ok (.if_icmp .ne 11, 3) := by decide +kernel
theorem dX1_goodNumbers_57 : decode cX1_goodNumbers 57 = .ok (.aload_n 0, 1) := by decide +kernel
theorem dX1_goodNumbers_58 : decode cX1_goodNumbers 58 = .ok (.iload_n 3, 1) := by decide +kernel
theorem dX1_goodNumbers_59 : decode cX1_goodNumbers 59 = .ok (.iconst 1, 1) := by decide +kernel
theorem dX1_goodNumbers_60 : decode cX1_goodNumbers 60 = .ok (.iconst 3, 1) := by decide +kernel
theorem dX1_goodNumbers_61 : decode cX1_goodNumbers 61 = .ok (.invokevirtual 22, 3) := by decide +kernel
theorem dX1_goodNumbers_64 : decode cX1_goodNumbers 64 = .ok (.ireturn, 1) := by decide +kernel
theorem dX1_goodNumbers_65 : decode cX1_goodNumbers 65 = .ok (.iload_n 1, 1) := by decide +kernel
theorem dX1_goodNumbers_66 : decode cX1_goodNumbers 66 = .ok (.iconst 2, 1) := by decide +kernel
theorem dX1_goodNumbers_67 : decode cX1_goodNumbers 67 = .ok (.if_icmp .ne 11, 3) := by decide +kernel
theorem dX1_goodNumbers_70 : decode cX1_goodNumbers 70 = .ok (.aload_n 0, 1) := by decide +kernel
theorem dX1_goodNumbers_71 : decode cX1_goodNumbers 71 = .ok (.iload_n 3, 1) := by decide +kernel
theorem dX1_goodNumbers_72 : decode cX1_goodNumbers 72 = .ok (.iconst 0, 1) := by decide +kernel
theorem dX1_goodNumbers_73 : decode cX1_goodNumbers 73 = .ok (.iconst 2, 1) := by decide +kernel
theorem dX1_goodNumbers_74 : decode cX1_goodNumbers 74 = .ok (.invokevirtual 22, 3) := by decide +kernel
theorem dX1_goodNumbers_77 : decode cX1_goodNumbers 77 = .ok (.ireturn, 1) := by decide +kernel
theorem dX1_goodNumbers_78 : decode cX1_goodNumbers 78 = .ok (.iload_n 1, 1) := by decide +kernel
theorem dX1_goodNumbers_79 : decode cX1_goodNumbers 79 = .ok (.iconst 3, 1) := by decide +kernel
theorem dX1_goodNumbers_80 : decode cX1_goodNumbers 80 = .ok (.if_icmp .eq 8, 3) := by decide +kernel
theorem dX1_goodNumbers_83 : decode cX1_goodNumbers 83 = .ok (.iload_n 1, 1) := by decide +kernel
theorem dX1_goodNumbers_84 : decode cX1_goodNumbers 84 = .ok (.iconst 4, 1) := by decide +kernel
theorem dX1_goodNumbers_85 : decode cX1_goodNumbers 85 = .ok (.if_icmp .ne 11, 3) := by decide +kernel
theorem dX1_goodNumbers_88 : decode cX1_goodNumbers 88 = .ok (.aload_n 0, 1) := by decide +kernel
theorem dX1_goodNumbers_89 : decode cX1_goodNumbers 89 = .ok (.iload_n 3, 1) := by decide +kernel
theorem dX1_goodNumbers_90 : decode cX1_goodNumbers 90 = .ok (.iconst 0, 1) := by decide +kernel
theorem dX1_goodNumbers_91 : decode cX1_goodNumbers 91 = .ok (.iconst 3, 1) := by decide +kernel
theorem dX1_goodNumbers_92 : decode cX1_goodNumbers 92 = .ok (.invokevirtual 22, 3) := by decide +kernel
theorem dX1_goodNumbers_95 : decode cX1_goodNumbers 95 = .ok (.ireturn, 1) := by decide +kernel
theorem dX1_goodNumbers_96 : decode cX1_goodNumbers 96 = .ok (.iload_n 1, 1) := by decide +kernel
theorem dX1_goodNumbers_97 : decode cX1_goodNumbers 97 = .ok (.bipush 9, 2) := by decide +kernel
theorem dX1_goodNumbers_99 : decode cX1_goodNumbers 99 = .ok (.if_icmp .ne 13, 3) := by decide +kernel
theorem dX1_goodNumbers_102 : decode cX1_goodNumbers 102 = .ok (.aload_n 0, 1) := by decide +kernel
theorem dX1_goodNumbers_103 : decode cX1_goodNumbers 103 = .ok (.iload_n 3, 1) := by decide +kernel
theorem dX1_goodNumbers_104 : decode cX1_goodNumbers 104 = .ok (.iconst 0, 1) := by decide +kernel
theorem dX1_goodNumbers_105 : decode cX1_goodNumbers 105 = .ok (.iconst 1, 1) := by decide +kernel
theorem dX1_goodNumbers_106 : decode cX1_goodNumbers 106 = .ok (.invokevirtual 22, 3) := by decide +kernel
theorem dX1_goodNumbers_109 : decode cX1_goodNumbers 109 = .ok (.ifCond .eq 7, 3) := by decide +kernel
theorem dX1_goodNumbers_112 : decode cX1_goodNumbers 112 = .ok (.iconst 1, 1) := by decide +kernel
theorem dX1_goodNumbers_113 : decode cX1_goodNumbers 113 = .ok (.goto 4, 3) := by decide +kernel
theorem dX1_goodNumbers_116 : decode cX1_goodNumbers 116 = .ok (.iconst 0, 1) := by decide +kernel
theorem dX1_goodNumbers_117 : decode cX1_goodNumbers 117 = .ok (.ireturn, 1) := by decide +kernel
abbrev cX1_within : ByteArray := prog_3_method_2_code
def yX1_within : MethodName := ⟨RX1, "within", "(III)Z"⟩
theorem dX1_within_0 : decode cX1_within 0 = .ok (.iload_n 1, 1) := by decide +kernel
theorem dX1_within_1 : decode cX1_within 1 = .ok (.iload_n 2, 1) := by decide +kernel
theorem dX1_within_2 : decode cX1_within 2 = .ok (.if_icmp .lt 12, 3) := by decide +kernel
theorem dX1_within_5 : decode cX1_within 5 = .ok (.iload_n 1, 1) := by decide +kernel
theorem dX1_within_6 : decode cX1_within 6 = .ok (.iload_n 3, 1) := by decide +kernel
theorem dX1_within_7 : decode cX1_within 7 = .ok (.if_icmp .gt 7, 3) := by decide +kernel
theorem dX1_within_10 : decode cX1_within 10 = .ok (.iconst 1, 1) := by decide +kernel
theorem dX1_within_11 : decode cX1_within 11 = .ok (.goto 4, 3) := by decide +kernel
theorem dX1_within_14 : decode cX1_within 14 = .ok (.iconst 0, 1) := by decide +kernel
theorem dX1_within_15 : decode cX1_within 15 = .ok (.ireturn, 1) := by decide +kernel
abbrev cX1_drop : ByteArray := prog_3_method_5_code
def yX1_drop : MethodName := ⟨RX1, "drop", "()I"⟩
theorem dX1_drop_0 : decode cX1_drop 0 = .ok (.aload_n 0, 1) := by decide +kernel
theorem dX1_drop_1 : decode cX1_drop 1 = .ok (.getfield 29, 3) := by decide +kernel
theorem dX1_drop_4 : decode cX1_drop 4 = .ok (.ifCond .ne 6, 3) := by decide +kernel
theorem dX1_drop_7 : decode cX1_drop 7 = .ok (.bipush (-4), 2) := by decide +kernel
theorem dX1_drop_9 : decode cX1_drop 9 = .ok (.ireturn, 1) := by decide +kernel
theorem dX1_drop_10 : decode cX1_drop 10 = .ok (.aload_n 0, 1) := by decide +kernel
theorem dX1_drop_11 : decode cX1_drop 11 = .ok (.aload_n 0, 1) := by decide +kernel
theorem dX1_drop_12 : decode cX1_drop 12 = .ok (.getfield 29, 3) := by decide +kernel
theorem dX1_drop_15 : decode cX1_drop 15 = .ok (.iconst 1, 1) := by decide +kernel
theorem dX1_drop_16 : decode cX1_drop 16 = .ok (.isub, 1) := by decide +kernel
theorem dX1_drop_17 : decode cX1_drop 17 = .ok (.putfield 29, 3) := by decide +kernel
theorem dX1_drop_20 : decode cX1_drop 20 = .ok (.aload_n 0, 1) := by decide +kernel
theorem dX1_drop_21 : decode cX1_drop 21 = .ok (.iconst 0, 1) := by decide +kernel
theorem dX1_drop_22 : decode cX1_drop 22 = .ok (.putfield 33, 3) := by decide +kernel
theorem dX1_drop_25 : decode cX1_drop 25 = .ok (.aload_n 0, 1) := by decide +kernel
theorem dX1_drop_26 : decode cX1_drop 26 = .ok (.getfield 29, 3) := by decide +kernel
theorem dX1_drop_29 : decode cX1_drop 29 = .ok (.ireturn, 1) := by decide +kernel
abbrev cX1_push : ByteArray := prog_3_method_6_code
def yX1_push : MethodName := ⟨RX1, "push", "(I)I"⟩
theorem dX1_push_0 : decode cX1_push 0 = .ok (.iload_n 1, 1) := by decide +kernel
theorem dX1_push_1 : decode cX1_push 1 = .ok (.ifCond .lt 8, 3) := by decide +kernel
theorem dX1_push_4 : decode cX1_push 4 = .ok (.iload_n 1, 1) := by decide +kernel
theorem dX1_push_5 : decode cX1_push 5 = .ok (.iconst 3, 1) := by decide +kernel
theorem dX1_push_6 : decode cX1_push 6 = .ok (.if_icmp .le 6, 3) := by decide +kernel
theorem dX1_push_9 : decode cX1_push 9 = .ok (.bipush (-2), 2) := by decide +kernel
theorem dX1_push_11 : decode cX1_push 11 = .ok (.ireturn, 1) := by decide +kernel
theorem dX1_push_12 : decode cX1_push 12 = .ok (.aload_n 0, 1) := by decide +kernel
theorem dX1_push_13 : decode cX1_push 13 = .ok (.getfield 37, 3) := by decide +kernel
theorem dX1_push_16 : decode cX1_push 16 = .ok (.bipush 6, 2) := by decide +kernel
theorem dX1_push_18 : decode cX1_push 18 = .ok (.if_icmp .ne 6, 3) := by decide +kernel
theorem dX1_push_21 : decode cX1_push 21 = .ok (.bipush (-3), 2) := by decide +kernel
theorem dX1_push_23 : decode cX1_push 23 = .ok (.ireturn, 1) := by decide +kernel
theorem dX1_push_24 : decode cX1_push 24 = .ok (.aload_n 0, 1) := by decide +kernel
theorem dX1_push_25 : decode cX1_push 25 = .ok (.aload_n 0, 1) := by decide +kernel
theorem dX1_push_26 : decode cX1_push 26 = .ok (.getfield 40, 3) := by decide +kernel
theorem dX1_push_29 : decode cX1_push 29 = .ok (.iconst 4, 1) := by decide +kernel
theorem dX1_push_30 : decode cX1_push 30 = .ok (.imul, 1) := by decide +kernel
theorem dX1_push_31 : decode cX1_push 31 = .ok (.iload_n 1, 1) := by decide +kernel
theorem dX1_push_32 : decode cX1_push 32 = .ok (.iadd, 1) := by decide +kernel
theorem dX1_push_33 : decode cX1_push 33 = .ok (.putfield 40, 3) := by decide +kernel
theorem dX1_push_36 : decode cX1_push 36 = .ok (.aload_n 0, 1) := by decide +kernel
theorem dX1_push_37 : decode cX1_push 37 = .ok (.aload_n 0, 1) := by decide +kernel
theorem dX1_push_38 : decode cX1_push 38 = .ok (.getfield 37, 3) := by decide +kernel
theorem dX1_push_41 : decode cX1_push 41 = .ok (.iconst 1, 1) := by decide +kernel
theorem dX1_push_42 : decode cX1_push 42 = .ok (.iadd, 1) := by decide +kernel
theorem dX1_push_43 : decode cX1_push 43 = .ok (.putfield 37, 3) := by decide +kernel
theorem dX1_push_46 : decode cX1_push 46 = .ok (.aload_n 0, 1) := by decide +kernel
theorem dX1_push_47 : decode cX1_push 47 = .ok (.getfield 37, 3) := by decide +kernel
theorem dX1_push_50 : decode cX1_push 50 = .ok (.ireturn, 1) := by decide +kernel
abbrev cX1_empty : ByteArray := prog_3_method_7_code
def yX1_empty : MethodName := ⟨RX1, "empty", "()V"⟩
theorem dX1_empty_0 : decode cX1_empty 0 = .ok (.aload_n 0, 1) := by decide +kernel
theorem dX1_empty_1 : decode cX1_empty 1 = .ok (.iconst 0, 1) := by decide +kernel
theorem dX1_empty_2 : decode cX1_empty 2 = .ok (.putfield 37, 3) := by decide +kernel
theorem dX1_empty_5 : decode cX1_empty 5 = .ok (.aload_n 0, 1) := by decide +kernel
theorem dX1_empty_6 : decode cX1_empty 6 = .ok (.iconst 0, 1) := by decide +kernel
theorem dX1_empty_7 : decode cX1_empty 7 = .ok (.putfield 40, 3) := by decide +kernel
theorem dX1_empty_10 : decode cX1_empty 10 = .ok (.return_, 1) := by decide +kernel
abbrev cX1_load : ByteArray := prog_3_method_21_code
def yX1_load : MethodName := ⟨RX1, "load", "(I)I"⟩
theorem dX1_load_0 : decode cX1_load 0 = .ok (.aload_n 0, 1) := by decide +kernel
theorem dX1_load_1 : decode cX1_load 1 = .ok (.iload_n 1, 1) := by decide +kernel
theorem dX1_load_2 : decode cX1_load 2 = .ok (.invokevirtual 80, 3) := by decide +kernel
theorem dX1_load_5 : decode cX1_load 5 = .ok (.istore_n 2, 1) := by decide +kernel
theorem dX1_load_6 : decode cX1_load 6 = .ok (.iload_n 2, 1) := by decide +kernel
theorem dX1_load_7 : decode cX1_load 7 = .ok (.ifCond .ge 6, 3) := by decide +kernel
theorem dX1_load_10 : decode cX1_load 10 = .ok (.bipush (-4), 2) := by decide +kernel
theorem dX1_load_12 : decode cX1_load 12 = .ok (.ireturn, 1) := by decide +kernel
theorem dX1_load_13 : decode cX1_load 13 = .ok (.aload_n 0, 1) := by decide +kernel
theorem dX1_load_14 : decode cX1_load 14 = .ok (.aload_n 0, 1) := by decide +kernel
theorem dX1_load_15 : decode cX1_load 15 = .ok (.iload_n 2, 1) := by decide +kernel
theorem dX1_load_16 : decode cX1_load 16 = .ok (.invokevirtual 83, 3) := by decide +kernel
theorem dX1_load_19 : decode cX1_load 19 = .ok (.putfield 37, 3) := by decide +kernel
theorem dX1_load_22 : decode cX1_load 22 = .ok (.aload_n 0, 1) := by decide +kernel
theorem dX1_load_23 : decode cX1_load 23 = .ok (.iload_n 2, 1) := by decide +kernel
theorem dX1_load_24 : decode cX1_load 24 = .ok (.aload_n 0, 1) := by decide +kernel
theorem dX1_load_25 : decode cX1_load 25 = .ok (.aload_n 0, 1) := by decide +kernel
theorem dX1_load_26 : decode cX1_load 26 = .ok (.getfield 37, 3) := by decide +kernel
theorem dX1_load_29 : decode cX1_load 29 = .ok (.invokevirtual 66, 3) := by decide +kernel
theorem dX1_load_32 : decode cX1_load 32 = .ok (.isub, 1) := by decide +kernel
theorem dX1_load_33 : decode cX1_load 33 = .ok (.putfield 40, 3) := by decide +kernel
theorem dX1_load_36 : decode cX1_load 36 = .ok (.aload_n 0, 1) := by decide +kernel
theorem dX1_load_37 : decode cX1_load 37 = .ok (.getfield 37, 3) := by decide +kernel
theorem dX1_load_40 : decode cX1_load 40 = .ok (.ireturn, 1) := by decide +kernel
abbrev cX1_find : ByteArray := prog_3_method_19_code
def yX1_find : MethodName := ⟨RX1, "find", "(I)I"⟩
theorem dX1_find_0 : decode cX1_find 0 = .ok (.aload_n 0, 1) := by decide +kernel
theorem dX1_find_1 : decode cX1_find 1 = .ok (.invokevirtual 73, 3) := by decide +kernel
theorem dX1_find_4 : decode cX1_find 4 = .ok (.iconst 0, 1) := by decide +kernel
theorem dX1_find_5 : decode cX1_find 5 = .ok (.istore_n 2, 1) := by decide +kernel
theorem dX1_find_6 : decode cX1_find 6 = .ok (.iconst 0, 1) := by decide +kernel
theorem dX1_find_7 : decode cX1_find 7 = .ok (.istore_n 3, 1) := by decide +kernel
theorem dX1_find_8 : decode cX1_find 8 = .ok (.iload_n 3, 1) := by decide +kernel
theorem dX1_find_9 : decode cX1_find 9 = .ok (.sipush 5461, 3) := by decide +kernel
theorem dX1_find_12 : decode cX1_find 12 = .ok (.if_icmp .ge 27, 3) := by decide +kernel
theorem dX1_find_15 : decode cX1_find 15 = .ok (.aload_n 0, 1) := by decide +kernel
theorem dX1_find_16 : decode cX1_find 16 = .ok (.iload_n 3, 1) := by decide +kernel
theorem dX1_find_17 : decode cX1_find 17 = .ok (.invokevirtual 76, 3) := by decide +kernel
theorem dX1_find_20 : decode cX1_find 20 = .ok (.ifCond .eq 13, 3) := by decide +kernel
theorem dX1_find_23 : decode cX1_find 23 = .ok (.iload_n 2, 1) := by decide +kernel
theorem dX1_find_24 : decode cX1_find 24 = .ok (.iload_n 1, 1) := by decide +kernel
theorem dX1_find_25 : decode cX1_find 25 = .ok (.if_icmp .ne 5, 3) := by decide +kernel
theorem dX1_find_28 : decode cX1_find 28 = .ok (.iload_n 3, 1) := by decide +kernel
theorem dX1_find_29 : decode cX1_find 29 = .ok (.ireturn, 1) := by decide +kernel
theorem dX1_find_30 : decode cX1_find 30 = .ok (.iinc 2 1, 3) := by decide +kernel
theorem dX1_find_33 : decode cX1_find 33 = .ok (.iinc 3 1, 3) := by decide +kernel
theorem dX1_find_36 : decode cX1_find 36 = .ok (.goto (-28), 3) := by decide +kernel
theorem dX1_find_39 : decode cX1_find 39 = .ok (.iconst (-1), 1) := by decide +kernel
theorem dX1_find_40 : decode cX1_find 40 = .ok (.ireturn, 1) := by decide +kernel
abbrev cX1_markAll : ByteArray := prog_3_method_16_code
def yX1_markAll : MethodName := ⟨RX1, "markAll", "()V"⟩
theorem dX1_markAll_0 : decode cX1_markAll 0 = .ok (.aload_n 0, 1) := by decide +kernel
theorem dX1_markAll_1 : decode cX1_markAll 1 = .ok (.getfield 33, 3) := by decide +kernel
theorem dX1_markAll_4 : decode cX1_markAll 4 = .ok (.ifCond .eq 4, 3) := by decide +kernel
theorem dX1_markAll_7 : decode cX1_markAll 7 = .ok (.return_, 1) := by decide +kernel
theorem dX1_markAll_8 : decode cX1_markAll 8 = .ok (.aload_n 0, 1) := by decide +kernel
theorem dX1_markAll_9 : decode cX1_markAll 9 = .ok (.iconst 1, 1) := by decide +kernel
theorem dX1_markAll_10 : decode cX1_markAll 10 = .ok (.putfield 33, 3) := by decide +kernel
theorem dX1_markAll_13 : decode cX1_markAll 13 = .ok (.iconst 0, 1) := by decide +kernel
theorem dX1_markAll_14 : decode cX1_markAll 14 = .ok (.istore_n 1, 1) := by decide +kernel
theorem dX1_markAll_15 : decode cX1_markAll 15 = .ok (.iload_n 1, 1) := by decide +kernel
theorem dX1_markAll_16 : decode cX1_markAll 16 = .ok (.sipush 171, 3) := by decide +kernel
theorem dX1_markAll_19 : decode cX1_markAll 19 = .ok (.if_icmp .ge 16, 3) := by decide +kernel
theorem dX1_markAll_22 : decode cX1_markAll 22 = .ok (.aload_n 0, 1) := by decide +kernel
theorem dX1_markAll_23 : decode cX1_markAll 23 = .ok (.getfield 19, 3) := by decide +kernel
theorem dX1_markAll_26 : decode cX1_markAll 26 = .ok (.iload_n 1, 1) := by decide +kernel
theorem dX1_markAll_27 : decode cX1_markAll 27 = .ok (.iconst 0, 1) := by decide +kernel
theorem dX1_markAll_28 : decode cX1_markAll 28 = .ok (.iastore, 1) := by decide +kernel
theorem dX1_markAll_29 : decode cX1_markAll 29 = .ok (.iinc 1 1, 3) := by decide +kernel
theorem dX1_markAll_32 : decode cX1_markAll 32 = .ok (.goto (-17), 3) := by decide +kernel
theorem dX1_markAll_35 : decode cX1_markAll 35 = .ok (.iconst 0, 1) := by decide +kernel
theorem dX1_markAll_36 : decode cX1_markAll 36 = .ok (.istore_n 1, 1) := by decide +kernel
theorem dX1_markAll_37 : decode cX1_markAll 37 = .ok (.iload_n 1, 1) := by decide +kernel
theorem dX1_markAll_38 : decode cX1_markAll 38 = .ok (.bipush 7, 2) := by decide +kernel
theorem dX1_markAll_40 : decode cX1_markAll 40 = .ok (.if_icmp .ge 74, 3) := by decide +kernel
theorem dX1_markAll_43 : decode cX1_markAll 43 = .ok (.aload_n 0, 1) := by decide +kernel
theorem dX1_markAll_44 : decode cX1_markAll 44 = .ok (.iload_n 1, 1) := by decide +kernel
theorem dX1_markAll_45 : decode cX1_markAll 45 = .ok (.invokevirtual 66, 3) := by decide +kernel
theorem dX1_markAll_48 : decode cX1_markAll 48 = .ok (.istore_n 2, 1) := by decide +kernel
theorem dX1_markAll_49 : decode cX1_markAll 49 = .ok (.iconst 0, 1) := by decide +kernel
theorem dX1_markAll_50 : decode cX1_markAll 50 = .ok (.istore_n 3, 1) := by decide +kernel
theorem dX1_markAll_51 : decode cX1_markAll 51 = .ok (.iload_n 3, 1) := by decide +kernel
theorem dX1_markAll_52 : decode cX1_markAll 52 = .ok (.iconst 1, 1) := by decide +kernel
theorem dX1_markAll_53 : decode cX1_markAll 53 = .ok (.iconst 2, 1) := by decide +kernel
theorem dX1_markAll_54 : decode cX1_markAll 54 = .ok (.iload_n 1, 1) := by decide +kernel
theorem dX1_markAll_55 : decode cX1_markAll 55 = .ok (.imul, 1) := by decide +kernel
theorem dX1_markAll_56 : decode cX1_markAll 56 = .ok (.ishl, 1) := by decide +kernel
theorem dX1_markAll_57 : decode cX1_markAll 57 = .ok (.if_icmp .ge 51, 3) := by decide +kernel
theorem dX1_markAll_60 : decode cX1_markAll 60 = .ok (.iload_n 2, 1) := by decide +kernel
theorem dX1_markAll_61 : decode cX1_markAll 61 = .ok (.iload_n 3, 1) := by decide +kernel
theorem dX1_markAll_62 : decode cX1_markAll 62 = .ok (.iadd, 1) := by decide +kernel
theorem dX1_markAll_63 : decode cX1_markAll 63 = .ok (.istore 4, 2) := by decide +kernel
theorem dX1_markAll_65 : decode cX1_markAll 65 = .ok (.aload_n 0, 1) := by decide +kernel
theorem dX1_markAll_66 : decode cX1_markAll 66 = .ok (.iload_n 1, 1) := by decide +kernel
theorem dX1_markAll_67 : decode cX1_markAll 67 = .ok (.iload_n 3, 1) := by decide +kernel
end
section
set_option maxRecDepth 100000
theorem dX1_markAll_68 : decode cX1_markAll 68 = .ok (.invokevirtual 70, 3) := by decide +kernel
theorem dX1_markAll_71 : decode cX1_markAll 71 = .ok (.ifCond .eq 31, 3) := by decide +kernel
theorem dX1_markAll_74 : decode cX1_markAll 74 = .ok (.aload_n 0, 1) := by decide +kernel
theorem dX1_markAll_75 : decode cX1_markAll 75 = .ok (.getfield 19, 3) := by decide +kernel
theorem dX1_markAll_78 : decode cX1_markAll 78 = .ok (.iload 4, 2) := by decide +kernel
theorem dX1_markAll_80 : decode cX1_markAll 80 = .ok (.bipush 32, 2) := by decide +kernel
theorem dX1_markAll_82 : decode cX1_markAll 82 = .ok (.idiv, 1) := by decide +kernel
theorem dX1_markAll_83 : decode cX1_markAll 83 = .ok (.aload_n 0, 1) := by decide +kernel
theorem dX1_markAll_84 : decode cX1_markAll 84 = .ok (.getfield 19, 3) := by decide +kernel
theorem dX1_markAll_87 : decode cX1_markAll 87 = .ok (.iload 4, 2) := by decide +kernel
theorem dX1_markAll_89 : decode cX1_markAll 89 = .ok (.bipush 32, 2) := by decide +kernel
theorem dX1_markAll_91 : decode cX1_markAll 91 = .ok (.idiv, 1) := by decide +kernel
theorem dX1_markAll_92 : decode cX1_markAll 92 = .ok (.iaload, 1) := by decide +kernel
theorem dX1_markAll_93 : decode cX1_markAll 93 = .ok (.iconst 1, 1) := by decide +kernel
theorem dX1_markAll_94 : decode cX1_markAll 94 = .ok (.iload 4, 2) := by decide +kernel
theorem dX1_markAll_96 : decode cX1_markAll 96 = .ok (.bipush 32, 2) := by decide +kernel
theorem dX1_markAll_98 : decode cX1_markAll 98 = .ok (.irem, 1) := by decide +kernel
theorem dX1_markAll_99 : decode cX1_markAll 99 = .ok (.ishl, 1) := by decide +kernel
theorem dX1_markAll_100 : decode cX1_markAll 100 = .ok (.ior, 1) := by decide +kernel
theorem dX1_markAll_101 : decode cX1_markAll 101 = .ok (.iastore, 1) := by decide +kernel
theorem dX1_markAll_102 : decode cX1_markAll 102 = .ok (.iinc 3 1, 3) := by decide +kernel
theorem dX1_markAll_105 : decode cX1_markAll 105 = .ok (.goto (-54), 3) := by decide +kernel
theorem dX1_markAll_108 : decode cX1_markAll 108 = .ok (.iinc 1 1, 3) := by decide +kernel
theorem dX1_markAll_111 : decode cX1_markAll 111 = .ok (.goto (-74), 3) := by decide +kernel
theorem dX1_markAll_114 : decode cX1_markAll 114 = .ok (.return_, 1) := by decide +kernel
abbrev cX1_start : ByteArray := prog_3_method_15_code
def yX1_start : MethodName := ⟨RX1, "start", "(I)I"⟩
theorem dX1_start_0 : decode cX1_start 0 = .ok (.iconst 0, 1) := by decide +kernel
theorem dX1_start_1 : decode cX1_start 1 = .ok (.istore_n 2, 1) := by decide +kernel
theorem dX1_start_2 : decode cX1_start 2 = .ok (.iconst 0, 1) := by decide +kernel
theorem dX1_start_3 : decode cX1_start 3 = .ok (.istore_n 3, 1) := by decide +kernel
theorem dX1_start_4 : decode cX1_start 4 = .ok (.iload_n 3, 1) := by decide +kernel
theorem dX1_start_5 : decode cX1_start 5 = .ok (.iload_n 1, 1) := by decide +kernel
theorem dX1_start_6 : decode cX1_start 6 = .ok (.if_icmp .ge 17, 3) := by decide +kernel
theorem dX1_start_9 : decode cX1_start 9 = .ok (.iload_n 2, 1) := by decide +kernel
theorem dX1_start_10 : decode cX1_start 10 = .ok (.iconst 1, 1) := by decide +kernel
theorem dX1_start_11 : decode cX1_start 11 = .ok (.iconst 2, 1) := by decide +kernel
theorem dX1_start_12 : decode cX1_start 12 = .ok (.iload_n 3, 1) := by decide +kernel
theorem dX1_start_13 : decode cX1_start 13 = .ok (.imul, 1) := by decide +kernel
theorem dX1_start_14 : decode cX1_start 14 = .ok (.ishl, 1) := by decide +kernel
theorem dX1_start_15 : decode cX1_start 15 = .ok (.iadd, 1) := by decide +kernel
theorem dX1_start_16 : decode cX1_start 16 = .ok (.istore_n 2, 1) := by decide +kernel
theorem dX1_start_17 : decode cX1_start 17 = .ok (.iinc 3 1, 3) := by decide +kernel
theorem dX1_start_20 : decode cX1_start 20 = .ok (.goto (-16), 3) := by decide +kernel
theorem dX1_start_23 : decode cX1_start 23 = .ok (.iload_n 2, 1) := by decide +kernel
theorem dX1_start_24 : decode cX1_start 24 = .ok (.ireturn, 1) := by decide +kernel
abbrev cX1_failsList : ByteArray := prog_3_method_14_code
def yX1_failsList : MethodName := ⟨RX1, "failsList", "(II)Z"⟩
theorem dX1_failsList_0 : decode cX1_failsList 0 = .ok (.iconst 0, 1) := by decide +kernel
theorem dX1_failsList_1 : decode cX1_failsList 1 = .ok (.istore_n 3, 1) := by decide +kernel
theorem dX1_failsList_2 : decode cX1_failsList 2 = .ok (.iload_n 3, 1) := by decide +kernel
theorem dX1_failsList_3 : decode cX1_failsList 3 = .ok (.aload_n 0, 1) := by decide +kernel
theorem dX1_failsList_4 : decode cX1_failsList 4 = .ok (.getfield 29, 3) := by decide +kernel
theorem dX1_failsList_7 : decode cX1_failsList 7 = .ok (.if_icmp .ge 38, 3) := by decide +kernel
theorem dX1_failsList_10 : decode cX1_failsList 10 = .ok (.aload_n 0, 1) := by decide +kernel
theorem dX1_failsList_11 : decode cX1_failsList 11 = .ok (.iload_n 1, 1) := by decide +kernel
theorem dX1_failsList_12 : decode cX1_failsList 12 = .ok (.iload_n 2, 1) := by decide +kernel
theorem dX1_failsList_13 : decode cX1_failsList 13 = .ok (.aload_n 0, 1) := by decide +kernel
theorem dX1_failsList_14 : decode cX1_failsList 14 = .ok (.getfield 7, 3) := by decide +kernel
theorem dX1_failsList_17 : decode cX1_failsList 17 = .ok (.iload_n 3, 1) := by decide +kernel
theorem dX1_failsList_18 : decode cX1_failsList 18 = .ok (.iaload, 1) := by decide +kernel
theorem dX1_failsList_19 : decode cX1_failsList 19 = .ok (.aload_n 0, 1) := by decide +kernel
theorem dX1_failsList_20 : decode cX1_failsList 20 = .ok (.getfield 13, 3) := by decide +kernel
theorem dX1_failsList_23 : decode cX1_failsList 23 = .ok (.iload_n 3, 1) := by decide +kernel
theorem dX1_failsList_24 : decode cX1_failsList 24 = .ok (.iaload, 1) := by decide +kernel
theorem dX1_failsList_25 : decode cX1_failsList 25 = .ok (.aload_n 0, 1) := by decide +kernel
theorem dX1_failsList_26 : decode cX1_failsList 26 = .ok (.getfield 16, 3) := by decide +kernel
theorem dX1_failsList_29 : decode cX1_failsList 29 = .ok (.iload_n 3, 1) := by decide +kernel
theorem dX1_failsList_30 : decode cX1_failsList 30 = .ok (.iaload, 1) := by decide +kernel
theorem dX1_failsList_31 : decode cX1_failsList 31 = .ok (.invokevirtual 62, 3) := by decide +kernel
theorem dX1_failsList_34 : decode cX1_failsList 34 = .ok (.ifCond .ne 5, 3) := by decide +kernel
theorem dX1_failsList_37 : decode cX1_failsList 37 = .ok (.iconst 0, 1) := by decide +kernel
theorem dX1_failsList_38 : decode cX1_failsList 38 = .ok (.ireturn, 1) := by decide +kernel
theorem dX1_failsList_39 : decode cX1_failsList 39 = .ok (.iinc 3 1, 3) := by decide +kernel
theorem dX1_failsList_42 : decode cX1_failsList 42 = .ok (.goto (-40), 3) := by decide +kernel
theorem dX1_failsList_45 : decode cX1_failsList 45 = .ok (.iconst 1, 1) := by decide +kernel
theorem dX1_failsList_46 : decode cX1_failsList 46 = .ok (.ireturn, 1) := by decide +kernel
abbrev cX1_meets : ByteArray := prog_3_method_13_code
def yX1_meets : MethodName := ⟨RX1, "meets", "(IIIII)Z"⟩
theorem dX1_meets_0 : decode cX1_meets 0 = .ok (.iload_n 3, 1) := by decide +kernel
theorem dX1_meets_1 : decode cX1_meets 1 = .ok (.ifCond .ne 28, 3) := by decide +kernel
theorem dX1_meets_4 : decode cX1_meets 4 = .ok (.iload 4, 2) := by decide +kernel
theorem dX1_meets_6 : decode cX1_meets 6 = .ok (.ifCond .le 21, 3) := by decide +kernel
theorem dX1_meets_9 : decode cX1_meets 9 = .ok (.aload_n 0, 1) := by decide +kernel
theorem dX1_meets_10 : decode cX1_meets 10 = .ok (.iload_n 1, 1) := by decide +kernel
theorem dX1_meets_11 : decode cX1_meets 11 = .ok (.iload_n 2, 1) := by decide +kernel
theorem dX1_meets_12 : decode cX1_meets 12 = .ok (.invokevirtual 47, 3) := by decide +kernel
theorem dX1_meets_15 : decode cX1_meets 15 = .ok (.iload 4, 2) := by decide +kernel
theorem dX1_meets_17 : decode cX1_meets 17 = .ok (.irem, 1) := by decide +kernel
theorem dX1_meets_18 : decode cX1_meets 18 = .ok (.iload 5, 2) := by decide +kernel
theorem dX1_meets_20 : decode cX1_meets 20 = .ok (.if_icmp .ne 7, 3) := by decide +kernel
theorem dX1_meets_23 : decode cX1_meets 23 = .ok (.iconst 1, 1) := by decide +kernel
theorem dX1_meets_24 : decode cX1_meets 24 = .ok (.goto 4, 3) := by decide +kernel
theorem dX1_meets_27 : decode cX1_meets 27 = .ok (.iconst 0, 1) := by decide +kernel
theorem dX1_meets_28 : decode cX1_meets 28 = .ok (.ireturn, 1) := by decide +kernel
theorem dX1_meets_29 : decode cX1_meets 29 = .ok (.iload_n 3, 1) := by decide +kernel
theorem dX1_meets_30 : decode cX1_meets 30 = .ok (.iconst 1, 1) := by decide +kernel
theorem dX1_meets_31 : decode cX1_meets 31 = .ok (.if_icmp .ne 22, 3) := by decide +kernel
theorem dX1_meets_34 : decode cX1_meets 34 = .ok (.aload_n 0, 1) := by decide +kernel
theorem dX1_meets_35 : decode cX1_meets 35 = .ok (.iload_n 1, 1) := by decide +kernel
theorem dX1_meets_36 : decode cX1_meets 36 = .ok (.iload_n 2, 1) := by decide +kernel
theorem dX1_meets_37 : decode cX1_meets 37 = .ok (.iload 4, 2) := by decide +kernel
theorem dX1_meets_39 : decode cX1_meets 39 = .ok (.invokevirtual 51, 3) := by decide +kernel
theorem dX1_meets_42 : decode cX1_meets 42 = .ok (.iload 5, 2) := by decide +kernel
theorem dX1_meets_44 : decode cX1_meets 44 = .ok (.if_icmp .lt 7, 3) := by decide +kernel
theorem dX1_meets_47 : decode cX1_meets 47 = .ok (.iconst 1, 1) := by decide +kernel
theorem dX1_meets_48 : decode cX1_meets 48 = .ok (.goto 4, 3) := by decide +kernel
theorem dX1_meets_51 : decode cX1_meets 51 = .ok (.iconst 0, 1) := by decide +kernel
theorem dX1_meets_52 : decode cX1_meets 52 = .ok (.ireturn, 1) := by decide +kernel
theorem dX1_meets_53 : decode cX1_meets 53 = .ok (.iload_n 3, 1) := by decide +kernel
theorem dX1_meets_54 : decode cX1_meets 54 = .ok (.iconst 2, 1) := by decide +kernel
theorem dX1_meets_55 : decode cX1_meets 55 = .ok (.if_icmp .ne 22, 3) := by decide +kernel
theorem dX1_meets_58 : decode cX1_meets 58 = .ok (.aload_n 0, 1) := by decide +kernel
theorem dX1_meets_59 : decode cX1_meets 59 = .ok (.iload_n 1, 1) := by decide +kernel
theorem dX1_meets_60 : decode cX1_meets 60 = .ok (.iload_n 2, 1) := by decide +kernel
theorem dX1_meets_61 : decode cX1_meets 61 = .ok (.iload 4, 2) := by decide +kernel
theorem dX1_meets_63 : decode cX1_meets 63 = .ok (.invokevirtual 51, 3) := by decide +kernel
theorem dX1_meets_66 : decode cX1_meets 66 = .ok (.iload 5, 2) := by decide +kernel
theorem dX1_meets_68 : decode cX1_meets 68 = .ok (.if_icmp .gt 7, 3) := by decide +kernel
theorem dX1_meets_71 : decode cX1_meets 71 = .ok (.iconst 1, 1) := by decide +kernel
theorem dX1_meets_72 : decode cX1_meets 72 = .ok (.goto 4, 3) := by decide +kernel
theorem dX1_meets_75 : decode cX1_meets 75 = .ok (.iconst 0, 1) := by decide +kernel
theorem dX1_meets_76 : decode cX1_meets 76 = .ok (.ireturn, 1) := by decide +kernel
theorem dX1_meets_77 : decode cX1_meets 77 = .ok (.iload_n 3, 1) := by decide +kernel
theorem dX1_meets_78 : decode cX1_meets 78 = .ok (.iconst 3, 1) := by decide +kernel
theorem dX1_meets_79 : decode cX1_meets 79 = .ok (.if_icmp .ne 14, 3) := by decide +kernel
theorem dX1_meets_82 : decode cX1_meets 82 = .ok (.aload_n 0, 1) := by decide +kernel
theorem dX1_meets_83 : decode cX1_meets 83 = .ok (.iload_n 1, 1) := by decide +kernel
theorem dX1_meets_84 : decode cX1_meets 84 = .ok (.iload_n 2, 1) := by decide +kernel
theorem dX1_meets_85 : decode cX1_meets 85 = .ok (.iload 4, 2) := by decide +kernel
theorem dX1_meets_87 : decode cX1_meets 87 = .ok (.iload 5, 2) := by decide +kernel
theorem dX1_meets_89 : decode cX1_meets 89 = .ok (.invokevirtual 54, 3) := by decide +kernel
theorem dX1_meets_92 : decode cX1_meets 92 = .ok (.ireturn, 1) := by decide +kernel
theorem dX1_meets_93 : decode cX1_meets 93 = .ok (.iload_n 3, 1) := by decide +kernel
theorem dX1_meets_94 : decode cX1_meets 94 = .ok (.iconst 4, 1) := by decide +kernel
theorem dX1_meets_95 : decode cX1_meets 95 = .ok (.if_icmp .ne 22, 3) := by decide +kernel
theorem dX1_meets_98 : decode cX1_meets 98 = .ok (.aload_n 0, 1) := by decide +kernel
theorem dX1_meets_99 : decode cX1_meets 99 = .ok (.iload_n 1, 1) := by decide +kernel
theorem dX1_meets_100 : decode cX1_meets 100 = .ok (.iload_n 2, 1) := by decide +kernel
theorem dX1_meets_101 : decode cX1_meets 101 = .ok (.iload 4, 2) := by decide +kernel
theorem dX1_meets_103 : decode cX1_meets 103 = .ok (.iload 5, 2) := by decide +kernel
theorem dX1_meets_105 : decode cX1_meets 105 = .ok (.invokevirtual 54, 3) := by decide +kernel
theorem dX1_meets_108 : decode cX1_meets 108 = .ok (.ifCond .ne 7, 3) := by decide +kernel
theorem dX1_meets_111 : decode cX1_meets 111 = .ok (.iconst 1, 1) := by decide +kernel
theorem dX1_meets_112 : decode cX1_meets 112 = .ok (.goto 4, 3) := by decide +kernel
theorem dX1_meets_115 : decode cX1_meets 115 = .ok (.iconst 0, 1) := by decide +kernel
theorem dX1_meets_116 : decode cX1_meets 116 = .ok (.ireturn, 1) := by decide +kernel
theorem dX1_meets_117 : decode cX1_meets 117 = .ok (.iload_n 3, 1) := by decide +kernel
theorem dX1_meets_118 : decode cX1_meets 118 = .ok (.iconst 5, 1) := by decide +kernel
theorem dX1_meets_119 : decode cX1_meets 119 = .ok (.if_icmp .ne 25, 3) := by decide +kernel
theorem dX1_meets_122 : decode cX1_meets 122 = .ok (.iload_n 1, 1) := by decide +kernel
theorem dX1_meets_123 : decode cX1_meets 123 = .ok (.ifCond .le 19, 3) := by decide +kernel
theorem dX1_meets_126 : decode cX1_meets 126 = .ok (.aload_n 0, 1) := by decide +kernel
theorem dX1_meets_127 : decode cX1_meets 127 = .ok (.iload_n 1, 1) := by decide +kernel
theorem dX1_meets_128 : decode cX1_meets 128 = .ok (.iload_n 2, 1) := by decide +kernel
theorem dX1_meets_129 : decode cX1_meets 129 = .ok (.iconst 0, 1) := by decide +kernel
theorem dX1_meets_130 : decode cX1_meets 130 = .ok (.invokevirtual 43, 3) := by decide +kernel
theorem dX1_meets_133 : decode cX1_meets 133 = .ok (.iload 4, 2) := by decide +kernel
theorem dX1_meets_135 : decode cX1_meets 135 = .ok (.if_icmp .lt 7, 3) := by decide +kernel
theorem dX1_meets_138 : decode cX1_meets 138 = .ok (.iconst 1, 1) := by decide +kernel
theorem dX1_meets_139 : decode cX1_meets 139 = .ok (.goto 4, 3) := by decide +kernel
theorem dX1_meets_142 : decode cX1_meets 142 = .ok (.iconst 0, 1) := by decide +kernel
theorem dX1_meets_143 : decode cX1_meets 143 = .ok (.ireturn, 1) := by decide +kernel
theorem dX1_meets_144 : decode cX1_meets 144 = .ok (.iload_n 3, 1) := by decide +kernel
theorem dX1_meets_145 : decode cX1_meets 145 = .ok (.bipush 6, 2) := by decide +kernel
theorem dX1_meets_147 : decode cX1_meets 147 = .ok (.if_icmp .ne 27, 3) := by decide +kernel
theorem dX1_meets_150 : decode cX1_meets 150 = .ok (.iload_n 1, 1) := by decide +kernel
theorem dX1_meets_151 : decode cX1_meets 151 = .ok (.ifCond .le 21, 3) := by decide +kernel
theorem dX1_meets_154 : decode cX1_meets 154 = .ok (.aload_n 0, 1) := by decide +kernel
theorem dX1_meets_155 : decode cX1_meets 155 = .ok (.iload_n 1, 1) := by decide +kernel
theorem dX1_meets_156 : decode cX1_meets 156 = .ok (.iload_n 2, 1) := by decide +kernel
theorem dX1_meets_157 : decode cX1_meets 157 = .ok (.iload_n 1, 1) := by decide +kernel
theorem dX1_meets_158 : decode cX1_meets 158 = .ok (.iconst 1, 1) := by decide +kernel
theorem dX1_meets_159 : decode cX1_meets 159 = .ok (.isub, 1) := by decide +kernel
theorem dX1_meets_160 : decode cX1_meets 160 = .ok (.invokevirtual 43, 3) := by decide +kernel
theorem dX1_meets_163 : decode cX1_meets 163 = .ok (.iload 4, 2) := by decide +kernel
theorem dX1_meets_165 : decode cX1_meets 165 = .ok (.if_icmp .lt 7, 3) := by decide +kernel
theorem dX1_meets_168 : decode cX1_meets 168 = .ok (.iconst 1, 1) := by decide +kernel
theorem dX1_meets_169 : decode cX1_meets 169 = .ok (.goto 4, 3) := by decide +kernel
theorem dX1_meets_172 : decode cX1_meets 172 = .ok (.iconst 0, 1) := by decide +kernel
theorem dX1_meets_173 : decode cX1_meets 173 = .ok (.ireturn, 1) := by decide +kernel
theorem dX1_meets_174 : decode cX1_meets 174 = .ok (.iload_n 3, 1) := by decide +kernel
theorem dX1_meets_175 : decode cX1_meets 175 = .ok (.bipush 7, 2) := by decide +kernel
theorem dX1_meets_177 : decode cX1_meets 177 = .ok (.if_icmp .ne 15, 3) := by decide +kernel
theorem dX1_meets_180 : decode cX1_meets 180 = .ok (.iload_n 1, 1) := by decide +kernel
theorem dX1_meets_181 : decode cX1_meets 181 = .ok (.iload 4, 2) := by decide +kernel
theorem dX1_meets_183 : decode cX1_meets 183 = .ok (.if_icmp .lt 7, 3) := by decide +kernel
theorem dX1_meets_186 : decode cX1_meets 186 = .ok (.iconst 1, 1) := by decide +kernel
theorem dX1_meets_187 : decode cX1_meets 187 = .ok (.goto 4, 3) := by decide +kernel
theorem dX1_meets_190 : decode cX1_meets 190 = .ok (.iconst 0, 1) := by decide +kernel
theorem dX1_meets_191 : decode cX1_meets 191 = .ok (.ireturn, 1) := by decide +kernel
theorem dX1_meets_192 : decode cX1_meets 192 = .ok (.iload_n 3, 1) := by decide +kernel
theorem dX1_meets_193 : decode cX1_meets 193 = .ok (.bipush 8, 2) := by decide +kernel
theorem dX1_meets_195 : decode cX1_meets 195 = .ok (.if_icmp .ne 12, 3) := by decide +kernel
theorem dX1_meets_198 : decode cX1_meets 198 = .ok (.aload_n 0, 1) := by decide +kernel
theorem dX1_meets_199 : decode cX1_meets 199 = .ok (.iload_n 1, 1) := by decide +kernel
theorem dX1_meets_200 : decode cX1_meets 200 = .ok (.iload_n 2, 1) := by decide +kernel
theorem dX1_meets_201 : decode cX1_meets 201 = .ok (.invokevirtual 58, 3) := by decide +kernel
theorem dX1_meets_204 : decode cX1_meets 204 = .ok (.goto 23, 3) := by decide +kernel
theorem dX1_meets_207 : decode cX1_meets 207 = .ok (.aload_n 0, 1) := by decide +kernel
theorem dX1_meets_208 : decode cX1_meets 208 = .ok (.iload_n 1, 1) := by decide +kernel
theorem dX1_meets_209 : decode cX1_meets 209 = .ok (.iload_n 2, 1) := by decide +kernel
theorem dX1_meets_210 : decode cX1_meets 210 = .ok (.iload 4, 2) := by decide +kernel
theorem dX1_meets_212 : decode cX1_meets 212 = .ok (.invokevirtual 51, 3) := by decide +kernel
theorem dX1_meets_215 : decode cX1_meets 215 = .ok (.iconst 2, 1) := by decide +kernel
theorem dX1_meets_216 : decode cX1_meets 216 = .ok (.irem, 1) := by decide +kernel
theorem dX1_meets_217 : decode cX1_meets 217 = .ok (.iload 5, 2) := by decide +kernel
theorem dX1_meets_219 : decode cX1_meets 219 = .ok (.if_icmp .ne 7, 3) := by decide +kernel
theorem dX1_meets_222 : decode cX1_meets 222 = .ok (.iconst 1, 1) := by decide +kernel
theorem dX1_meets_223 : decode cX1_meets 223 = .ok (.goto 4, 3) := by decide +kernel
theorem dX1_meets_226 : decode cX1_meets 226 = .ok (.iconst 0, 1) := by decide +kernel
theorem dX1_meets_227 : decode cX1_meets 227 = .ok (.ireturn, 1) := by decide +kernel
abbrev cX1_sum : ByteArray := prog_3_method_10_code
def yX1_sum : MethodName := ⟨RX1, "sum", "(II)I"⟩
theorem dX1_sum_0 : decode cX1_sum 0 = .ok (.iconst 0, 1) := by decide +kernel
theorem dX1_sum_1 : decode cX1_sum 1 = .ok (.istore_n 3, 1) := by decide +kernel
theorem dX1_sum_2 : decode cX1_sum 2 = .ok (.iconst 0, 1) := by decide +kernel
theorem dX1_sum_3 : decode cX1_sum 3 = .ok (.istore 4, 2) := by decide +kernel
theorem dX1_sum_5 : decode cX1_sum 5 = .ok (.iload 4, 2) := by decide +kernel
theorem dX1_sum_7 : decode cX1_sum 7 = .ok (.iload_n 1, 1) := by decide +kernel
theorem dX1_sum_8 : decode cX1_sum 8 = .ok (.if_icmp .ge 24, 3) := by decide +kernel
theorem dX1_sum_11 : decode cX1_sum 11 = .ok (.aload_n 0, 1) := by decide +kernel
theorem dX1_sum_12 : decode cX1_sum 12 = .ok (.iload_n 1, 1) := by decide +kernel
theorem dX1_sum_13 : decode cX1_sum 13 = .ok (.iload_n 2, 1) := by decide +kernel
theorem dX1_sum_14 : decode cX1_sum 14 = .ok (.iload 4, 2) := by decide +kernel
theorem dX1_sum_16 : decode cX1_sum 16 = .ok (.invokevirtual 43, 3) := by decide +kernel
theorem dX1_sum_19 : decode cX1_sum 19 = .ok (.istore 5, 2) := by decide +kernel
theorem dX1_sum_21 : decode cX1_sum 21 = .ok (.iload_n 3, 1) := by decide +kernel
theorem dX1_sum_22 : decode cX1_sum 22 = .ok (.iload 5, 2) := by decide +kernel
theorem dX1_sum_24 : decode cX1_sum 24 = .ok (.iadd, 1) := by decide +kernel
theorem dX1_sum_25 : decode cX1_sum 25 = .ok (.istore_n 3, 1) := by decide +kernel
theorem dX1_sum_26 : decode cX1_sum 26 = .ok (.iinc 4 1, 3) := by decide +kernel
theorem dX1_sum_29 : decode cX1_sum 29 = .ok (.goto (-24), 3) := by decide +kernel
theorem dX1_sum_32 : decode cX1_sum 32 = .ok (.iload_n 3, 1) := by decide +kernel
theorem dX1_sum_33 : decode cX1_sum 33 = .ok (.ireturn, 1) := by decide +kernel
abbrev cX1_at : ByteArray := prog_3_method_8_code
def yX1_at : MethodName := ⟨RX1, "at", "(III)I"⟩
theorem dX1_at_0 : decode cX1_at 0 = .ok (.iload_n 2, 1) := by decide +kernel
theorem dX1_at_1 : decode cX1_at 1 = .ok (.iconst 2, 1) := by decide +kernel
theorem dX1_at_2 : decode cX1_at 2 = .ok (.iload_n 1, 1) := by decide +kernel
theorem dX1_at_3 : decode cX1_at 3 = .ok (.iconst 1, 1) := by decide +kernel
theorem dX1_at_4 : decode cX1_at 4 = .ok (.isub, 1) := by decide +kernel
theorem dX1_at_5 : decode cX1_at 5 = .ok (.iload_n 3, 1) := by decide +kernel
theorem dX1_at_6 : decode cX1_at 6 = .ok (.isub, 1) := by decide +kernel
theorem dX1_at_7 : decode cX1_at 7 = .ok (.imul, 1) := by decide +kernel
theorem dX1_at_8 : decode cX1_at 8 = .ok (.ishr, 1) := by decide +kernel
theorem dX1_at_9 : decode cX1_at 9 = .ok (.iconst 3, 1) := by decide +kernel
theorem dX1_at_10 : decode cX1_at 10 = .ok (.iand, 1) := by decide +kernel
theorem dX1_at_11 : decode cX1_at 11 = .ok (.ireturn, 1) := by decide +kernel
abbrev cX1_occurs : ByteArray := prog_3_method_9_code
def yX1_occurs : MethodName := ⟨RX1, "occurs", "(III)I"⟩
theorem dX1_occurs_0 : decode cX1_occurs 0 = .ok (.iconst 0, 1) := by decide +kernel
theorem dX1_occurs_1 : decode cX1_occurs 1 = .ok (.istore 4, 2) := by decide +kernel
theorem dX1_occurs_3 : decode cX1_occurs 3 = .ok (.iconst 0, 1) := by decide +kernel
theorem dX1_occurs_4 : decode cX1_occurs 4 = .ok (.istore 5, 2) := by decide +kernel
theorem dX1_occurs_6 : decode cX1_occurs 6 = .ok (.iload 5, 2) := by decide +kernel
theorem dX1_occurs_8 : decode cX1_occurs 8 = .ok (.iload_n 1, 1) := by decide +kernel
theorem dX1_occurs_9 : decode cX1_occurs 9 = .ok (.if_icmp .ge 24, 3) := by decide +kernel
theorem dX1_occurs_12 : decode cX1_occurs 12 = .ok (.aload_n 0, 1) := by decide +kernel
theorem dX1_occurs_13 : decode cX1_occurs 13 = .ok (.iload_n 1, 1) := by decide +kernel
theorem dX1_occurs_14 : decode cX1_occurs 14 = .ok (.iload_n 2, 1) := by decide +kernel
theorem dX1_occurs_15 : decode cX1_occurs 15 = .ok (.iload 5, 2) := by decide +kernel
theorem dX1_occurs_17 : decode cX1_occurs 17 = .ok (.invokevirtual 43, 3) := by decide +kernel
theorem dX1_occurs_20 : decode cX1_occurs 20 = .ok (.iload_n 3, 1) := by decide +kernel
theorem dX1_occurs_21 : decode cX1_occurs 21 = .ok (.if_icmp .ne 6, 3) := by decide +kernel
theorem dX1_occurs_24 : decode cX1_occurs 24 = .ok (.iinc 4 1, 3) := by decide +kernel
theorem dX1_occurs_27 : decode cX1_occurs 27 = .ok (.iinc 5 1, 3) := by decide +kernel
theorem dX1_occurs_30 : decode cX1_occurs 30 = .ok (.goto (-24), 3) := by decide +kernel
theorem dX1_occurs_33 : decode cX1_occurs 33 = .ok (.iload 4, 2) := by decide +kernel
theorem dX1_occurs_35 : decode cX1_occurs 35 = .ok (.ireturn, 1) := by decide +kernel
abbrev cX1_pair : ByteArray := prog_3_method_11_code
def yX1_pair : MethodName := ⟨RX1, "pair", "(IIII)Z"⟩
theorem dX1_pair_0 : decode cX1_pair 0 = .ok (.iconst 0, 1) := by decide +kernel
theorem dX1_pair_1 : decode cX1_pair 1 = .ok (.istore 5, 2) := by decide +kernel
theorem dX1_pair_3 : decode cX1_pair 3 = .ok (.iload 5, 2) := by decide +kernel
theorem dX1_pair_5 : decode cX1_pair 5 = .ok (.iconst 1, 1) := by decide +kernel
theorem dX1_pair_6 : decode cX1_pair 6 = .ok (.iadd, 1) := by decide +kernel
theorem dX1_pair_7 : decode cX1_pair 7 = .ok (.iload_n 1, 1) := by decide +kernel
theorem dX1_pair_8 : decode cX1_pair 8 = .ok (.if_icmp .ge 38, 3) := by decide +kernel
theorem dX1_pair_11 : decode cX1_pair 11 = .ok (.aload_n 0, 1) := by decide +kernel
theorem dX1_pair_12 : decode cX1_pair 12 = .ok (.iload_n 1, 1) := by decide +kernel
theorem dX1_pair_13 : decode cX1_pair 13 = .ok (.iload_n 2, 1) := by decide +kernel
theorem dX1_pair_14 : decode cX1_pair 14 = .ok (.iload 5, 2) := by decide +kernel
theorem dX1_pair_16 : decode cX1_pair 16 = .ok (.invokevirtual 43, 3) := by decide +kernel
theorem dX1_pair_19 : decode cX1_pair 19 = .ok (.iload_n 3, 1) := by decide +kernel
theorem dX1_pair_20 : decode cX1_pair 20 = .ok (.if_icmp .ne 20, 3) := by decide +kernel
theorem dX1_pair_23 : decode cX1_pair 23 = .ok (.aload_n 0, 1) := by decide +kernel
theorem dX1_pair_24 : decode cX1_pair 24 = .ok (.iload_n 1, 1) := by decide +kernel
theorem dX1_pair_25 : decode cX1_pair 25 = .ok (.iload_n 2, 1) := by decide +kernel
theorem dX1_pair_26 : decode cX1_pair 26 = .ok (.iload 5, 2) := by decide +kernel
theorem dX1_pair_28 : decode cX1_pair 28 = .ok (.iconst 1, 1) := by decide +kernel
theorem dX1_pair_29 : decode cX1_pair 29 = .ok (.iadd, 1) := by decide +kernel
theorem dX1_pair_30 : decode cX1_pair 30 = .ok (.invokevirtual 43, 3) := by decide +kernel
theorem dX1_pair_33 : decode cX1_pair 33 = .ok (.iload 4, 2) := by decide +kernel
theorem dX1_pair_35 : decode cX1_pair 35 = .ok (.if_icmp .ne 5, 3) := by decide +kernel
theorem dX1_pair_38 : decode cX1_pair 38 = .ok (.iconst 1, 1) := by decide +kernel
theorem dX1_pair_39 : decode cX1_pair 39 = .ok (.ireturn, 1) := by decide +kernel
theorem dX1_pair_40 : decode cX1_pair 40 = .ok (.iinc 5 1, 3) := by decide +kernel
theorem dX1_pair_43 : decode cX1_pair 43 = .ok (.goto (-40), 3) := by decide +kernel
theorem dX1_pair_46 : decode cX1_pair 46 = .ok (.iconst 0, 1) := by decide +kernel
theorem dX1_pair_47 : decode cX1_pair 47 = .ok (.ireturn, 1) := by decide +kernel
abbrev cX1_rises : ByteArray := prog_3_method_12_code
def yX1_rises : MethodName := ⟨RX1, "rises", "(II)Z"⟩
theorem dX1_rises_0 : decode cX1_rises 0 = .ok (.iconst 0, 1) := by decide +kernel
theorem dX1_rises_1 : decode cX1_rises 1 = .ok (.istore_n 3, 1) := by decide +kernel
theorem dX1_rises_2 : decode cX1_rises 2 = .ok (.iload_n 3, 1) := by decide +kernel
theorem dX1_rises_3 : decode cX1_rises 3 = .ok (.iconst 1, 1) := by decide +kernel
theorem dX1_rises_4 : decode cX1_rises 4 = .ok (.iadd, 1) := by decide +kernel
theorem dX1_rises_5 : decode cX1_rises 5 = .ok (.iload_n 1, 1) := by decide +kernel
theorem dX1_rises_6 : decode cX1_rises 6 = .ok (.if_icmp .ge 30, 3) := by decide +kernel
theorem dX1_rises_9 : decode cX1_rises 9 = .ok (.aload_n 0, 1) := by decide +kernel
theorem dX1_rises_10 : decode cX1_rises 10 = .ok (.iload_n 1, 1) := by decide +kernel
theorem dX1_rises_11 : decode cX1_rises 11 = .ok (.iload_n 2, 1) := by decide +kernel
theorem dX1_rises_12 : decode cX1_rises 12 = .ok (.iload_n 3, 1) := by decide +kernel
theorem dX1_rises_13 : decode cX1_rises 13 = .ok (.invokevirtual 43, 3) := by decide +kernel
theorem dX1_rises_16 : decode cX1_rises 16 = .ok (.aload_n 0, 1) := by decide +kernel
theorem dX1_rises_17 : decode cX1_rises 17 = .ok (.iload_n 1, 1) := by decide +kernel
theorem dX1_rises_18 : decode cX1_rises 18 = .ok (.iload_n 2, 1) := by decide +kernel
theorem dX1_rises_19 : decode cX1_rises 19 = .ok (.iload_n 3, 1) := by decide +kernel
theorem dX1_rises_20 : decode cX1_rises 20 = .ok (.iconst 1, 1) := by decide +kernel
theorem dX1_rises_21 : decode cX1_rises 21 = .ok (.iadd, 1) := by decide +kernel
theorem dX1_rises_22 : decode cX1_rises 22 = .ok (.invokevirtual 43, 3) := by decide +kernel
theorem dX1_rises_25 : decode cX1_rises 25 = .ok (.if_icmp .ge 5, 3) := by decide +kernel
theorem dX1_rises_28 : decode cX1_rises 28 = .ok (.iconst 1, 1) := by decide +kernel
theorem dX1_rises_29 : decode cX1_rises 29 = .ok (.ireturn, 1) := by decide +kernel
theorem dX1_rises_30 : decode cX1_rises 30 = .ok (.iinc 3 1, 3) := by decide +kernel
theorem dX1_rises_33 : decode cX1_rises 33 = .ok (.goto (-31), 3) := by decide +kernel
theorem dX1_rises_36 : decode cX1_rises 36 = .ok (.iconst 0, 1) := by decide +kernel
theorem dX1_rises_37 : decode cX1_rises 37 = .ok (.ireturn, 1) := by decide +kernel
abbrev cX1_marked : ByteArray := prog_3_method_17_code
def yX1_marked : MethodName := ⟨RX1, "marked", "(I)Z"⟩
theorem dX1_marked_0 : decode cX1_marked 0 = .ok (.aload_n 0, 1) := by decide +kernel
theorem dX1_marked_1 : decode cX1_marked 1 = .ok (.getfield 19, 3) := by decide +kernel
theorem dX1_marked_4 : decode cX1_marked 4 = .ok (.iload_n 1, 1) := by decide +kernel
theorem dX1_marked_5 : decode cX1_marked 5 = .ok (.bipush 32, 2) := by decide +kernel
theorem dX1_marked_7 : decode cX1_marked 7 = .ok (.idiv, 1) := by decide +kernel
theorem dX1_marked_8 : decode cX1_marked 8 = .ok (.iaload, 1) := by decide +kernel
theorem dX1_marked_9 : decode cX1_marked 9 = .ok (.iload_n 1, 1) := by decide +kernel
theorem dX1_marked_10 : decode cX1_marked 10 = .ok (.bipush 32, 2) := by decide +kernel
theorem dX1_marked_12 : decode cX1_marked 12 = .ok (.irem, 1) := by decide +kernel
theorem dX1_marked_13 : decode cX1_marked 13 = .ok (.ishr, 1) := by decide +kernel
theorem dX1_marked_14 : decode cX1_marked 14 = .ok (.iconst 1, 1) := by decide +kernel
theorem dX1_marked_15 : decode cX1_marked 15 = .ok (.iand, 1) := by decide +kernel
theorem dX1_marked_16 : decode cX1_marked 16 = .ok (.iconst 1, 1) := by decide +kernel
theorem dX1_marked_17 : decode cX1_marked 17 = .ok (.if_icmp .ne 7, 3) := by decide +kernel
end
section
set_option maxRecDepth 100000
theorem dX1_marked_20 : decode cX1_marked 20 = .ok (.iconst 1, 1) := by decide +kernel
theorem dX1_marked_21 : decode cX1_marked 21 = .ok (.goto 4, 3) := by decide +kernel
theorem dX1_marked_24 : decode cX1_marked 24 = .ok (.iconst 0, 1) := by decide +kernel
theorem dX1_marked_25 : decode cX1_marked 25 = .ok (.ireturn, 1) := by decide +kernel
abbrev cX1_lengthOf : ByteArray := prog_3_method_20_code
def yX1_lengthOf : MethodName := ⟨RX1, "lengthOf", "(I)I"⟩
theorem dX1_lengthOf_0 : decode cX1_lengthOf 0 = .ok (.iconst 0, 1) := by decide +kernel
theorem dX1_lengthOf_1 : decode cX1_lengthOf 1 = .ok (.istore_n 2, 1) := by decide +kernel
theorem dX1_lengthOf_2 : decode cX1_lengthOf 2 = .ok (.iconst 1, 1) := by decide +kernel
theorem dX1_lengthOf_3 : decode cX1_lengthOf 3 = .ok (.istore_n 3, 1) := by decide +kernel
theorem dX1_lengthOf_4 : decode cX1_lengthOf 4 = .ok (.iload_n 3, 1) := by decide +kernel
theorem dX1_lengthOf_5 : decode cX1_lengthOf 5 = .ok (.bipush 7, 2) := by decide +kernel
theorem dX1_lengthOf_7 : decode cX1_lengthOf 7 = .ok (.if_icmp .ge 20, 3) := by decide +kernel
theorem dX1_lengthOf_10 : decode cX1_lengthOf 10 = .ok (.iload_n 1, 1) := by decide +kernel
theorem dX1_lengthOf_11 : decode cX1_lengthOf 11 = .ok (.aload_n 0, 1) := by decide +kernel
theorem dX1_lengthOf_12 : decode cX1_lengthOf 12 = .ok (.iload_n 3, 1) := by decide +kernel
theorem dX1_lengthOf_13 : decode cX1_lengthOf 13 = .ok (.invokevirtual 66, 3) := by decide +kernel
theorem dX1_lengthOf_16 : decode cX1_lengthOf 16 = .ok (.if_icmp .lt 5, 3) := by decide +kernel
theorem dX1_lengthOf_19 : decode cX1_lengthOf 19 = .ok (.iload_n 3, 1) := by decide +kernel
theorem dX1_lengthOf_20 : decode cX1_lengthOf 20 = .ok (.istore_n 2, 1) := by decide +kernel
theorem dX1_lengthOf_21 : decode cX1_lengthOf 21 = .ok (.iinc 3 1, 3) := by decide +kernel
theorem dX1_lengthOf_24 : decode cX1_lengthOf 24 = .ok (.goto (-20), 3) := by decide +kernel
theorem dX1_lengthOf_27 : decode cX1_lengthOf 27 = .ok (.iload_n 2, 1) := by decide +kernel
theorem dX1_lengthOf_28 : decode cX1_lengthOf 28 = .ok (.ireturn, 1) := by decide +kernel
abbrev cX1_failing : ByteArray := prog_3_method_22_code
def yX1_failing : MethodName := ⟨RX1, "failing", "()I"⟩
theorem dX1_failing_0 : decode cX1_failing 0 = .ok (.aload_n 0, 1) := by decide +kernel
theorem dX1_failing_1 : decode cX1_failing 1 = .ok (.iconst 0, 1) := by decide +kernel
theorem dX1_failing_2 : decode cX1_failing 2 = .ok (.sipush 5461, 3) := by decide +kernel
theorem dX1_failing_5 : decode cX1_failing 5 = .ok (.invokevirtual 86, 3) := by decide +kernel
theorem dX1_failing_8 : decode cX1_failing 8 = .ok (.ireturn, 1) := by decide +kernel
abbrev cX1_between : ByteArray := prog_3_method_18_code
def yX1_between : MethodName := ⟨RX1, "between", "(II)I"⟩
theorem dX1_between_0 : decode cX1_between 0 = .ok (.aload_n 0, 1) := by decide +kernel
theorem dX1_between_1 : decode cX1_between 1 = .ok (.invokevirtual 73, 3) := by decide +kernel
theorem dX1_between_4 : decode cX1_between 4 = .ok (.iconst 0, 1) := by decide +kernel
theorem dX1_between_5 : decode cX1_between 5 = .ok (.istore_n 3, 1) := by decide +kernel
theorem dX1_between_6 : decode cX1_between 6 = .ok (.iload_n 1, 1) := by decide +kernel
theorem dX1_between_7 : decode cX1_between 7 = .ok (.istore 4, 2) := by decide +kernel
theorem dX1_between_9 : decode cX1_between 9 = .ok (.iload 4, 2) := by decide +kernel
theorem dX1_between_11 : decode cX1_between 11 = .ok (.iload_n 2, 1) := by decide +kernel
theorem dX1_between_12 : decode cX1_between 12 = .ok (.if_icmp .ge 21, 3) := by decide +kernel
theorem dX1_between_15 : decode cX1_between 15 = .ok (.aload_n 0, 1) := by decide +kernel
theorem dX1_between_16 : decode cX1_between 16 = .ok (.iload 4, 2) := by decide +kernel
theorem dX1_between_18 : decode cX1_between 18 = .ok (.invokevirtual 76, 3) := by decide +kernel
theorem dX1_between_21 : decode cX1_between 21 = .ok (.ifCond .eq 6, 3) := by decide +kernel
theorem dX1_between_24 : decode cX1_between 24 = .ok (.iinc 3 1, 3) := by decide +kernel
theorem dX1_between_27 : decode cX1_between 27 = .ok (.iinc 4 1, 3) := by decide +kernel
theorem dX1_between_30 : decode cX1_between 30 = .ok (.goto (-21), 3) := by decide +kernel
theorem dX1_between_33 : decode cX1_between 33 = .ok (.iload_n 3, 1) := by decide +kernel
theorem dX1_between_34 : decode cX1_between 34 = .ok (.ireturn, 1) := by decide +kernel
abbrev cX1_failingOf : ByteArray := prog_3_method_23_code
def yX1_failingOf : MethodName := ⟨RX1, "failingOf", "(I)I"⟩
theorem dX1_failingOf_0 : decode cX1_failingOf 0 = .ok (.iload_n 1, 1) := by decide +kernel
theorem dX1_failingOf_1 : decode cX1_failingOf 1 = .ok (.ifCond .lt 9, 3) := by decide +kernel
theorem dX1_failingOf_4 : decode cX1_failingOf 4 = .ok (.iload_n 1, 1) := by decide +kernel
theorem dX1_failingOf_5 : decode cX1_failingOf 5 = .ok (.bipush 6, 2) := by decide +kernel
theorem dX1_failingOf_7 : decode cX1_failingOf 7 = .ok (.if_icmp .le 5, 3) := by decide +kernel
theorem dX1_failingOf_10 : decode cX1_failingOf 10 = .ok (.iconst 0, 1) := by decide +kernel
theorem dX1_failingOf_11 : decode cX1_failingOf 11 = .ok (.ireturn, 1) := by decide +kernel
theorem dX1_failingOf_12 : decode cX1_failingOf 12 = .ok (.aload_n 0, 1) := by decide +kernel
theorem dX1_failingOf_13 : decode cX1_failingOf 13 = .ok (.iload_n 1, 1) := by decide +kernel
theorem dX1_failingOf_14 : decode cX1_failingOf 14 = .ok (.invokevirtual 66, 3) := by decide +kernel
theorem dX1_failingOf_17 : decode cX1_failingOf 17 = .ok (.istore_n 2, 1) := by decide +kernel
theorem dX1_failingOf_18 : decode cX1_failingOf 18 = .ok (.aload_n 0, 1) := by decide +kernel
theorem dX1_failingOf_19 : decode cX1_failingOf 19 = .ok (.iload_n 1, 1) := by decide +kernel
theorem dX1_failingOf_20 : decode cX1_failingOf 20 = .ok (.iconst 1, 1) := by decide +kernel
theorem dX1_failingOf_21 : decode cX1_failingOf 21 = .ok (.iadd, 1) := by decide +kernel
theorem dX1_failingOf_22 : decode cX1_failingOf 22 = .ok (.invokevirtual 66, 3) := by decide +kernel
theorem dX1_failingOf_25 : decode cX1_failingOf 25 = .ok (.istore_n 3, 1) := by decide +kernel
theorem dX1_failingOf_26 : decode cX1_failingOf 26 = .ok (.aload_n 0, 1) := by decide +kernel
theorem dX1_failingOf_27 : decode cX1_failingOf 27 = .ok (.iload_n 2, 1) := by decide +kernel
theorem dX1_failingOf_28 : decode cX1_failingOf 28 = .ok (.iload_n 3, 1) := by decide +kernel
theorem dX1_failingOf_29 : decode cX1_failingOf 29 = .ok (.invokevirtual 86, 3) := by decide +kernel
theorem dX1_failingOf_32 : decode cX1_failingOf 32 = .ok (.ireturn, 1) := by decide +kernel
abbrev cX1_fails : ByteArray := prog_3_method_24_code
def yX1_fails : MethodName := ⟨RX1, "fails", "()Z"⟩
theorem dX1_fails_0 : decode cX1_fails 0 = .ok (.aload_n 0, 1) := by decide +kernel
theorem dX1_fails_1 : decode cX1_fails 1 = .ok (.aload_n 0, 1) := by decide +kernel
theorem dX1_fails_2 : decode cX1_fails 2 = .ok (.getfield 37, 3) := by decide +kernel
theorem dX1_fails_5 : decode cX1_fails 5 = .ok (.aload_n 0, 1) := by decide +kernel
theorem dX1_fails_6 : decode cX1_fails 6 = .ok (.getfield 40, 3) := by decide +kernel
theorem dX1_fails_9 : decode cX1_fails 9 = .ok (.invokevirtual 70, 3) := by decide +kernel
theorem dX1_fails_12 : decode cX1_fails 12 = .ok (.ireturn, 1) := by decide +kernel
abbrev cX1_rank : ByteArray := prog_3_method_25_code
def yX1_rank : MethodName := ⟨RX1, "rank", "()I"⟩
theorem dX1_rank_0 : decode cX1_rank 0 = .ok (.aload_n 0, 1) := by decide +kernel
theorem dX1_rank_1 : decode cX1_rank 1 = .ok (.aload_n 0, 1) := by decide +kernel
theorem dX1_rank_2 : decode cX1_rank 2 = .ok (.getfield 37, 3) := by decide +kernel
theorem dX1_rank_5 : decode cX1_rank 5 = .ok (.invokevirtual 66, 3) := by decide +kernel
theorem dX1_rank_8 : decode cX1_rank 8 = .ok (.aload_n 0, 1) := by decide +kernel
theorem dX1_rank_9 : decode cX1_rank 9 = .ok (.getfield 40, 3) := by decide +kernel
theorem dX1_rank_12 : decode cX1_rank 12 = .ok (.iadd, 1) := by decide +kernel
theorem dX1_rank_13 : decode cX1_rank 13 = .ok (.istore_n 1, 1) := by decide +kernel
theorem dX1_rank_14 : decode cX1_rank 14 = .ok (.aload_n 0, 1) := by decide +kernel
theorem dX1_rank_15 : decode cX1_rank 15 = .ok (.iconst 0, 1) := by decide +kernel
theorem dX1_rank_16 : decode cX1_rank 16 = .ok (.iload_n 1, 1) := by decide +kernel
theorem dX1_rank_17 : decode cX1_rank 17 = .ok (.invokevirtual 86, 3) := by decide +kernel
theorem dX1_rank_20 : decode cX1_rank 20 = .ok (.ireturn, 1) := by decide +kernel
abbrev cX1_extending : ByteArray := prog_3_method_26_code
def yX1_extending : MethodName := ⟨RX1, "extending", "()I"⟩
theorem dX1_extending_0 : decode cX1_extending 0 = .ok (.aload_n 0, 1) := by decide +kernel
theorem dX1_extending_1 : decode cX1_extending 1 = .ok (.invokevirtual 73, 3) := by decide +kernel
theorem dX1_extending_4 : decode cX1_extending 4 = .ok (.iconst 0, 1) := by decide +kernel
theorem dX1_extending_5 : decode cX1_extending 5 = .ok (.istore_n 1, 1) := by decide +kernel
theorem dX1_extending_6 : decode cX1_extending 6 = .ok (.aload_n 0, 1) := by decide +kernel
theorem dX1_extending_7 : decode cX1_extending 7 = .ok (.getfield 37, 3) := by decide +kernel
theorem dX1_extending_10 : decode cX1_extending 10 = .ok (.istore_n 2, 1) := by decide +kernel
theorem dX1_extending_11 : decode cX1_extending 11 = .ok (.iload_n 2, 1) := by decide +kernel
theorem dX1_extending_12 : decode cX1_extending 12 = .ok (.bipush 7, 2) := by decide +kernel
theorem dX1_extending_14 : decode cX1_extending 14 = .ok (.if_icmp .ge 66, 3) := by decide +kernel
theorem dX1_extending_17 : decode cX1_extending 17 = .ok (.aload_n 0, 1) := by decide +kernel
theorem dX1_extending_18 : decode cX1_extending 18 = .ok (.iload_n 2, 1) := by decide +kernel
theorem dX1_extending_19 : decode cX1_extending 19 = .ok (.invokevirtual 66, 3) := by decide +kernel
theorem dX1_extending_22 : decode cX1_extending 22 = .ok (.istore_n 3, 1) := by decide +kernel
theorem dX1_extending_23 : decode cX1_extending 23 = .ok (.iconst 0, 1) := by decide +kernel
theorem dX1_extending_24 : decode cX1_extending 24 = .ok (.istore 4, 2) := by decide +kernel
theorem dX1_extending_26 : decode cX1_extending 26 = .ok (.iload 4, 2) := by decide +kernel
theorem dX1_extending_28 : decode cX1_extending 28 = .ok (.iconst 1, 1) := by decide +kernel
theorem dX1_extending_29 : decode cX1_extending 29 = .ok (.iconst 2, 1) := by decide +kernel
theorem dX1_extending_30 : decode cX1_extending 30 = .ok (.iload_n 2, 1) := by decide +kernel
theorem dX1_extending_31 : decode cX1_extending 31 = .ok (.imul, 1) := by decide +kernel
theorem dX1_extending_32 : decode cX1_extending 32 = .ok (.ishl, 1) := by decide +kernel
theorem dX1_extending_33 : decode cX1_extending 33 = .ok (.if_icmp .ge 41, 3) := by decide +kernel
theorem dX1_extending_36 : decode cX1_extending 36 = .ok (.aload_n 0, 1) := by decide +kernel
theorem dX1_extending_37 : decode cX1_extending 37 = .ok (.iload_n 3, 1) := by decide +kernel
theorem dX1_extending_38 : decode cX1_extending 38 = .ok (.iload 4, 2) := by decide +kernel
theorem dX1_extending_40 : decode cX1_extending 40 = .ok (.iadd, 1) := by decide +kernel
theorem dX1_extending_41 : decode cX1_extending 41 = .ok (.invokevirtual 76, 3) := by decide +kernel
theorem dX1_extending_44 : decode cX1_extending 44 = .ok (.ifCond .eq 24, 3) := by decide +kernel
theorem dX1_extending_47 : decode cX1_extending 47 = .ok (.iload 4, 2) := by decide +kernel
theorem dX1_extending_49 : decode cX1_extending 49 = .ok (.iconst 2, 1) := by decide +kernel
theorem dX1_extending_50 : decode cX1_extending 50 = .ok (.iload_n 2, 1) := by decide +kernel
theorem dX1_extending_51 : decode cX1_extending 51 = .ok (.aload_n 0, 1) := by decide +kernel
theorem dX1_extending_52 : decode cX1_extending 52 = .ok (.getfield 37, 3) := by decide +kernel
theorem dX1_extending_55 : decode cX1_extending 55 = .ok (.isub, 1) := by decide +kernel
theorem dX1_extending_56 : decode cX1_extending 56 = .ok (.imul, 1) := by decide +kernel
theorem dX1_extending_57 : decode cX1_extending 57 = .ok (.ishr, 1) := by decide +kernel
theorem dX1_extending_58 : decode cX1_extending 58 = .ok (.aload_n 0, 1) := by decide +kernel
theorem dX1_extending_59 : decode cX1_extending 59 = .ok (.getfield 40, 3) := by decide +kernel
theorem dX1_extending_62 : decode cX1_extending 62 = .ok (.if_icmp .ne 6, 3) := by decide +kernel
theorem dX1_extending_65 : decode cX1_extending 65 = .ok (.iinc 1 1, 3) := by decide +kernel
theorem dX1_extending_68 : decode cX1_extending 68 = .ok (.iinc 4 1, 3) := by decide +kernel
theorem dX1_extending_71 : decode cX1_extending 71 = .ok (.goto (-45), 3) := by decide +kernel
theorem dX1_extending_74 : decode cX1_extending 74 = .ok (.iinc 2 1, 3) := by decide +kernel
theorem dX1_extending_77 : decode cX1_extending 77 = .ok (.goto (-66), 3) := by decide +kernel
theorem dX1_extending_80 : decode cX1_extending 80 = .ok (.iload_n 1, 1) := by decide +kernel
theorem dX1_extending_81 : decode cX1_extending 81 = .ok (.ireturn, 1) := by decide +kernel
abbrev cX1_leastLength : ByteArray := prog_3_method_27_code
def yX1_leastLength : MethodName := ⟨RX1, "leastLength", "()I"⟩
theorem dX1_leastLength_0 : decode cX1_leastLength 0 = .ok (.aload_n 0, 1) := by decide +kernel
theorem dX1_leastLength_1 : decode cX1_leastLength 1 = .ok (.iconst 0, 1) := by decide +kernel
theorem dX1_leastLength_2 : decode cX1_leastLength 2 = .ok (.invokevirtual 80, 3) := by decide +kernel
theorem dX1_leastLength_5 : decode cX1_leastLength 5 = .ok (.istore_n 1, 1) := by decide +kernel
theorem dX1_leastLength_6 : decode cX1_leastLength 6 = .ok (.iload_n 1, 1) := by decide +kernel
theorem dX1_leastLength_7 : decode cX1_leastLength 7 = .ok (.ifCond .ge 8, 3) := by decide +kernel
theorem dX1_leastLength_10 : decode cX1_leastLength 10 = .ok (.bipush (-4), 2) := by decide +kernel
theorem dX1_leastLength_12 : decode cX1_leastLength 12 = .ok (.goto 8, 3) := by decide +kernel
theorem dX1_leastLength_15 : decode cX1_leastLength 15 = .ok (.aload_n 0, 1) := by decide +kernel
theorem dX1_leastLength_16 : decode cX1_leastLength 16 = .ok (.iload_n 1, 1) := by decide +kernel
theorem dX1_leastLength_17 : decode cX1_leastLength 17 = .ok (.invokevirtual 83, 3) := by decide +kernel
theorem dX1_leastLength_20 : decode cX1_leastLength 20 = .ok (.ireturn, 1) := by decide +kernel
abbrev cX1_least : ByteArray := prog_3_method_28_code
def yX1_least : MethodName := ⟨RX1, "least", "(I)I"⟩
theorem dX1_least_0 : decode cX1_least 0 = .ok (.aload_n 0, 1) := by decide +kernel
theorem dX1_least_1 : decode cX1_least 1 = .ok (.iconst 0, 1) := by decide +kernel
theorem dX1_least_2 : decode cX1_least 2 = .ok (.invokevirtual 80, 3) := by decide +kernel
theorem dX1_least_5 : decode cX1_least 5 = .ok (.istore_n 2, 1) := by decide +kernel
theorem dX1_least_6 : decode cX1_least 6 = .ok (.iload_n 2, 1) := by decide +kernel
theorem dX1_least_7 : decode cX1_least 7 = .ok (.ifCond .ge 6, 3) := by decide +kernel
theorem dX1_least_10 : decode cX1_least 10 = .ok (.bipush (-4), 2) := by decide +kernel
theorem dX1_least_12 : decode cX1_least 12 = .ok (.ireturn, 1) := by decide +kernel
theorem dX1_least_13 : decode cX1_least 13 = .ok (.aload_n 0, 1) := by decide +kernel
theorem dX1_least_14 : decode cX1_least 14 = .ok (.iload_n 2, 1) := by decide +kernel
theorem dX1_least_15 : decode cX1_least 15 = .ok (.invokevirtual 83, 3) := by decide +kernel
theorem dX1_least_18 : decode cX1_least 18 = .ok (.istore_n 3, 1) := by decide +kernel
theorem dX1_least_19 : decode cX1_least 19 = .ok (.iload_n 1, 1) := by decide +kernel
theorem dX1_least_20 : decode cX1_least 20 = .ok (.ifCond .lt 8, 3) := by decide +kernel
theorem dX1_least_23 : decode cX1_least 23 = .ok (.iload_n 1, 1) := by decide +kernel
theorem dX1_least_24 : decode cX1_least 24 = .ok (.iload_n 3, 1) := by decide +kernel
theorem dX1_least_25 : decode cX1_least 25 = .ok (.if_icmp .lt 6, 3) := by decide +kernel
theorem dX1_least_28 : decode cX1_least 28 = .ok (.bipush (-4), 2) := by decide +kernel
theorem dX1_least_30 : decode cX1_least 30 = .ok (.ireturn, 1) := by decide +kernel
theorem dX1_least_31 : decode cX1_least 31 = .ok (.aload_n 0, 1) := by decide +kernel
theorem dX1_least_32 : decode cX1_least 32 = .ok (.iload_n 3, 1) := by decide +kernel
theorem dX1_least_33 : decode cX1_least 33 = .ok (.iload_n 2, 1) := by decide +kernel
theorem dX1_least_34 : decode cX1_least 34 = .ok (.aload_n 0, 1) := by decide +kernel
theorem dX1_least_35 : decode cX1_least 35 = .ok (.iload_n 3, 1) := by decide +kernel
theorem dX1_least_36 : decode cX1_least 36 = .ok (.invokevirtual 66, 3) := by decide +kernel
theorem dX1_least_39 : decode cX1_least 39 = .ok (.isub, 1) := by decide +kernel
theorem dX1_least_40 : decode cX1_least 40 = .ok (.iload_n 1, 1) := by decide +kernel
theorem dX1_least_41 : decode cX1_least 41 = .ok (.invokevirtual 43, 3) := by decide +kernel
theorem dX1_least_44 : decode cX1_least 44 = .ok (.ireturn, 1) := by decide +kernel
abbrev cX1_element : ByteArray := prog_3_method_29_code
def yX1_element : MethodName := ⟨RX1, "element", "(I)I"⟩
theorem dX1_element_0 : decode cX1_element 0 = .ok (.iload_n 1, 1) := by decide +kernel
theorem dX1_element_1 : decode cX1_element 1 = .ok (.ifCond .lt 11, 3) := by decide +kernel
theorem dX1_element_4 : decode cX1_element 4 = .ok (.iload_n 1, 1) := by decide +kernel
theorem dX1_element_5 : decode cX1_element 5 = .ok (.aload_n 0, 1) := by decide +kernel
theorem dX1_element_6 : decode cX1_element 6 = .ok (.getfield 37, 3) := by decide +kernel
theorem dX1_element_9 : decode cX1_element 9 = .ok (.if_icmp .lt 8, 3) := by decide +kernel
theorem dX1_element_12 : decode cX1_element 12 = .ok (.bipush (-4), 2) := by decide +kernel
theorem dX1_element_14 : decode cX1_element 14 = .ok (.goto 16, 3) := by decide +kernel
theorem dX1_element_17 : decode cX1_element 17 = .ok (.aload_n 0, 1) := by decide +kernel
theorem dX1_element_18 : decode cX1_element 18 = .ok (.aload_n 0, 1) := by decide +kernel
theorem dX1_element_19 : decode cX1_element 19 = .ok (.getfield 37, 3) := by decide +kernel
theorem dX1_element_22 : decode cX1_element 22 = .ok (.aload_n 0, 1) := by decide +kernel
theorem dX1_element_23 : decode cX1_element 23 = .ok (.getfield 40, 3) := by decide +kernel
theorem dX1_element_26 : decode cX1_element 26 = .ok (.iload_n 1, 1) := by decide +kernel
theorem dX1_element_27 : decode cX1_element 27 = .ok (.invokevirtual 43, 3) := by decide +kernel
theorem dX1_element_30 : decode cX1_element 30 = .ok (.ireturn, 1) := by decide +kernel
theorem q26 : (Jvm.Cond.initialized "ShrinkRankerModel") ∈ lw_all := lw_g (lw_at lw_m1 2 rfl) rfl
theorem q162 : (Jvm.Cond.instantiable "ShrinkRankerModel" (8 : Nat)) ∈ lw_all := lw_g (lw_at lw_m1 138 rfl) rfl
theorem q164 : (Jvm.Cond.instanceMethod ({ cls := "ShrinkRankerModel", name := "<init>", desc := "()V" } : Jvm.MethodName)) ∈ lw_all := lw_g (lw_at lw_m1 140 rfl) rfl
theorem q165 : (Jvm.Cond.code ({ cls := "ShrinkRankerModel", name := "<init>", desc := "()V" } : Jvm.MethodName) prog_3_method_1_code (1 : Nat) (Option.none : Option Jvm.ClassFile.FieldType)) ∈ lw_all := lw_g (lw_at lw_m1 141 rfl) rfl
theorem q166 : (Jvm.Cond.methodLink "ShrinkRankerModel" (1 : Nat) ({ cls := "java/lang/Object", name := "<init>", desc := "()V" } : Jvm.MethodName)) ∈ lw_all := lw_g (lw_at lw_m1 142 rfl) rfl
theorem q167 : (Jvm.Cond.fieldLink "ShrinkRankerModel" (29 : Nat) "ShrinkRankerModel" "count" "I") ∈ lw_all := lw_g (lw_at lw_m1 143 rfl) rfl
theorem q168 : (Jvm.Cond.fieldLink "ShrinkRankerModel" (7 : Nat) "ShrinkRankerModel" "kinds" "[I") ∈ lw_all := lw_g (lw_at lw_m1 144 rfl) rfl
theorem q169 : (Jvm.Cond.fieldLink "ShrinkRankerModel" (13 : Nat) "ShrinkRankerModel" "as" "[I") ∈ lw_all := lw_g (lw_at lw_m1 145 rfl) rfl
theorem q170 : (Jvm.Cond.fieldLink "ShrinkRankerModel" (16 : Nat) "ShrinkRankerModel" "bs" "[I") ∈ lw_all := lw_g (lw_at lw_m1 146 rfl) rfl
theorem q171 : (Jvm.Cond.fieldLink "ShrinkRankerModel" (37 : Nat) "ShrinkRankerModel" "length" "I") ∈ lw_all := lw_g (lw_at lw_m1 147 rfl) rfl
theorem q172 : (Jvm.Cond.fieldLink "ShrinkRankerModel" (40 : Nat) "ShrinkRankerModel" "digits" "I") ∈ lw_all := lw_g (lw_at lw_m1 148 rfl) rfl
theorem q173 : (Jvm.Cond.fieldLink "ShrinkRankerModel" (33 : Nat) "ShrinkRankerModel" "known" "Z") ∈ lw_all := lw_g (lw_at lw_m1 149 rfl) rfl
theorem q174 : (Jvm.Cond.fieldLink "ShrinkRankerModel" (19 : Nat) "ShrinkRankerModel" "marks" "[I") ∈ lw_all := lw_g (lw_at lw_m1 150 rfl) rfl
theorem q175 : (Jvm.Cond.lays "ShrinkRankerModel" "ShrinkRankerModel" "count" "I") ∈ lw_all := lw_g (lw_at lw_m1 151 rfl) rfl
theorem q176 : (Jvm.Cond.soleField "ShrinkRankerModel" "count") ∈ lw_all := lw_g (lw_at lw_m1 152 rfl) rfl
theorem q177 : (Jvm.Cond.laysFinal "ShrinkRankerModel" "ShrinkRankerModel" "kinds" "[I") ∈ lw_all := lw_g (lw_at lw_m1 153 rfl) rfl
theorem q178 : (Jvm.Cond.soleField "ShrinkRankerModel" "kinds") ∈ lw_all := lw_g (lw_at lw_m1 154 rfl) rfl
theorem q179 : (Jvm.Cond.laysFinal "ShrinkRankerModel" "ShrinkRankerModel" "as" "[I") ∈ lw_all := lw_g (lw_at lw_m1 155 rfl) rfl
theorem q180 : (Jvm.Cond.soleField "ShrinkRankerModel" "as") ∈ lw_all := lw_g (lw_at lw_m1 156 rfl) rfl
theorem q181 : (Jvm.Cond.laysFinal "ShrinkRankerModel" "ShrinkRankerModel" "bs" "[I") ∈ lw_all := lw_g (lw_at lw_m1 157 rfl) rfl
theorem q182 : (Jvm.Cond.soleField "ShrinkRankerModel" "bs") ∈ lw_all := lw_g (lw_at lw_m1 158 rfl) rfl
theorem q183 : (Jvm.Cond.lays "ShrinkRankerModel" "ShrinkRankerModel" "length" "I") ∈ lw_all := lw_g (lw_at lw_m1 159 rfl) rfl
theorem q184 : (Jvm.Cond.soleField "ShrinkRankerModel" "length") ∈ lw_all := lw_g (lw_at lw_m1 160 rfl) rfl
theorem q185 : (Jvm.Cond.lays "ShrinkRankerModel" "ShrinkRankerModel" "digits" "I") ∈ lw_all := lw_g (lw_at lw_m1 161 rfl) rfl
theorem q186 : (Jvm.Cond.soleField "ShrinkRankerModel" "digits") ∈ lw_all := lw_g (lw_at lw_m1 162 rfl) rfl
theorem q187 : (Jvm.Cond.lays "ShrinkRankerModel" "ShrinkRankerModel" "known" "Z") ∈ lw_all := lw_g (lw_at lw_m1 163 rfl) rfl
theorem q188 : (Jvm.Cond.soleField "ShrinkRankerModel" "known") ∈ lw_all := lw_g (lw_at lw_m1 164 rfl) rfl
theorem q189 : (Jvm.Cond.laysFinal "ShrinkRankerModel" "ShrinkRankerModel" "marks" "[I") ∈ lw_all := lw_g (lw_at lw_m1 165 rfl) rfl
theorem q190 : (Jvm.Cond.soleField "ShrinkRankerModel" "marks") ∈ lw_all := lw_g (lw_at lw_m1 166 rfl) rfl
theorem q191 : (Jvm.Cond.superclass "ShrinkRankerModel" "java/lang/Object") ∈ lw_all := lw_g (lw_at lw_m1 167 rfl) rfl
theorem q193 : (Jvm.Cond.instanceMethod ({ cls := "ShrinkRankerModel", name := "condition", desc := "(III)I" } : Jvm.MethodName)) ∈ lw_all := lw_g (lw_at lw_m1 169 rfl) rfl
theorem q194 : (Jvm.Cond.selects "ShrinkRankerModel" ({ cls := "ShrinkRankerModel", name := "condition", desc := "(III)I" } : Jvm.MethodName) ({ cls := "ShrinkRankerModel", name := "condition", desc := "(III)I" } : Jvm.MethodName)) ∈ lw_all := lw_g (lw_at lw_m1 170 rfl) rfl
theorem q195 : (Jvm.Cond.code ({ cls := "ShrinkRankerModel", name := "condition", desc := "(III)I" } : Jvm.MethodName) prog_3_method_4_code (4 : Nat) (Option.some Jvm.ClassFile.FieldType.int)) ∈ lw_all := lw_g (lw_at lw_m1 171 rfl) rfl
theorem q196 : (Jvm.Cond.methodLink "ShrinkRankerModel" (26 : Nat) ({ cls := "ShrinkRankerModel", name := "goodNumbers", desc := "(III)Z" } : Jvm.MethodName)) ∈ lw_all := lw_g (lw_at lw_m1 172 rfl) rfl
theorem q197 : (Jvm.Cond.privateMethod ({ cls := "ShrinkRankerModel", name := "goodNumbers", desc := "(III)Z" } : Jvm.MethodName)) ∈ lw_tbl := lw_at lw_m1 173 rfl
theorem q198 : (Jvm.Cond.instanceMethod ({ cls := "ShrinkRankerModel", name := "goodNumbers", desc := "(III)Z" } : Jvm.MethodName)) ∈ lw_all := lw_g (lw_at lw_m1 174 rfl) rfl
theorem q199 : (Jvm.Cond.code ({ cls := "ShrinkRankerModel", name := "goodNumbers", desc := "(III)Z" } : Jvm.MethodName) prog_3_method_3_code (4 : Nat) (Option.some Jvm.ClassFile.FieldType.boolean)) ∈ lw_all := lw_g (lw_at lw_m1 175 rfl) rfl
theorem q200 : (Jvm.Cond.methodLink "ShrinkRankerModel" (22 : Nat) ({ cls := "ShrinkRankerModel", name := "within", desc := "(III)Z" } : Jvm.MethodName)) ∈ lw_all := lw_g (lw_at lw_m1 176 rfl) rfl
theorem q201 : (Jvm.Cond.privateMethod ({ cls := "ShrinkRankerModel", name := "within", desc := "(III)Z" } : Jvm.MethodName)) ∈ lw_tbl := lw_at lw_m1 177 rfl
theorem q202 : (Jvm.Cond.instanceMethod ({ cls := "ShrinkRankerModel", name := "within", desc := "(III)Z" } : Jvm.MethodName)) ∈ lw_all := lw_g (lw_at lw_m1 178 rfl) rfl
theorem q203 : (Jvm.Cond.code ({ cls := "ShrinkRankerModel", name := "within", desc := "(III)Z" } : Jvm.MethodName) prog_3_method_2_code (4 : Nat) (Option.some Jvm.ClassFile.FieldType.boolean)) ∈ lw_all := lw_g (lw_at lw_m1 179 rfl) rfl
theorem q205 : (Jvm.Cond.instanceMethod ({ cls := "ShrinkRankerModel", name := "drop", desc := "()I" } : Jvm.MethodName)) ∈ lw_all := lw_g (lw_at lw_m1 181 rfl) rfl
theorem q206 : (Jvm.Cond.selects "ShrinkRankerModel" ({ cls := "ShrinkRankerModel", name := "drop", desc := "()I" } : Jvm.MethodName) ({ cls := "ShrinkRankerModel", name := "drop", desc := "()I" } : Jvm.MethodName)) ∈ lw_all := lw_g (lw_at lw_m1 182 rfl) rfl
theorem q207 : (Jvm.Cond.code ({ cls := "ShrinkRankerModel", name := "drop", desc := "()I" } : Jvm.MethodName) prog_3_method_5_code (1 : Nat) (Option.some Jvm.ClassFile.FieldType.int)) ∈ lw_all := lw_g (lw_at lw_m1 183 rfl) rfl
theorem q209 : (Jvm.Cond.instanceMethod ({ cls := "ShrinkRankerModel", name := "push", desc := "(I)I" } : Jvm.MethodName)) ∈ lw_all := lw_g (lw_at lw_m1 185 rfl) rfl
theorem q210 : (Jvm.Cond.selects "ShrinkRankerModel" ({ cls := "ShrinkRankerModel", name := "push", desc := "(I)I" } : Jvm.MethodName) ({ cls := "ShrinkRankerModel", name := "push", desc := "(I)I" } : Jvm.MethodName)) ∈ lw_all := lw_g (lw_at lw_m1 186 rfl) rfl
theorem q211 : (Jvm.Cond.code ({ cls := "ShrinkRankerModel", name := "push", desc := "(I)I" } : Jvm.MethodName) prog_3_method_6_code (2 : Nat) (Option.some Jvm.ClassFile.FieldType.int)) ∈ lw_all := lw_g (lw_at lw_m1 187 rfl) rfl
theorem q213 : (Jvm.Cond.instanceMethod ({ cls := "ShrinkRankerModel", name := "empty", desc := "()V" } : Jvm.MethodName)) ∈ lw_all := lw_g (lw_at lw_m1 189 rfl) rfl
theorem q214 : (Jvm.Cond.selects "ShrinkRankerModel" ({ cls := "ShrinkRankerModel", name := "empty", desc := "()V" } : Jvm.MethodName) ({ cls := "ShrinkRankerModel", name := "empty", desc := "()V" } : Jvm.MethodName)) ∈ lw_all := lw_g (lw_at lw_m1 190 rfl) rfl
theorem q215 : (Jvm.Cond.code ({ cls := "ShrinkRankerModel", name := "empty", desc := "()V" } : Jvm.MethodName) prog_3_method_7_code (1 : Nat) (Option.none : Option Jvm.ClassFile.FieldType)) ∈ lw_all := lw_g (lw_at lw_m1 191 rfl) rfl
theorem q217 : (Jvm.Cond.instanceMethod ({ cls := "ShrinkRankerModel", name := "load", desc := "(I)I" } : Jvm.MethodName)) ∈ lw_all := lw_g (lw_at lw_m1 193 rfl) rfl
theorem q218 : (Jvm.Cond.selects "ShrinkRankerModel" ({ cls := "ShrinkRankerModel", name := "load", desc := "(I)I" } : Jvm.MethodName) ({ cls := "ShrinkRankerModel", name := "load", desc := "(I)I" } : Jvm.MethodName)) ∈ lw_all := lw_g (lw_at lw_m1 194 rfl) rfl
theorem q219 : (Jvm.Cond.code ({ cls := "ShrinkRankerModel", name := "load", desc := "(I)I" } : Jvm.MethodName) prog_3_method_21_code (3 : Nat) (Option.some Jvm.ClassFile.FieldType.int)) ∈ lw_all := lw_g (lw_at lw_m1 195 rfl) rfl
theorem q220 : (Jvm.Cond.methodLink "ShrinkRankerModel" (80 : Nat) ({ cls := "ShrinkRankerModel", name := "find", desc := "(I)I" } : Jvm.MethodName)) ∈ lw_all := lw_g (lw_at lw_m1 196 rfl) rfl
theorem q221 : (Jvm.Cond.privateMethod ({ cls := "ShrinkRankerModel", name := "find", desc := "(I)I" } : Jvm.MethodName)) ∈ lw_tbl := lw_at lw_m1 197 rfl
theorem q222 : (Jvm.Cond.instanceMethod ({ cls := "ShrinkRankerModel", name := "find", desc := "(I)I" } : Jvm.MethodName)) ∈ lw_all := lw_g (lw_at lw_m1 198 rfl) rfl
theorem q223 : (Jvm.Cond.code ({ cls := "ShrinkRankerModel", name := "find", desc := "(I)I" } : Jvm.MethodName) prog_3_method_19_code (4 : Nat) (Option.some Jvm.ClassFile.FieldType.int)) ∈ lw_all := lw_g (lw_at lw_m1 199 rfl) rfl
theorem q224 : (Jvm.Cond.methodLink "ShrinkRankerModel" (73 : Nat) ({ cls := "ShrinkRankerModel", name := "markAll", desc := "()V" } : Jvm.MethodName)) ∈ lw_all := lw_g (lw_at lw_m1 200 rfl) rfl
theorem q225 : (Jvm.Cond.privateMethod ({ cls := "ShrinkRankerModel", name := "markAll", desc := "()V" } : Jvm.MethodName)) ∈ lw_tbl := lw_at lw_m1 201 rfl
theorem q226 : (Jvm.Cond.instanceMethod ({ cls := "ShrinkRankerModel", name := "markAll", desc := "()V" } : Jvm.MethodName)) ∈ lw_all := lw_g (lw_at lw_m1 202 rfl) rfl
theorem q227 : (Jvm.Cond.code ({ cls := "ShrinkRankerModel", name := "markAll", desc := "()V" } : Jvm.MethodName) prog_3_method_16_code (5 : Nat) (Option.none : Option Jvm.ClassFile.FieldType)) ∈ lw_all := lw_g (lw_at lw_m1 203 rfl) rfl
theorem q228 : (Jvm.Cond.methodLink "ShrinkRankerModel" (66 : Nat) ({ cls := "ShrinkRankerModel", name := "start", desc := "(I)I" } : Jvm.MethodName)) ∈ lw_all := lw_g (lw_at lw_m1 204 rfl) rfl
theorem q229 : (Jvm.Cond.privateMethod ({ cls := "ShrinkRankerModel", name := "start", desc := "(I)I" } : Jvm.MethodName)) ∈ lw_tbl := lw_at lw_m1 205 rfl
theorem q230 : (Jvm.Cond.instanceMethod ({ cls := "ShrinkRankerModel", name := "start", desc := "(I)I" } : Jvm.MethodName)) ∈ lw_all := lw_g (lw_at lw_m1 206 rfl) rfl
theorem q231 : (Jvm.Cond.code ({ cls := "ShrinkRankerModel", name := "start", desc := "(I)I" } : Jvm.MethodName) prog_3_method_15_code (4 : Nat) (Option.some Jvm.ClassFile.FieldType.int)) ∈ lw_all := lw_g (lw_at lw_m1 207 rfl) rfl
theorem q232 : (Jvm.Cond.methodLink "ShrinkRankerModel" (70 : Nat) ({ cls := "ShrinkRankerModel", name := "failsList", desc := "(II)Z" } : Jvm.MethodName)) ∈ lw_all := lw_g (lw_at lw_m1 208 rfl) rfl
theorem q233 : (Jvm.Cond.privateMethod ({ cls := "ShrinkRankerModel", name := "failsList", desc := "(II)Z" } : Jvm.MethodName)) ∈ lw_tbl := lw_at lw_m1 209 rfl
theorem q234 : (Jvm.Cond.instanceMethod ({ cls := "ShrinkRankerModel", name := "failsList", desc := "(II)Z" } : Jvm.MethodName)) ∈ lw_all := lw_g (lw_at lw_m1 210 rfl) rfl
theorem q235 : (Jvm.Cond.code ({ cls := "ShrinkRankerModel", name := "failsList", desc := "(II)Z" } : Jvm.MethodName) prog_3_method_14_code (4 : Nat) (Option.some Jvm.ClassFile.FieldType.boolean)) ∈ lw_all := lw_g (lw_at lw_m1 211 rfl) rfl
theorem q236 : (Jvm.Cond.methodLink "ShrinkRankerModel" (62 : Nat) ({ cls := "ShrinkRankerModel", name := "meets", desc := "(IIIII)Z" } : Jvm.MethodName)) ∈ lw_all := lw_g (lw_at lw_m1 212 rfl) rfl
theorem q237 : (Jvm.Cond.privateMethod ({ cls := "ShrinkRankerModel", name := "meets", desc := "(IIIII)Z" } : Jvm.MethodName)) ∈ lw_tbl := lw_at lw_m1 213 rfl
theorem q238 : (Jvm.Cond.instanceMethod ({ cls := "ShrinkRankerModel", name := "meets", desc := "(IIIII)Z" } : Jvm.MethodName)) ∈ lw_all := lw_g (lw_at lw_m1 214 rfl) rfl
theorem q239 : (Jvm.Cond.code ({ cls := "ShrinkRankerModel", name := "meets", desc := "(IIIII)Z" } : Jvm.MethodName) prog_3_method_13_code (6 : Nat) (Option.some Jvm.ClassFile.FieldType.boolean)) ∈ lw_all := lw_g (lw_at lw_m1 215 rfl) rfl
theorem q240 : (Jvm.Cond.methodLink "ShrinkRankerModel" (47 : Nat) ({ cls := "ShrinkRankerModel", name := "sum", desc := "(II)I" } : Jvm.MethodName)) ∈ lw_all := lw_g (lw_at lw_m1 216 rfl) rfl
theorem q241 : (Jvm.Cond.privateMethod ({ cls := "ShrinkRankerModel", name := "sum", desc := "(II)I" } : Jvm.MethodName)) ∈ lw_tbl := lw_at lw_m1 217 rfl
theorem q242 : (Jvm.Cond.instanceMethod ({ cls := "ShrinkRankerModel", name := "sum", desc := "(II)I" } : Jvm.MethodName)) ∈ lw_all := lw_g (lw_at lw_m1 218 rfl) rfl
theorem q243 : (Jvm.Cond.code ({ cls := "ShrinkRankerModel", name := "sum", desc := "(II)I" } : Jvm.MethodName) prog_3_method_10_code (6 : Nat) (Option.some Jvm.ClassFile.FieldType.int)) ∈ lw_all := lw_g (lw_at lw_m1 219 rfl) rfl
theorem q244 : (Jvm.Cond.methodLink "ShrinkRankerModel" (43 : Nat) ({ cls := "ShrinkRankerModel", name := "at", desc := "(III)I" } : Jvm.MethodName)) ∈ lw_all := lw_g (lw_at lw_m1 220 rfl) rfl
theorem q245 : (Jvm.Cond.privateMethod ({ cls := "ShrinkRankerModel", name := "at", desc := "(III)I" } : Jvm.MethodName)) ∈ lw_tbl := lw_at lw_m1 221 rfl
theorem q246 : (Jvm.Cond.instanceMethod ({ cls := "ShrinkRankerModel", name := "at", desc := "(III)I" } : Jvm.MethodName)) ∈ lw_all := lw_g (lw_at lw_m1 222 rfl) rfl
theorem q247 : (Jvm.Cond.code ({ cls := "ShrinkRankerModel", name := "at", desc := "(III)I" } : Jvm.MethodName) prog_3_method_8_code (4 : Nat) (Option.some Jvm.ClassFile.FieldType.int)) ∈ lw_all := lw_g (lw_at lw_m1 223 rfl) rfl
theorem q248 : (Jvm.Cond.methodLink "ShrinkRankerModel" (51 : Nat) ({ cls := "ShrinkRankerModel", name := "occurs", desc := "(III)I" } : Jvm.MethodName)) ∈ lw_all := lw_g (lw_at lw_m1 224 rfl) rfl
theorem q249 : (Jvm.Cond.privateMethod ({ cls := "ShrinkRankerModel", name := "occurs", desc := "(III)I" } : Jvm.MethodName)) ∈ lw_tbl := lw_at lw_m1 225 rfl
theorem q250 : (Jvm.Cond.instanceMethod ({ cls := "ShrinkRankerModel", name := "occurs", desc := "(III)I" } : Jvm.MethodName)) ∈ lw_all := lw_g (lw_at lw_m1 226 rfl) rfl
theorem q251 : (Jvm.Cond.code ({ cls := "ShrinkRankerModel", name := "occurs", desc := "(III)I" } : Jvm.MethodName) prog_3_method_9_code (6 : Nat) (Option.some Jvm.ClassFile.FieldType.int)) ∈ lw_all := lw_g (lw_at lw_m1 227 rfl) rfl
theorem q252 : (Jvm.Cond.methodLink "ShrinkRankerModel" (54 : Nat) ({ cls := "ShrinkRankerModel", name := "pair", desc := "(IIII)Z" } : Jvm.MethodName)) ∈ lw_all := lw_g (lw_at lw_m1 228 rfl) rfl
theorem q253 : (Jvm.Cond.privateMethod ({ cls := "ShrinkRankerModel", name := "pair", desc := "(IIII)Z" } : Jvm.MethodName)) ∈ lw_tbl := lw_at lw_m1 229 rfl
theorem q254 : (Jvm.Cond.instanceMethod ({ cls := "ShrinkRankerModel", name := "pair", desc := "(IIII)Z" } : Jvm.MethodName)) ∈ lw_all := lw_g (lw_at lw_m1 230 rfl) rfl
theorem q255 : (Jvm.Cond.code ({ cls := "ShrinkRankerModel", name := "pair", desc := "(IIII)Z" } : Jvm.MethodName) prog_3_method_11_code (6 : Nat) (Option.some Jvm.ClassFile.FieldType.boolean)) ∈ lw_all := lw_g (lw_at lw_m1 231 rfl) rfl
theorem q256 : (Jvm.Cond.methodLink "ShrinkRankerModel" (58 : Nat) ({ cls := "ShrinkRankerModel", name := "rises", desc := "(II)Z" } : Jvm.MethodName)) ∈ lw_all := lw_g (lw_at lw_m1 232 rfl) rfl
theorem q257 : (Jvm.Cond.privateMethod ({ cls := "ShrinkRankerModel", name := "rises", desc := "(II)Z" } : Jvm.MethodName)) ∈ lw_tbl := lw_at lw_m1 233 rfl
theorem q258 : (Jvm.Cond.instanceMethod ({ cls := "ShrinkRankerModel", name := "rises", desc := "(II)Z" } : Jvm.MethodName)) ∈ lw_all := lw_g (lw_at lw_m1 234 rfl) rfl
theorem q259 : (Jvm.Cond.code ({ cls := "ShrinkRankerModel", name := "rises", desc := "(II)Z" } : Jvm.MethodName) prog_3_method_12_code (4 : Nat) (Option.some Jvm.ClassFile.FieldType.boolean)) ∈ lw_all := lw_g (lw_at lw_m1 235 rfl) rfl
theorem q260 : (Jvm.Cond.methodLink "ShrinkRankerModel" (76 : Nat) ({ cls := "ShrinkRankerModel", name := "marked", desc := "(I)Z" } : Jvm.MethodName)) ∈ lw_all := lw_g (lw_at lw_m1 236 rfl) rfl
theorem q261 : (Jvm.Cond.privateMethod ({ cls := "ShrinkRankerModel", name := "marked", desc := "(I)Z" } : Jvm.MethodName)) ∈ lw_tbl := lw_at lw_m1 237 rfl
theorem q262 : (Jvm.Cond.instanceMethod ({ cls := "ShrinkRankerModel", name := "marked", desc := "(I)Z" } : Jvm.MethodName)) ∈ lw_all := lw_g (lw_at lw_m1 238 rfl) rfl
theorem q263 : (Jvm.Cond.code ({ cls := "ShrinkRankerModel", name := "marked", desc := "(I)Z" } : Jvm.MethodName) prog_3_method_17_code (2 : Nat) (Option.some Jvm.ClassFile.FieldType.boolean)) ∈ lw_all := lw_g (lw_at lw_m1 239 rfl) rfl
theorem q264 : (Jvm.Cond.methodLink "ShrinkRankerModel" (83 : Nat) ({ cls := "ShrinkRankerModel", name := "lengthOf", desc := "(I)I" } : Jvm.MethodName)) ∈ lw_all := lw_g (lw_at lw_m2 0 rfl) rfl
theorem q265 : (Jvm.Cond.privateMethod ({ cls := "ShrinkRankerModel", name := "lengthOf", desc := "(I)I" } : Jvm.MethodName)) ∈ lw_tbl := lw_at lw_m2 1 rfl
theorem q266 : (Jvm.Cond.instanceMethod ({ cls := "ShrinkRankerModel", name := "lengthOf", desc := "(I)I" } : Jvm.MethodName)) ∈ lw_all := lw_g (lw_at lw_m2 2 rfl) rfl
theorem q267 : (Jvm.Cond.code ({ cls := "ShrinkRankerModel", name := "lengthOf", desc := "(I)I" } : Jvm.MethodName) prog_3_method_20_code (4 : Nat) (Option.some Jvm.ClassFile.FieldType.int)) ∈ lw_all := lw_g (lw_at lw_m2 3 rfl) rfl
theorem q269 : (Jvm.Cond.instanceMethod ({ cls := "ShrinkRankerModel", name := "failing", desc := "()I" } : Jvm.MethodName)) ∈ lw_all := lw_g (lw_at lw_m2 5 rfl) rfl
theorem q270 : (Jvm.Cond.selects "ShrinkRankerModel" ({ cls := "ShrinkRankerModel", name := "failing", desc := "()I" } : Jvm.MethodName) ({ cls := "ShrinkRankerModel", name := "failing", desc := "()I" } : Jvm.MethodName)) ∈ lw_all := lw_g (lw_at lw_m2 6 rfl) rfl
theorem q271 : (Jvm.Cond.code ({ cls := "ShrinkRankerModel", name := "failing", desc := "()I" } : Jvm.MethodName) prog_3_method_22_code (1 : Nat) (Option.some Jvm.ClassFile.FieldType.int)) ∈ lw_all := lw_g (lw_at lw_m2 7 rfl) rfl
theorem q272 : (Jvm.Cond.methodLink "ShrinkRankerModel" (86 : Nat) ({ cls := "ShrinkRankerModel", name := "between", desc := "(II)I" } : Jvm.MethodName)) ∈ lw_all := lw_g (lw_at lw_m2 8 rfl) rfl
theorem q273 : (Jvm.Cond.privateMethod ({ cls := "ShrinkRankerModel", name := "between", desc := "(II)I" } : Jvm.MethodName)) ∈ lw_tbl := lw_at lw_m2 9 rfl
theorem q274 : (Jvm.Cond.instanceMethod ({ cls := "ShrinkRankerModel", name := "between", desc := "(II)I" } : Jvm.MethodName)) ∈ lw_all := lw_g (lw_at lw_m2 10 rfl) rfl
theorem q275 : (Jvm.Cond.code ({ cls := "ShrinkRankerModel", name := "between", desc := "(II)I" } : Jvm.MethodName) prog_3_method_18_code (5 : Nat) (Option.some Jvm.ClassFile.FieldType.int)) ∈ lw_all := lw_g (lw_at lw_m2 11 rfl) rfl
theorem q277 : (Jvm.Cond.instanceMethod ({ cls := "ShrinkRankerModel", name := "failingOf", desc := "(I)I" } : Jvm.MethodName)) ∈ lw_all := lw_g (lw_at lw_m2 13 rfl) rfl
theorem q278 : (Jvm.Cond.selects "ShrinkRankerModel" ({ cls := "ShrinkRankerModel", name := "failingOf", desc := "(I)I" } : Jvm.MethodName) ({ cls := "ShrinkRankerModel", name := "failingOf", desc := "(I)I" } : Jvm.MethodName)) ∈ lw_all := lw_g (lw_at lw_m2 14 rfl) rfl
theorem q279 : (Jvm.Cond.code ({ cls := "ShrinkRankerModel", name := "failingOf", desc := "(I)I" } : Jvm.MethodName) prog_3_method_23_code (4 : Nat) (Option.some Jvm.ClassFile.FieldType.int)) ∈ lw_all := lw_g (lw_at lw_m2 15 rfl) rfl
theorem q281 : (Jvm.Cond.instanceMethod ({ cls := "ShrinkRankerModel", name := "fails", desc := "()Z" } : Jvm.MethodName)) ∈ lw_all := lw_g (lw_at lw_m2 17 rfl) rfl
theorem q282 : (Jvm.Cond.selects "ShrinkRankerModel" ({ cls := "ShrinkRankerModel", name := "fails", desc := "()Z" } : Jvm.MethodName) ({ cls := "ShrinkRankerModel", name := "fails", desc := "()Z" } : Jvm.MethodName)) ∈ lw_all := lw_g (lw_at lw_m2 18 rfl) rfl
theorem q283 : (Jvm.Cond.code ({ cls := "ShrinkRankerModel", name := "fails", desc := "()Z" } : Jvm.MethodName) prog_3_method_24_code (1 : Nat) (Option.some Jvm.ClassFile.FieldType.boolean)) ∈ lw_all := lw_g (lw_at lw_m2 19 rfl) rfl
theorem q285 : (Jvm.Cond.instanceMethod ({ cls := "ShrinkRankerModel", name := "rank", desc := "()I" } : Jvm.MethodName)) ∈ lw_all := lw_g (lw_at lw_m2 21 rfl) rfl
theorem q286 : (Jvm.Cond.selects "ShrinkRankerModel" ({ cls := "ShrinkRankerModel", name := "rank", desc := "()I" } : Jvm.MethodName) ({ cls := "ShrinkRankerModel", name := "rank", desc := "()I" } : Jvm.MethodName)) ∈ lw_all := lw_g (lw_at lw_m2 22 rfl) rfl
theorem q287 : (Jvm.Cond.code ({ cls := "ShrinkRankerModel", name := "rank", desc := "()I" } : Jvm.MethodName) prog_3_method_25_code (2 : Nat) (Option.some Jvm.ClassFile.FieldType.int)) ∈ lw_all := lw_g (lw_at lw_m2 23 rfl) rfl
theorem q289 : (Jvm.Cond.instanceMethod ({ cls := "ShrinkRankerModel", name := "extending", desc := "()I" } : Jvm.MethodName)) ∈ lw_all := lw_g (lw_at lw_m2 25 rfl) rfl
theorem q290 : (Jvm.Cond.selects "ShrinkRankerModel" ({ cls := "ShrinkRankerModel", name := "extending", desc := "()I" } : Jvm.MethodName) ({ cls := "ShrinkRankerModel", name := "extending", desc := "()I" } : Jvm.MethodName)) ∈ lw_all := lw_g (lw_at lw_m2 26 rfl) rfl
theorem q291 : (Jvm.Cond.code ({ cls := "ShrinkRankerModel", name := "extending", desc := "()I" } : Jvm.MethodName) prog_3_method_26_code (5 : Nat) (Option.some Jvm.ClassFile.FieldType.int)) ∈ lw_all := lw_g (lw_at lw_m2 27 rfl) rfl
theorem q293 : (Jvm.Cond.instanceMethod ({ cls := "ShrinkRankerModel", name := "leastLength", desc := "()I" } : Jvm.MethodName)) ∈ lw_all := lw_g (lw_at lw_m2 29 rfl) rfl
theorem q294 : (Jvm.Cond.selects "ShrinkRankerModel" ({ cls := "ShrinkRankerModel", name := "leastLength", desc := "()I" } : Jvm.MethodName) ({ cls := "ShrinkRankerModel", name := "leastLength", desc := "()I" } : Jvm.MethodName)) ∈ lw_all := lw_g (lw_at lw_m2 30 rfl) rfl
theorem q295 : (Jvm.Cond.code ({ cls := "ShrinkRankerModel", name := "leastLength", desc := "()I" } : Jvm.MethodName) prog_3_method_27_code (2 : Nat) (Option.some Jvm.ClassFile.FieldType.int)) ∈ lw_all := lw_g (lw_at lw_m2 31 rfl) rfl
theorem q297 : (Jvm.Cond.instanceMethod ({ cls := "ShrinkRankerModel", name := "least", desc := "(I)I" } : Jvm.MethodName)) ∈ lw_all := lw_g (lw_at lw_m2 33 rfl) rfl
theorem q298 : (Jvm.Cond.selects "ShrinkRankerModel" ({ cls := "ShrinkRankerModel", name := "least", desc := "(I)I" } : Jvm.MethodName) ({ cls := "ShrinkRankerModel", name := "least", desc := "(I)I" } : Jvm.MethodName)) ∈ lw_all := lw_g (lw_at lw_m2 34 rfl) rfl
theorem q299 : (Jvm.Cond.code ({ cls := "ShrinkRankerModel", name := "least", desc := "(I)I" } : Jvm.MethodName) prog_3_method_28_code (4 : Nat) (Option.some Jvm.ClassFile.FieldType.int)) ∈ lw_all := lw_g (lw_at lw_m2 35 rfl) rfl
theorem q301 : (Jvm.Cond.instanceMethod ({ cls := "ShrinkRankerModel", name := "element", desc := "(I)I" } : Jvm.MethodName)) ∈ lw_all := lw_g (lw_at lw_m2 37 rfl) rfl
theorem q302 : (Jvm.Cond.selects "ShrinkRankerModel" ({ cls := "ShrinkRankerModel", name := "element", desc := "(I)I" } : Jvm.MethodName) ({ cls := "ShrinkRankerModel", name := "element", desc := "(I)I" } : Jvm.MethodName)) ∈ lw_all := lw_g (lw_at lw_m2 38 rfl) rfl
theorem q303 : (Jvm.Cond.code ({ cls := "ShrinkRankerModel", name := "element", desc := "(I)I" } : Jvm.MethodName) prog_3_method_29_code (2 : Nat) (Option.some Jvm.ClassFile.FieldType.int)) ∈ lw_all := lw_g (lw_at lw_m2 39 rfl) rfl
theorem in_X1 : ∀ w ∈ wsX10, w ∈ lw_all := lw_in wsX10 [175, 177, 179, 181, 183, 185, 187, 189] (by decide +kernel) (by decide +kernel)
end
section
set_option maxRecDepth 100000
theorem q24 : (Jvm.Cond.initialized "ShrinkRankerLaw") ∈ lw_all := lw_g (lw_at lw_m1 0 rfl) rfl
set_option maxRecDepth 100000
theorem q27 : (Jvm.Cond.classLink "ShrinkRankerLaw" (7 : Nat) "ShrinkRanker") ∈ lw_all := lw_g (lw_at lw_m1 3 rfl) rfl
theorem q29 : (Jvm.Cond.methodLink "ShrinkRankerLaw" (9 : Nat) ({ cls := "ShrinkRanker", name := "<init>", desc := "()V" } : Jvm.MethodName)) ∈ lw_all := lw_g (lw_at lw_m1 5 rfl) rfl
theorem q67 : (Jvm.Cond.methodLink "ShrinkRankerLaw" (13 : Nat) ({ cls := "ShrinkRanker", name := "condition", desc := "(III)I" } : Jvm.MethodName)) ∈ lw_all := lw_g (lw_at lw_m1 43 rfl) rfl
theorem q77 : (Jvm.Cond.methodLink "ShrinkRankerLaw" (18 : Nat) ({ cls := "ShrinkRanker", name := "drop", desc := "()I" } : Jvm.MethodName)) ∈ lw_all := lw_g (lw_at lw_m1 53 rfl) rfl
theorem q81 : (Jvm.Cond.methodLink "ShrinkRankerLaw" (23 : Nat) ({ cls := "ShrinkRanker", name := "push", desc := "(I)I" } : Jvm.MethodName)) ∈ lw_all := lw_g (lw_at lw_m1 57 rfl) rfl
theorem q85 : (Jvm.Cond.methodLink "ShrinkRankerLaw" (28 : Nat) ({ cls := "ShrinkRanker", name := "empty", desc := "()V" } : Jvm.MethodName)) ∈ lw_all := lw_g (lw_at lw_m1 61 rfl) rfl
theorem q89 : (Jvm.Cond.methodLink "ShrinkRankerLaw" (32 : Nat) ({ cls := "ShrinkRanker", name := "load", desc := "(I)I" } : Jvm.MethodName)) ∈ lw_all := lw_g (lw_at lw_m1 65 rfl) rfl
theorem q125 : (Jvm.Cond.methodLink "ShrinkRankerLaw" (36 : Nat) ({ cls := "ShrinkRanker", name := "failing", desc := "()I" } : Jvm.MethodName)) ∈ lw_all := lw_g (lw_at lw_m1 101 rfl) rfl
theorem q129 : (Jvm.Cond.methodLink "ShrinkRankerLaw" (40 : Nat) ({ cls := "ShrinkRanker", name := "failingOf", desc := "(I)I" } : Jvm.MethodName)) ∈ lw_all := lw_g (lw_at lw_m1 105 rfl) rfl
theorem q133 : (Jvm.Cond.methodLink "ShrinkRankerLaw" (44 : Nat) ({ cls := "ShrinkRanker", name := "fails", desc := "()Z" } : Jvm.MethodName)) ∈ lw_all := lw_g (lw_at lw_m1 109 rfl) rfl
theorem q141 : (Jvm.Cond.methodLink "ShrinkRankerLaw" (49 : Nat) ({ cls := "ShrinkRanker", name := "rank", desc := "()I" } : Jvm.MethodName)) ∈ lw_all := lw_g (lw_at lw_m1 117 rfl) rfl
theorem q145 : (Jvm.Cond.methodLink "ShrinkRankerLaw" (53 : Nat) ({ cls := "ShrinkRanker", name := "extending", desc := "()I" } : Jvm.MethodName)) ∈ lw_all := lw_g (lw_at lw_m1 121 rfl) rfl
theorem q149 : (Jvm.Cond.methodLink "ShrinkRankerLaw" (57 : Nat) ({ cls := "ShrinkRanker", name := "leastLength", desc := "()I" } : Jvm.MethodName)) ∈ lw_all := lw_g (lw_at lw_m1 125 rfl) rfl
theorem q153 : (Jvm.Cond.methodLink "ShrinkRankerLaw" (61 : Nat) ({ cls := "ShrinkRanker", name := "least", desc := "(I)I" } : Jvm.MethodName)) ∈ lw_all := lw_g (lw_at lw_m1 129 rfl) rfl
theorem q157 : (Jvm.Cond.methodLink "ShrinkRankerLaw" (65 : Nat) ({ cls := "ShrinkRanker", name := "element", desc := "(I)I" } : Jvm.MethodName)) ∈ lw_all := lw_g (lw_at lw_m1 133 rfl) rfl
theorem q161 : (Jvm.Cond.classLink "ShrinkRankerLaw" (10 : Nat) "ShrinkRankerModel") ∈ lw_all := lw_g (lw_at lw_m1 137 rfl) rfl
theorem q163 : (Jvm.Cond.methodLink "ShrinkRankerLaw" (12 : Nat) ({ cls := "ShrinkRankerModel", name := "<init>", desc := "()V" } : Jvm.MethodName)) ∈ lw_all := lw_g (lw_at lw_m1 139 rfl) rfl
theorem q192 : (Jvm.Cond.methodLink "ShrinkRankerLaw" (17 : Nat) ({ cls := "ShrinkRankerModel", name := "condition", desc := "(III)I" } : Jvm.MethodName)) ∈ lw_all := lw_g (lw_at lw_m1 168 rfl) rfl
theorem q204 : (Jvm.Cond.methodLink "ShrinkRankerLaw" (22 : Nat) ({ cls := "ShrinkRankerModel", name := "drop", desc := "()I" } : Jvm.MethodName)) ∈ lw_all := lw_g (lw_at lw_m1 180 rfl) rfl
theorem q208 : (Jvm.Cond.methodLink "ShrinkRankerLaw" (27 : Nat) ({ cls := "ShrinkRankerModel", name := "push", desc := "(I)I" } : Jvm.MethodName)) ∈ lw_all := lw_g (lw_at lw_m1 184 rfl) rfl
theorem q212 : (Jvm.Cond.methodLink "ShrinkRankerLaw" (31 : Nat) ({ cls := "ShrinkRankerModel", name := "empty", desc := "()V" } : Jvm.MethodName)) ∈ lw_all := lw_g (lw_at lw_m1 188 rfl) rfl
theorem q216 : (Jvm.Cond.methodLink "ShrinkRankerLaw" (35 : Nat) ({ cls := "ShrinkRankerModel", name := "load", desc := "(I)I" } : Jvm.MethodName)) ∈ lw_all := lw_g (lw_at lw_m1 192 rfl) rfl
theorem q268 : (Jvm.Cond.methodLink "ShrinkRankerLaw" (39 : Nat) ({ cls := "ShrinkRankerModel", name := "failing", desc := "()I" } : Jvm.MethodName)) ∈ lw_all := lw_g (lw_at lw_m2 4 rfl) rfl
theorem q276 : (Jvm.Cond.methodLink "ShrinkRankerLaw" (43 : Nat) ({ cls := "ShrinkRankerModel", name := "failingOf", desc := "(I)I" } : Jvm.MethodName)) ∈ lw_all := lw_g (lw_at lw_m2 12 rfl) rfl
theorem q280 : (Jvm.Cond.methodLink "ShrinkRankerLaw" (48 : Nat) ({ cls := "ShrinkRankerModel", name := "fails", desc := "()Z" } : Jvm.MethodName)) ∈ lw_all := lw_g (lw_at lw_m2 16 rfl) rfl
theorem q284 : (Jvm.Cond.methodLink "ShrinkRankerLaw" (52 : Nat) ({ cls := "ShrinkRankerModel", name := "rank", desc := "()I" } : Jvm.MethodName)) ∈ lw_all := lw_g (lw_at lw_m2 20 rfl) rfl
theorem q288 : (Jvm.Cond.methodLink "ShrinkRankerLaw" (56 : Nat) ({ cls := "ShrinkRankerModel", name := "extending", desc := "()I" } : Jvm.MethodName)) ∈ lw_all := lw_g (lw_at lw_m2 24 rfl) rfl
theorem q292 : (Jvm.Cond.methodLink "ShrinkRankerLaw" (60 : Nat) ({ cls := "ShrinkRankerModel", name := "leastLength", desc := "()I" } : Jvm.MethodName)) ∈ lw_all := lw_g (lw_at lw_m2 28 rfl) rfl
theorem q296 : (Jvm.Cond.methodLink "ShrinkRankerLaw" (64 : Nat) ({ cls := "ShrinkRankerModel", name := "least", desc := "(I)I" } : Jvm.MethodName)) ∈ lw_all := lw_g (lw_at lw_m2 32 rfl) rfl
theorem q300 : (Jvm.Cond.methodLink "ShrinkRankerLaw" (68 : Nat) ({ cls := "ShrinkRankerModel", name := "element", desc := "(I)I" } : Jvm.MethodName)) ∈ lw_all := lw_g (lw_at lw_m2 36 rfl) rfl

/-! the law's own entry -/
set_option maxRecDepth 100000
abbrev cL_law : ByteArray := code
theorem dL_law_0 : decode cL_law 0 = .ok (.new 7, 3) := by decide +kernel
theorem dL_law_3 : decode cL_law 3 = .ok (.dup, 1) := by decide +kernel
theorem dL_law_4 : decode cL_law 4 = .ok (.invokespecial 9, 3) := by decide +kernel
theorem dL_law_7 : decode cL_law 7 = .ok (.astore_n 1, 1) := by decide +kernel
theorem dL_law_8 : decode cL_law 8 = .ok (.new 10, 3) := by decide +kernel
theorem dL_law_11 : decode cL_law 11 = .ok (.dup, 1) := by decide +kernel
theorem dL_law_12 : decode cL_law 12 = .ok (.invokespecial 12, 3) := by decide +kernel
theorem dL_law_15 : decode cL_law 15 = .ok (.astore_n 2, 1) := by decide +kernel
theorem dL_law_16 : decode cL_law 16 = .ok (.iconst 0, 1) := by decide +kernel
theorem dL_law_17 : decode cL_law 17 = .ok (.istore_n 3, 1) := by decide +kernel
theorem dL_law_18 : decode cL_law 18 = .ok (.iload_n 3, 1) := by decide +kernel
theorem dL_law_19 : decode cL_law 19 = .ok (.aload_n 0, 1) := by decide +kernel
theorem dL_law_20 : decode cL_law 20 = .ok (.arraylength, 1) := by decide +kernel
theorem dL_law_21 : decode cL_law 21 = .ok (.iconst 4, 1) := by decide +kernel
theorem dL_law_22 : decode cL_law 22 = .ok (.isub, 1) := by decide +kernel
theorem dL_law_23 : decode cL_law 23 = .ok (.if_icmp .gt 330, 3) := by decide +kernel
theorem dL_law_26 : decode cL_law 26 = .ok (.aload_n 0, 1) := by decide +kernel
theorem dL_law_27 : decode cL_law 27 = .ok (.iload_n 3, 1) := by decide +kernel
theorem dL_law_28 : decode cL_law 28 = .ok (.iaload, 1) := by decide +kernel
theorem dL_law_29 : decode cL_law 29 = .ok (.bipush 15, 2) := by decide +kernel
theorem dL_law_31 : decode cL_law 31 = .ok (.iand, 1) := by decide +kernel
theorem dL_law_32 : decode cL_law 32 = .ok (.tableswitch 315 0 12 #[68, 111, 124, 147, 158, 181, 194, 217, 230, 243, 256, 269, 292], 68) := by decide +kernel
theorem dL_law_100 : decode cL_law 100 = .ok (.aload_n 1, 1) := by decide +kernel
theorem dL_law_101 : decode cL_law 101 = .ok (.aload_n 0, 1) := by decide +kernel
theorem dL_law_102 : decode cL_law 102 = .ok (.iload_n 3, 1) := by decide +kernel
theorem dL_law_103 : decode cL_law 103 = .ok (.iconst 1, 1) := by decide +kernel
theorem dL_law_104 : decode cL_law 104 = .ok (.iadd, 1) := by decide +kernel
theorem dL_law_105 : decode cL_law 105 = .ok (.iaload, 1) := by decide +kernel
theorem dL_law_106 : decode cL_law 106 = .ok (.aload_n 0, 1) := by decide +kernel
theorem dL_law_107 : decode cL_law 107 = .ok (.iload_n 3, 1) := by decide +kernel
theorem dL_law_108 : decode cL_law 108 = .ok (.iconst 2, 1) := by decide +kernel
theorem dL_law_109 : decode cL_law 109 = .ok (.iadd, 1) := by decide +kernel
theorem dL_law_110 : decode cL_law 110 = .ok (.iaload, 1) := by decide +kernel
theorem dL_law_111 : decode cL_law 111 = .ok (.aload_n 0, 1) := by decide +kernel
theorem dL_law_112 : decode cL_law 112 = .ok (.iload_n 3, 1) := by decide +kernel
theorem dL_law_113 : decode cL_law 113 = .ok (.iconst 3, 1) := by decide +kernel
theorem dL_law_114 : decode cL_law 114 = .ok (.iadd, 1) := by decide +kernel
theorem dL_law_115 : decode cL_law 115 = .ok (.iaload, 1) := by decide +kernel
theorem dL_law_116 : decode cL_law 116 = .ok (.invokevirtual 13, 3) := by decide +kernel
theorem dL_law_119 : decode cL_law 119 = .ok (.aload_n 2, 1) := by decide +kernel
theorem dL_law_120 : decode cL_law 120 = .ok (.aload_n 0, 1) := by decide +kernel
theorem dL_law_121 : decode cL_law 121 = .ok (.iload_n 3, 1) := by decide +kernel
theorem dL_law_122 : decode cL_law 122 = .ok (.iconst 1, 1) := by decide +kernel
theorem dL_law_123 : decode cL_law 123 = .ok (.iadd, 1) := by decide +kernel
theorem dL_law_124 : decode cL_law 124 = .ok (.iaload, 1) := by decide +kernel
theorem dL_law_125 : decode cL_law 125 = .ok (.aload_n 0, 1) := by decide +kernel
theorem dL_law_126 : decode cL_law 126 = .ok (.iload_n 3, 1) := by decide +kernel
theorem dL_law_127 : decode cL_law 127 = .ok (.iconst 2, 1) := by decide +kernel
theorem dL_law_128 : decode cL_law 128 = .ok (.iadd, 1) := by decide +kernel
theorem dL_law_129 : decode cL_law 129 = .ok (.iaload, 1) := by decide +kernel
theorem dL_law_130 : decode cL_law 130 = .ok (.aload_n 0, 1) := by decide +kernel
theorem dL_law_131 : decode cL_law 131 = .ok (.iload_n 3, 1) := by decide +kernel
theorem dL_law_132 : decode cL_law 132 = .ok (.iconst 3, 1) := by decide +kernel
theorem dL_law_133 : decode cL_law 133 = .ok (.iadd, 1) := by decide +kernel
theorem dL_law_134 : decode cL_law 134 = .ok (.iaload, 1) := by decide +kernel
theorem dL_law_135 : decode cL_law 135 = .ok (.invokevirtual 17, 3) := by decide +kernel
theorem dL_law_138 : decode cL_law 138 = .ok (.if_icmp .eq 209, 3) := by decide +kernel
theorem dL_law_141 : decode cL_law 141 = .ok (.iconst 0, 1) := by decide +kernel
theorem dL_law_142 : decode cL_law 142 = .ok (.ireturn, 1) := by decide +kernel
theorem dL_law_143 : decode cL_law 143 = .ok (.aload_n 1, 1) := by decide +kernel
theorem dL_law_144 : decode cL_law 144 = .ok (.invokevirtual 18, 3) := by decide +kernel
theorem dL_law_147 : decode cL_law 147 = .ok (.aload_n 2, 1) := by decide +kernel
theorem dL_law_148 : decode cL_law 148 = .ok (.invokevirtual 22, 3) := by decide +kernel
theorem dL_law_151 : decode cL_law 151 = .ok (.if_icmp .eq 196, 3) := by decide +kernel
theorem dL_law_154 : decode cL_law 154 = .ok (.iconst 0, 1) := by decide +kernel
theorem dL_law_155 : decode cL_law 155 = .ok (.ireturn, 1) := by decide +kernel
theorem dL_law_156 : decode cL_law 156 = .ok (.aload_n 1, 1) := by decide +kernel
theorem dL_law_157 : decode cL_law 157 = .ok (.aload_n 0, 1) := by decide +kernel
theorem dL_law_158 : decode cL_law 158 = .ok (.iload_n 3, 1) := by decide +kernel
theorem dL_law_159 : decode cL_law 159 = .ok (.iconst 1, 1) := by decide +kernel
theorem dL_law_160 : decode cL_law 160 = .ok (.iadd, 1) := by decide +kernel
theorem dL_law_161 : decode cL_law 161 = .ok (.iaload, 1) := by decide +kernel
theorem dL_law_162 : decode cL_law 162 = .ok (.invokevirtual 23, 3) := by decide +kernel
theorem dL_law_165 : decode cL_law 165 = .ok (.aload_n 2, 1) := by decide +kernel
theorem dL_law_166 : decode cL_law 166 = .ok (.aload_n 0, 1) := by decide +kernel
theorem dL_law_167 : decode cL_law 167 = .ok (.iload_n 3, 1) := by decide +kernel
theorem dL_law_168 : decode cL_law 168 = .ok (.iconst 1, 1) := by decide +kernel
theorem dL_law_169 : decode cL_law 169 = .ok (.iadd, 1) := by decide +kernel
theorem dL_law_170 : decode cL_law 170 = .ok (.iaload, 1) := by decide +kernel
theorem dL_law_171 : decode cL_law 171 = .ok (.invokevirtual 27, 3) := by decide +kernel
theorem dL_law_174 : decode cL_law 174 = .ok (.if_icmp .eq 173, 3) := by decide +kernel
theorem dL_law_177 : decode cL_law 177 = .ok (.iconst 0, 1) := by decide +kernel
theorem dL_law_178 : decode cL_law 178 = .ok (.ireturn, 1) := by decide +kernel
theorem dL_law_179 : decode cL_law 179 = .ok (.aload_n 1, 1) := by decide +kernel
theorem dL_law_180 : decode cL_law 180 = .ok (.invokevirtual 28, 3) := by decide +kernel
theorem dL_law_183 : decode cL_law 183 = .ok (.aload_n 2, 1) := by decide +kernel
theorem dL_law_184 : decode cL_law 184 = .ok (.invokevirtual 31, 3) := by decide +kernel
theorem dL_law_187 : decode cL_law 187 = .ok (.goto 160, 3) := by decide +kernel
theorem dL_law_190 : decode cL_law 190 = .ok (.aload_n 1, 1) := by decide +kernel
theorem dL_law_191 : decode cL_law 191 = .ok (.aload_n 0, 1) := by decide +kernel
theorem dL_law_192 : decode cL_law 192 = .ok (.iload_n 3, 1) := by decide +kernel
theorem dL_law_193 : decode cL_law 193 = .ok (.iconst 1, 1) := by decide +kernel
theorem dL_law_194 : decode cL_law 194 = .ok (.iadd, 1) := by decide +kernel
theorem dL_law_195 : decode cL_law 195 = .ok (.iaload, 1) := by decide +kernel
theorem dL_law_196 : decode cL_law 196 = .ok (.invokevirtual 32, 3) := by decide +kernel
theorem dL_law_199 : decode cL_law 199 = .ok (.aload_n 2, 1) := by decide +kernel
theorem dL_law_200 : decode cL_law 200 = .ok (.aload_n 0, 1) := by decide +kernel
theorem dL_law_201 : decode cL_law 201 = .ok (.iload_n 3, 1) := by decide +kernel
theorem dL_law_202 : decode cL_law 202 = .ok (.iconst 1, 1) := by decide +kernel
theorem dL_law_203 : decode cL_law 203 = .ok (.iadd, 1) := by decide +kernel
theorem dL_law_204 : decode cL_law 204 = .ok (.iaload, 1) := by decide +kernel
theorem dL_law_205 : decode cL_law 205 = .ok (.invokevirtual 35, 3) := by decide +kernel
theorem dL_law_208 : decode cL_law 208 = .ok (.if_icmp .eq 139, 3) := by decide +kernel
theorem dL_law_211 : decode cL_law 211 = .ok (.iconst 0, 1) := by decide +kernel
theorem dL_law_212 : decode cL_law 212 = .ok (.ireturn, 1) := by decide +kernel
theorem dL_law_213 : decode cL_law 213 = .ok (.aload_n 1, 1) := by decide +kernel
theorem dL_law_214 : decode cL_law 214 = .ok (.invokevirtual 36, 3) := by decide +kernel
theorem dL_law_217 : decode cL_law 217 = .ok (.aload_n 2, 1) := by decide +kernel
theorem dL_law_218 : decode cL_law 218 = .ok (.invokevirtual 39, 3) := by decide +kernel
theorem dL_law_221 : decode cL_law 221 = .ok (.if_icmp .eq 126, 3) := by decide +kernel
theorem dL_law_224 : decode cL_law 224 = .ok (.iconst 0, 1) := by decide +kernel
theorem dL_law_225 : decode cL_law 225 = .ok (.ireturn, 1) := by decide +kernel
theorem dL_law_226 : decode cL_law 226 = .ok (.aload_n 1, 1) := by decide +kernel
theorem dL_law_227 : decode cL_law 227 = .ok (.aload_n 0, 1) := by decide +kernel
theorem dL_law_228 : decode cL_law 228 = .ok (.iload_n 3, 1) := by decide +kernel
theorem dL_law_229 : decode cL_law 229 = .ok (.iconst 1, 1) := by decide +kernel
theorem dL_law_230 : decode cL_law 230 = .ok (.iadd, 1) := by decide +kernel
theorem dL_law_231 : decode cL_law 231 = .ok (.iaload, 1) := by decide +kernel
theorem dL_law_232 : decode cL_law 232 = .ok (.invokevirtual 40, 3) := by decide +kernel
theorem dL_law_235 : decode cL_law 235 = .ok (.aload_n 2, 1) := by decide +kernel
theorem dL_law_236 : decode cL_law 236 = .ok (.aload_n 0, 1) := by decide +kernel
theorem dL_law_237 : decode cL_law 237 = .ok (.iload_n 3, 1) := by decide +kernel
theorem dL_law_238 : decode cL_law 238 = .ok (.iconst 1, 1) := by decide +kernel
theorem dL_law_239 : decode cL_law 239 = .ok (.iadd, 1) := by decide +kernel
theorem dL_law_240 : decode cL_law 240 = .ok (.iaload, 1) := by decide +kernel
theorem dL_law_241 : decode cL_law 241 = .ok (.invokevirtual 43, 3) := by decide +kernel
theorem dL_law_244 : decode cL_law 244 = .ok (.if_icmp .eq 103, 3) := by decide +kernel
theorem dL_law_247 : decode cL_law 247 = .ok (.iconst 0, 1) := by decide +kernel
theorem dL_law_248 : decode cL_law 248 = .ok (.ireturn, 1) := by decide +kernel
theorem dL_law_249 : decode cL_law 249 = .ok (.aload_n 1, 1) := by decide +kernel
theorem dL_law_250 : decode cL_law 250 = .ok (.invokevirtual 44, 3) := by decide +kernel
theorem dL_law_253 : decode cL_law 253 = .ok (.aload_n 2, 1) := by decide +kernel
theorem dL_law_254 : decode cL_law 254 = .ok (.invokevirtual 48, 3) := by decide +kernel
theorem dL_law_257 : decode cL_law 257 = .ok (.if_icmp .eq 90, 3) := by decide +kernel
theorem dL_law_260 : decode cL_law 260 = .ok (.iconst 0, 1) := by decide +kernel
theorem dL_law_261 : decode cL_law 261 = .ok (.ireturn, 1) := by decide +kernel
theorem dL_law_262 : decode cL_law 262 = .ok (.aload_n 1, 1) := by decide +kernel
theorem dL_law_263 : decode cL_law 263 = .ok (.invokevirtual 49, 3) := by decide +kernel
theorem dL_law_266 : decode cL_law 266 = .ok (.aload_n 2, 1) := by decide +kernel
theorem dL_law_267 : decode cL_law 267 = .ok (.invokevirtual 52, 3) := by decide +kernel
theorem dL_law_270 : decode cL_law 270 = .ok (.if_icmp .eq 77, 3) := by decide +kernel
theorem dL_law_273 : decode cL_law 273 = .ok (.iconst 0, 1) := by decide +kernel
theorem dL_law_274 : decode cL_law 274 = .ok (.ireturn, 1) := by decide +kernel
theorem dL_law_275 : decode cL_law 275 = .ok (.aload_n 1, 1) := by decide +kernel
theorem dL_law_276 : decode cL_law 276 = .ok (.invokevirtual 53, 3) := by decide +kernel
theorem dL_law_279 : decode cL_law 279 = .ok (.aload_n 2, 1) := by decide +kernel
theorem dL_law_280 : decode cL_law 280 = .ok (.invokevirtual 56, 3) := by decide +kernel
theorem dL_law_283 : decode cL_law 283 = .ok (.if_icmp .eq 64, 3) := by decide +kernel
theorem dL_law_286 : decode cL_law 286 = .ok (.iconst 0, 1) := by decide +kernel
theorem dL_law_287 : decode cL_law 287 = .ok (.ireturn, 1) := by decide +kernel
theorem dL_law_288 : decode cL_law 288 = .ok (.aload_n 1, 1) := by decide +kernel
theorem dL_law_289 : decode cL_law 289 = .ok (.invokevirtual 57, 3) := by decide +kernel
theorem dL_law_292 : decode cL_law 292 = .ok (.aload_n 2, 1) := by decide +kernel
theorem dL_law_293 : decode cL_law 293 = .ok (.invokevirtual 60, 3) := by decide +kernel
theorem dL_law_296 : decode cL_law 296 = .ok (.if_icmp .eq 51, 3) := by decide +kernel
theorem dL_law_299 : decode cL_law 299 = .ok (.iconst 0, 1) := by decide +kernel
theorem dL_law_300 : decode cL_law 300 = .ok (.ireturn, 1) := by decide +kernel
theorem dL_law_301 : decode cL_law 301 = .ok (.aload_n 1, 1) := by decide +kernel
theorem dL_law_302 : decode cL_law 302 = .ok (.aload_n 0, 1) := by decide +kernel
theorem dL_law_303 : decode cL_law 303 = .ok (.iload_n 3, 1) := by decide +kernel
theorem dL_law_304 : decode cL_law 304 = .ok (.iconst 1, 1) := by decide +kernel
theorem dL_law_305 : decode cL_law 305 = .ok (.iadd, 1) := by decide +kernel
theorem dL_law_306 : decode cL_law 306 = .ok (.iaload, 1) := by decide +kernel
theorem dL_law_307 : decode cL_law 307 = .ok (.invokevirtual 61, 3) := by decide +kernel
theorem dL_law_310 : decode cL_law 310 = .ok (.aload_n 2, 1) := by decide +kernel
theorem dL_law_311 : decode cL_law 311 = .ok (.aload_n 0, 1) := by decide +kernel
theorem dL_law_312 : decode cL_law 312 = .ok (.iload_n 3, 1) := by decide +kernel
theorem dL_law_313 : decode cL_law 313 = .ok (.iconst 1, 1) := by decide +kernel
theorem dL_law_314 : decode cL_law 314 = .ok (.iadd, 1) := by decide +kernel
theorem dL_law_315 : decode cL_law 315 = .ok (.iaload, 1) := by decide +kernel
theorem dL_law_316 : decode cL_law 316 = .ok (.invokevirtual 64, 3) := by decide +kernel
theorem dL_law_319 : decode cL_law 319 = .ok (.if_icmp .eq 28, 3) := by decide +kernel
theorem dL_law_322 : decode cL_law 322 = .ok (.iconst 0, 1) := by decide +kernel
theorem dL_law_323 : decode cL_law 323 = .ok (.ireturn, 1) := by decide +kernel
theorem dL_law_324 : decode cL_law 324 = .ok (.aload_n 1, 1) := by decide +kernel
theorem dL_law_325 : decode cL_law 325 = .ok (.aload_n 0, 1) := by decide +kernel
theorem dL_law_326 : decode cL_law 326 = .ok (.iload_n 3, 1) := by decide +kernel
theorem dL_law_327 : decode cL_law 327 = .ok (.iconst 1, 1) := by decide +kernel
theorem dL_law_328 : decode cL_law 328 = .ok (.iadd, 1) := by decide +kernel
theorem dL_law_329 : decode cL_law 329 = .ok (.iaload, 1) := by decide +kernel
theorem dL_law_330 : decode cL_law 330 = .ok (.invokevirtual 65, 3) := by decide +kernel
theorem dL_law_333 : decode cL_law 333 = .ok (.aload_n 2, 1) := by decide +kernel
theorem dL_law_334 : decode cL_law 334 = .ok (.aload_n 0, 1) := by decide +kernel
theorem dL_law_335 : decode cL_law 335 = .ok (.iload_n 3, 1) := by decide +kernel
theorem dL_law_336 : decode cL_law 336 = .ok (.iconst 1, 1) := by decide +kernel
theorem dL_law_337 : decode cL_law 337 = .ok (.iadd, 1) := by decide +kernel
theorem dL_law_338 : decode cL_law 338 = .ok (.iaload, 1) := by decide +kernel
theorem dL_law_339 : decode cL_law 339 = .ok (.invokevirtual 68, 3) := by decide +kernel
theorem dL_law_342 : decode cL_law 342 = .ok (.if_icmp .eq 5, 3) := by decide +kernel
theorem dL_law_345 : decode cL_law 345 = .ok (.iconst 0, 1) := by decide +kernel
theorem dL_law_346 : decode cL_law 346 = .ok (.ireturn, 1) := by decide +kernel
theorem dL_law_347 : decode cL_law 347 = .ok (.iinc 3 4, 3) := by decide +kernel
theorem dL_law_350 : decode cL_law 350 = .ok (.goto (-332), 3) := by decide +kernel
theorem dL_law_353 : decode cL_law 353 = .ok (.iconst 1, 1) := by decide +kernel
theorem dL_law_354 : decode cL_law 354 = .ok (.ireturn, 1) := by decide +kernel
end
section
/-! pure words: conditions, automata, counting, the reference's words; no program in sight -/
abbrev zC : Type := Nat → Nat × Nat × Nat
/-- a good condition (kind, a, b) -/
def zG (c : Nat × Nat × Nat) : Prop := c.1 ≤ 9 ∧ (c.1 = 0 → 2 ≤ c.2.1 ∧ c.2.1 ≤ 4 ∧ c.2.2 < c.2.1) ∧ (c.1 ≠ 0 → c.2.1 ≤ 3) ∧ c.2.2 ≤ 3 ∧ (c.1 = 2 → c.2.2 ≤ 2) ∧ (c.1 = 9 → c.2.2 ≤ 1)
/-- three ints hold a condition; a and b that a kind doesn't read may be anything -/
def zRep (k a b : Int32) (c : Nat × Nat × Nat) : Prop := zG c ∧ k = nI c.1 ∧ (c.1 ≠ 8 → a = nI c.2.1) ∧ (c.1 ≤ 4 ∨ c.1 = 9 → b = nI c.2.2)
def zReps (N : Nat) (C : zC) (ks as_ bs : Nat → Int32) : Prop := ∀ i, i < N → zRep (ks i) (as_ i) (bs i) (C i)
/-- where a condition's automaton goes -/
def zgo (c : Nat × Nat × Nat) (s last x : Nat) : Nat :=
  if c.1 = 0 then (s + x) % c.2.1
  else if c.1 = 1 then (if x = c.2.1 ∧ s < c.2.2 then s + 1 else s)
  else if c.1 = 2 then (if x = c.2.1 ∧ s ≤ c.2.2 then s + 1 else s)
  else if c.1 = 3 ∨ c.1 = 4 then (if last = c.2.1 ∧ x = c.2.2 then 1 else s)
  else if c.1 = 5 then (if last ≠ 4 then s else if c.2.1 ≤ x then 1 else 2)
  else if c.1 = 6 then 0
  else if c.1 = 7 then (if s < c.2.1 then s + 1 else s)
  else if c.1 = 8 then (if last < x then 1 else s)
  else (if x = c.2.1 then s ^^^ 1 else s)
def zac (c : Nat × Nat × Nat) (s last : Nat) : Bool :=
  if c.1 = 0 then decide (s = c.2.2)
  else if c.1 = 1 then decide (s = c.2.2)
  else if c.1 = 2 then decide (s ≤ c.2.2)
  else if c.1 = 3 then decide (s = 1)
  else if c.1 = 4 then decide (s = 0)
  else if c.1 = 5 then decide (s = 1)
  else if c.1 = 6 then decide (last ≠ 4 ∧ c.2.1 ≤ last)
  else if c.1 = 7 then decide (s = c.2.1)
  else if c.1 = 8 then decide (s = 1)
  else decide (s = c.2.2)
/-- the next state, out of the first i conditions -/
def znx (C : zC) (s x : Nat) : Nat → Nat
  | 0 => 64 * x
  | i + 1 => znx C s x i + zgo (C i) (s / 4 ^ i % 4) (s / 64) x * 4 ^ i
/-- the first i conditions accept -/
def zak (C : zC) (s : Nat) : Nat → Bool
  | 0 => true
  | i + 1 => zak C s i && zac (C i) (s / 4 ^ i % 4) (s / 64)
/-- in how many ways a state leads to an accepting one by k elements -/
def zwy (N : Nat) (C : zC) : Nat → Nat → Nat
  | 0, s => (zak C s N).toNat
  | k + 1, s => zwy N C k (znx C s 0 N) + zwy N C k (znx C s 1 N) + zwy N C k (znx C s 2 N) + zwy N C k (znx C s 3 N)
/-- by one of the elements below t, and k more -/
def zso (N : Nat) (C : zC) (k s : Nat) : Nat → Nat
  | 0 => 0
  | t + 1 => zso N C k s t + zwy N C k (znx C s t N)
theorem zwy_s (N : Nat) (C : zC) (k s : Nat) : zwy N C (k + 1) s = zso N C k s 4 := by simp [zwy, zso]
/-- by less than j elements -/
def zex (N : Nat) (C : zC) (s : Nat) : Nat → Nat
  | 0 => 0
  | k + 1 => zex N C s k + zwy N C k s
/-- the state behind the first i of the elements f -/
def zrs (N : Nat) (C : zC) (f : Nat → Nat) : Nat → Nat
  | 0 => 256
  | i + 1 => znx C (zrs N C f i) (f i) N
/-- how many lists stand ahead, by length and by the first i elements of L -/
def zrk (N : Nat) (C : zC) (f : Nat → Nat) (L : Nat) : Nat → Nat
  | 0 => zex N C 256 L
  | i + 1 => zrk N C f L i + zso N C (L - i - 1) (zrs N C f i) (f i)
/-- the table holds the counts -/
def zTab (N : Nat) (C : zC) (w : Nat → Int32) : Prop := ∀ k, k ≤ 6 → ∀ s, s < 320 → w (k * 320 + s) = nI (zwy N C k s)
-- the reference's words
def zat (n l i : Nat) : Nat := l / 4 ^ (n - 1 - i) % 4
def zoc (n l a : Nat) : Nat → Nat
  | 0 => 0
  | i + 1 => zoc n l a i + (if zat n l i = a then 1 else 0)
def zsm (n l : Nat) : Nat → Nat
  | 0 => 0
  | i + 1 => zsm n l i + zat n l i
def zpr (n l a b : Nat) : Nat → Bool
  | 0 => false
  | i + 1 => zpr n l a b i || decide (zat n l i = a ∧ zat n l (i + 1) = b)
def zri (n l : Nat) : Nat → Bool
  | 0 => false
  | i + 1 => zri n l i || decide (zat n l i < zat n l (i + 1))
def zmt (c : Nat × Nat × Nat) (n l : Nat) : Bool :=
  if c.1 = 0 then decide (zsm n l n % c.2.1 = c.2.2)
  else if c.1 = 1 then decide (c.2.2 ≤ zoc n l c.2.1 n)
  else if c.1 = 2 then decide (zoc n l c.2.1 n ≤ c.2.2)
  else if c.1 = 3 then zpr n l c.2.1 c.2.2 (n - 1)
  else if c.1 = 4 then !zpr n l c.2.1 c.2.2 (n - 1)
  else if c.1 = 5 then decide (0 < n ∧ c.2.1 ≤ zat n l 0)
  else if c.1 = 6 then decide (0 < n ∧ c.2.1 ≤ zat n l (n - 1))
  else if c.1 = 7 then decide (c.2.1 ≤ n)
  else if c.1 = 8 then zri n l (n - 1)
  else decide (zoc n l c.2.1 n % 2 = c.2.2)
/-- the first i conditions hold of list l of length n -/
def zfl (C : zC) (n l : Nat) : Nat → Bool
  | 0 => true
  | i + 1 => zfl C n l i && zmt (C i) n l
def zst : Nat → Nat
  | 0 => 0
  | n + 1 => zst n + 4 ^ n
def zlr (k : Nat) : Nat → Nat
  | 0 => 0
  | i + 1 => if zst (i + 1) ≤ k then i + 1 else zlr k i
def zln (k : Nat) : Nat := zlr k 6
/-- list number k fails -/
def zmk (N : Nat) (C : zC) (k : Nat) : Bool := zfl C (zln k) (k - zst (zln k)) N
def zcn (p : Nat → Bool) : Nat → Nat
  | 0 => 0
  | k + 1 => zcn p k + (p k).toNat
def zbt (p : Nat → Bool) (a : Nat) : Nat → Nat
  | 0 => 0
  | d + 1 => zbt p a d + (p (a + d)).toNat
/-- the marks hold which lists fail -/
def zbit (x : Int32) (i : Nat) : Bool := x.toBitVec.getLsbD i
def zMks (N : Nat) (C : zC) (w : Nat → Int32) : Prop := ∀ k, k < 5461 → zbit (w (k / 32)) (k % 32) = zmk N C k
def zxi (N : Nat) (C : zC) (n L D : Nat) : Nat → Nat
  | 0 => 0
  | l + 1 => zxi N C n L D l + (zmk N C (zst n + l) && decide (l / 4 ^ (n - L) = D)).toNat
def zxo (N : Nat) (C : zC) (L D : Nat) : Nat → Nat
  | 0 => 0
  | j + 1 => zxo N C L D j + zxi N C (L + j) L D (4 ^ (L + j))
end
section
/-! rows: an instruction over numbers nI n; a call that only reads -/
theorem zs_l : ∀ n, n < 32 → ((nI n &&& 31).toBitVec.smod 32).toNat = n := by decide +kernel
theorem zn_or (a b : Nat) : nI a ||| nI b = nI (a ||| b) := by
  apply Int32.toBitVec_inj.1
  show BitVec.ofNat 32 a ||| BitVec.ofNat 32 b = BitVec.ofNat 32 (a ||| b)
  apply BitVec.eq_of_getLsbD_eq
  intro i hi
  simp [hi]
theorem zn_xor (a b : Nat) : nI a ^^^ nI b = nI (a ^^^ b) := by
  apply Int32.toBitVec_inj.1
  show BitVec.ofNat 32 a ^^^ BitVec.ofNat 32 b = BitVec.ofNat 32 (a ^^^ b)
  apply BitVec.eq_of_getLsbD_eq
  intro i hi
  simp [hi]
theorem zn_nb (b : Bool) : narrow .boolean (.int (nI b.toNat)) = .int (nI b.toNat) := by cases b <;> rfl
section
variable {p : Program} {l : Launch} {e : Env} {R : Room} {s : State} {m : MethodId} {args : Array Value} {below : List Frame} {meth : Method} {c : Code} {H : Heap} {locs : List Loc} {cells slots : Nat} {Q : State → Prop} {cc : ByteArray} {pc : Nat} {ls : Array Slot} {rest : List Value}
theorem zn_to {x y : Int32} (h : x = y) (k : W p l e R s m args below meth c H locs cells slots Q (F0 m pc ls (.int y :: rest))) : W p l e R s m args below meth c H locs cells slots Q (F0 m pc ls (.int x :: rest)) := by rw [h]; exact k
theorem zn_iadd (hx : p.tables.exec = Jvm.exec) (hb : c.code = cc) {a b : Nat} (hdg : decode cc pc = .ok (.iadd, 1)) (k : W p l e R s m args below meth c H locs cells slots Q (F0 m (pc + 1) ls (.int (nI (a + b)) :: rest))) : W p l e R s m args below meth c H locs cells slots Q (F0 m pc ls (.int (nI b) :: .int (nI a) :: rest)) := lv_iadd hx hb hdg (zn_to (nI_add a b) k)
theorem zn_isub (hx : p.tables.exec = Jvm.exec) (hb : c.code = cc) {a b : Nat} (hdg : decode cc pc = .ok (.isub, 1)) (h : b ≤ a) (k : W p l e R s m args below meth c H locs cells slots Q (F0 m (pc + 1) ls (.int (nI (a - b)) :: rest))) : W p l e R s m args below meth c H locs cells slots Q (F0 m pc ls (.int (nI b) :: .int (nI a) :: rest)) := lv_isub hx hb hdg (zn_to (pk_sub h) k)
theorem zn_imul (hx : p.tables.exec = Jvm.exec) (hb : c.code = cc) {a b : Nat} (hdg : decode cc pc = .ok (.imul, 1)) (k : W p l e R s m args below meth c H locs cells slots Q (F0 m (pc + 1) ls (.int (nI (a * b)) :: rest))) : W p l e R s m args below meth c H locs cells slots Q (F0 m pc ls (.int (nI b) :: .int (nI a) :: rest)) := lv_imul hx hb hdg (zn_to (pk_mul a b) k)
theorem zn_idiv (hx : p.tables.exec = Jvm.exec) (hb : c.code = cc) {a b : Nat} (hdg : decode cc pc = .ok (.idiv, 1)) (ha : a < 2 ^ 31) (h0 : 0 < b) (hb2 : b < 2 ^ 31) (k : W p l e R s m args below meth c H locs cells slots Q (F0 m (pc + 1) ls (.int (nI (a / b)) :: rest))) : W p l e R s m args below meth c H locs cells slots Q (F0 m pc ls (.int (nI b) :: .int (nI a) :: rest)) := lv_idiv hx hb hdg (nI_ne0 h0 hb2) (zn_to (pk_div ha h0 hb2) k)
theorem zn_irem (hx : p.tables.exec = Jvm.exec) (hb : c.code = cc) {a b : Nat} (hdg : decode cc pc = .ok (.irem, 1)) (ha : a < 2 ^ 31) (h0 : 0 < b) (hb2 : b < 2 ^ 31) (k : W p l e R s m args below meth c H locs cells slots Q (F0 m (pc + 1) ls (.int (nI (a % b)) :: rest))) : W p l e R s m args below meth c H locs cells slots Q (F0 m pc ls (.int (nI b) :: .int (nI a) :: rest)) := lv_irem hx hb hdg (nI_ne0 h0 hb2) (zn_to (pk_rem ha h0 hb2) k)
theorem zn_ishl (hx : p.tables.exec = Jvm.exec) (hb : c.code = cc) {a j v : Nat} (hdg : decode cc pc = .ok (.ishl, 1)) (hj : j < 32) (hv : a * 2 ^ j = v) (h : v < 2 ^ 31) (k : W p l e R s m args below meth c H locs cells slots Q (F0 m (pc + 1) ls (.int (nI v) :: rest))) : W p l e R s m args below meth c H locs cells slots Q (F0 m pc ls (.int (nI j) :: .int (nI a) :: rest)) := lv_ishl hx hb hdg (zn_to (by subst hv; exact pk_shlN _ j (zs_l j hj) (by omega)) k)
theorem zn_ishr (hx : p.tables.exec = Jvm.exec) (hb : c.code = cc) {a j v : Nat} (hdg : decode cc pc = .ok (.ishr, 1)) (hj : j < 32) (ha : a < 2 ^ 31) (hv : a / 2 ^ j = v) (k : W p l e R s m args below meth c H locs cells slots Q (F0 m (pc + 1) ls (.int (nI v) :: rest))) : W p l e R s m args below meth c H locs cells slots Q (F0 m pc ls (.int (nI j) :: .int (nI a) :: rest)) := lv_ishr hx hb hdg (zn_to (by subst hv; exact pk_shrN ha _ j (zs_l j hj)) k)
theorem zn_iand3 (hx : p.tables.exec = Jvm.exec) (hb : c.code = cc) {a : Nat} (hdg : decode cc pc = .ok (.iand, 1)) (ha : a < 2 ^ 31) (k : W p l e R s m args below meth c H locs cells slots Q (F0 m (pc + 1) ls (.int (nI (a % 4)) :: rest))) : W p l e R s m args below meth c H locs cells slots Q (F0 m pc ls (.int (nI 3) :: .int (nI a) :: rest)) := lv_iand hx hb hdg (zn_to (pk_andN (by omega) 2 (by decide +kernel)) k)
theorem zn_ior (hx : p.tables.exec = Jvm.exec) (hb : c.code = cc) {a b v : Nat} (hdg : decode cc pc = .ok (.ior, 1)) (hv : a ||| b = v) (k : W p l e R s m args below meth c H locs cells slots Q (F0 m (pc + 1) ls (.int (nI v) :: rest))) : W p l e R s m args below meth c H locs cells slots Q (F0 m pc ls (.int (nI b) :: .int (nI a) :: rest)) := lv_ior hx hb hdg (zn_to (by subst hv; exact zn_or a b) k)
theorem zn_ixor (hx : p.tables.exec = Jvm.exec) (hb : c.code = cc) {a b : Nat} (hdg : decode cc pc = .ok (.ixor, 1)) (k : W p l e R s m args below meth c H locs cells slots Q (F0 m (pc + 1) ls (.int (nI (a ^^^ b)) :: rest))) : W p l e R s m args below meth c H locs cells slots Q (F0 m pc ls (.int (nI b) :: .int (nI a) :: rest)) := lv_ixor hx hb hdg (zn_to (zn_xor a b) k)
theorem zn_iconst (hx : p.tables.exec = Jvm.exec) (hb : c.code = cc) {n : Nat} (hdg : decode cc pc = .ok (.iconst (n : Int), 1)) (k : W p l e R s m args below meth c H locs cells slots Q (F0 m (pc + 1) ls (.int (nI n) :: rest))) : W p l e R s m args below meth c H locs cells slots Q (F0 m pc ls rest) := lv_iconst (v := nI n) hx hb hdg rfl k
theorem zn_iinc (hx : p.tables.exec = Jvm.exec) (hb : c.code = cc) {i nL k a b : Nat} {lv lv' : List (Nat × Value)} (hdg : decode cc pc = .ok (.iinc i (b : Int), 3)) (h : lv_has ls nL lv) (hk : lv[k]? = some (i, .int (nI a))) (hn : i < nL) (hl : (i, Value.int (nI (a + b))) :: lv.filter (fun q => !(q.1 == i) && !(q.1 + 1 == i && q.2.category == 2)) = lv') (kk : ∀ ls' : Array Slot, lv_has ls' nL lv' → W p l e R s m args below meth c H locs cells slots Q (F0 m (pc + 3) ls' rest)) : W p l e R s m args below meth c H locs cells slots Q (F0 m pc ls rest) := lv_iinc (v := nI (a + b)) hx hb hdg h hk (nI_add a b) hn hl kk
-- branches on two numbers, on a number and 0
theorem zn_icmp_eq (hx : p.tables.exec = Jvm.exec) (hb : c.code = cc) {a b : Nat} {off : Int} {tgt : Nat} (hdg : decode cc pc = .ok (.if_icmp .eq off, 3)) (ht : (pc : Int) + off = (tgt : Int)) (h1 : a < 2 ^ 31) (h2 : b < 2 ^ 31) (kt : a = b → W p l e R s m args below meth c H locs cells slots Q (F0 m tgt ls rest)) (kf : ¬ a = b → W p l e R s m args below meth c H locs cells slots Q (F0 m (pc + 3) ls rest)) : W p l e R s m args below meth c H locs cells slots Q (F0 m pc ls (.int (nI b) :: .int (nI a) :: rest)) := lv_icmp_eq hx hb hdg ht (fun h => kt ((nI_eq h1 h2).mp h)) (fun h => kf (fun q => h ((nI_eq h1 h2).mpr q)))
theorem zn_icmp_ne (hx : p.tables.exec = Jvm.exec) (hb : c.code = cc) {a b : Nat} {off : Int} {tgt : Nat} (hdg : decode cc pc = .ok (.if_icmp .ne off, 3)) (ht : (pc : Int) + off = (tgt : Int)) (h1 : a < 2 ^ 31) (h2 : b < 2 ^ 31) (kt : ¬ a = b → W p l e R s m args below meth c H locs cells slots Q (F0 m tgt ls rest)) (kf : a = b → W p l e R s m args below meth c H locs cells slots Q (F0 m (pc + 3) ls rest)) : W p l e R s m args below meth c H locs cells slots Q (F0 m pc ls (.int (nI b) :: .int (nI a) :: rest)) := lv_icmp_ne hx hb hdg ht (fun h => kt (fun q => h ((nI_eq h1 h2).mpr q))) (fun h => kf ((nI_eq h1 h2).mp h))
theorem zn_icmp_lt (hx : p.tables.exec = Jvm.exec) (hb : c.code = cc) {a b : Nat} {off : Int} {tgt : Nat} (hdg : decode cc pc = .ok (.if_icmp .lt off, 3)) (ht : (pc : Int) + off = (tgt : Int)) (h1 : a < 2 ^ 31) (h2 : b < 2 ^ 31) (kt : a < b → W p l e R s m args below meth c H locs cells slots Q (F0 m tgt ls rest)) (kf : b ≤ a → W p l e R s m args below meth c H locs cells slots Q (F0 m (pc + 3) ls rest)) : W p l e R s m args below meth c H locs cells slots Q (F0 m pc ls (.int (nI b) :: .int (nI a) :: rest)) := lv_icmp_lt hx hb hdg ht (fun h => kt ((nI_ltI h1 h2).mp h)) (fun h => kf (Nat.le_of_not_lt (fun q => h ((nI_ltI h1 h2).mpr q))))
theorem zn_icmp_ge (hx : p.tables.exec = Jvm.exec) (hb : c.code = cc) {a b : Nat} {off : Int} {tgt : Nat} (hdg : decode cc pc = .ok (.if_icmp .ge off, 3)) (ht : (pc : Int) + off = (tgt : Int)) (h1 : a < 2 ^ 31) (h2 : b < 2 ^ 31) (kt : b ≤ a → W p l e R s m args below meth c H locs cells slots Q (F0 m tgt ls rest)) (kf : a < b → W p l e R s m args below meth c H locs cells slots Q (F0 m (pc + 3) ls rest)) : W p l e R s m args below meth c H locs cells slots Q (F0 m pc ls (.int (nI b) :: .int (nI a) :: rest)) := lv_icmp_ge hx hb hdg ht (fun h => kt ((nI_leI h2 h1).mp h)) (fun h => kf (Nat.lt_of_not_le (fun q => h ((nI_leI h2 h1).mpr q))))
theorem zn_icmp_gt (hx : p.tables.exec = Jvm.exec) (hb : c.code = cc) {a b : Nat} {off : Int} {tgt : Nat} (hdg : decode cc pc = .ok (.if_icmp .gt off, 3)) (ht : (pc : Int) + off = (tgt : Int)) (h1 : a < 2 ^ 31) (h2 : b < 2 ^ 31) (kt : b < a → W p l e R s m args below meth c H locs cells slots Q (F0 m tgt ls rest)) (kf : a ≤ b → W p l e R s m args below meth c H locs cells slots Q (F0 m (pc + 3) ls rest)) : W p l e R s m args below meth c H locs cells slots Q (F0 m pc ls (.int (nI b) :: .int (nI a) :: rest)) := lv_icmp_gt hx hb hdg ht (fun h => kt ((nI_ltI h2 h1).mp h)) (fun h => kf (Nat.le_of_not_lt (fun q => h ((nI_ltI h2 h1).mpr q))))
theorem zn_icmp_le (hx : p.tables.exec = Jvm.exec) (hb : c.code = cc) {a b : Nat} {off : Int} {tgt : Nat} (hdg : decode cc pc = .ok (.if_icmp .le off, 3)) (ht : (pc : Int) + off = (tgt : Int)) (h1 : a < 2 ^ 31) (h2 : b < 2 ^ 31) (kt : a ≤ b → W p l e R s m args below meth c H locs cells slots Q (F0 m tgt ls rest)) (kf : b < a → W p l e R s m args below meth c H locs cells slots Q (F0 m (pc + 3) ls rest)) : W p l e R s m args below meth c H locs cells slots Q (F0 m pc ls (.int (nI b) :: .int (nI a) :: rest)) := lv_icmp_le hx hb hdg ht (fun h => kt ((nI_leI h1 h2).mp h)) (fun h => kf (Nat.lt_of_not_le (fun q => h ((nI_leI h1 h2).mpr q))))
theorem zn_if_eq (hx : p.tables.exec = Jvm.exec) (hb : c.code = cc) {a : Nat} {off : Int} {tgt : Nat} (hdg : decode cc pc = .ok (.ifCond .eq off, 3)) (ht : (pc : Int) + off = (tgt : Int)) (h1 : a < 2 ^ 31) (kt : a = 0 → W p l e R s m args below meth c H locs cells slots Q (F0 m tgt ls rest)) (kf : ¬ a = 0 → W p l e R s m args below meth c H locs cells slots Q (F0 m (pc + 3) ls rest)) : W p l e R s m args below meth c H locs cells slots Q (F0 m pc ls (.int (nI a) :: rest)) := lv_if_eq hx hb hdg ht (fun h => kt (Decidable.byContradiction (fun q => nI_ne0 (Nat.pos_of_ne_zero q) h1 h))) (fun h => kf (fun q => h (by rw [q]; rfl)))
theorem zn_if_ne (hx : p.tables.exec = Jvm.exec) (hb : c.code = cc) {a : Nat} {off : Int} {tgt : Nat} (hdg : decode cc pc = .ok (.ifCond .ne off, 3)) (ht : (pc : Int) + off = (tgt : Int)) (h1 : a < 2 ^ 31) (kt : ¬ a = 0 → W p l e R s m args below meth c H locs cells slots Q (F0 m tgt ls rest)) (kf : a = 0 → W p l e R s m args below meth c H locs cells slots Q (F0 m (pc + 3) ls rest)) : W p l e R s m args below meth c H locs cells slots Q (F0 m pc ls (.int (nI a) :: rest)) := lv_if_ne hx hb hdg ht (fun h => kt (fun q => h (by rw [q]; rfl))) (fun h => kf (Decidable.byContradiction (fun q => nI_ne0 (Nat.pos_of_ne_zero q) h1 h)))
theorem zn_if_le (hx : p.tables.exec = Jvm.exec) (hb : c.code = cc) {a : Nat} {off : Int} {tgt : Nat} (hdg : decode cc pc = .ok (.ifCond .le off, 3)) (ht : (pc : Int) + off = (tgt : Int)) (h1 : a < 2 ^ 31) (kt : a = 0 → W p l e R s m args below meth c H locs cells slots Q (F0 m tgt ls rest)) (kf : ¬ a = 0 → W p l e R s m args below meth c H locs cells slots Q (F0 m (pc + 3) ls rest)) : W p l e R s m args below meth c H locs cells slots Q (F0 m pc ls (.int (nI a) :: rest)) := lv_if_le hx hb hdg ht (fun h => kt (Decidable.byContradiction (fun q => nI_nle (Nat.pos_of_ne_zero q) h1 h))) (fun h => kf (fun q => h (by rw [q]; decide +kernel)))
theorem zn_if_ge (hx : p.tables.exec = Jvm.exec) (hb : c.code = cc) {a : Nat} {off : Int} {tgt : Nat} (hdg : decode cc pc = .ok (.ifCond .ge off, 3)) (ht : (pc : Int) + off = (tgt : Int)) (h1 : a < 2 ^ 31) (kt : W p l e R s m args below meth c H locs cells slots Q (F0 m tgt ls rest)) : W p l e R s m args below meth c H locs cells slots Q (F0 m pc ls (.int (nI a) :: rest)) := lv_if_ge hx hb hdg ht (fun _ => kt) (fun h => absurd (nI_pos' h1) h)
-- an int array, at a number
theorem zn_iald {D : va_G} {cl : List vw_C} {tys : List (ClassId × FieldType)} {ws : va_W} {a : Nat} (hx : p.tables.exec = Jvm.exec) (hb : c.code = cc) (hK : va_K D cl tys s) (hP : va_P D cl ws H) (q0 t0 : Nat) {cA : ClassId} {n : Nat} {f : Nat → Int32} (ha : ws[q0]? = some (a, .inl (cA, n, .inl f))) (ht : tys[t0]? = some (cA, .int)) {i : Nat} {v : Int32} (hi : i < n) (hn : n < 2 ^ 31) (hv : f i = v) (hdg : decode cc pc = .ok (.iaload, 1)) (kk : W p l e R s m args below meth c H locs cells slots Q (F0 m (pc + 1) ls (.int v :: rest))) : W p l e R s m args below meth c H locs cells slots Q (F0 m pc ls (.int (nI i) :: .ref a :: rest)) := va_iald hx hb hK hP q0 t0 ha ht (vp_in_nI hi hn) hdg (zn_to (by rw [nI_clamp (Nat.lt_trans hi hn)]; exact hv) kk)
theorem zn_iast {D : va_G} {cl : List vw_C} {tys : List (ClassId × FieldType)} {ws : va_W} {a : Nat} {A : Nat → Prop} {H0 : Heap} (hx : p.tables.exec = Jvm.exec) (hb : c.code = cc) (hK : va_K D cl tys s) (hP : va_P D cl ws H) (hD : va_D A ws) (hS : va_S A H0 H locs) (q0 t0 : Nat) {cA : ClassId} {n : Nat} {f : Nat → Int32} (ha : ws[q0]? = some (a, .inl (cA, n, .inl f))) (ht : tys[t0]? = some (cA, .int)) {i : Nat} {x : Int32} (hi : i < n) (hn : n < 2 ^ 31) (hdg : decode cc pc = .ok (.iastore, 1)) (kk : ∀ (H1 : Heap) (locs1 : List Loc), va_P D cl (ws.set q0 (a, .inl (cA, n, .inl (upd f i x)))) H1 → va_D A (ws.set q0 (a, .inl (cA, n, .inl (upd f i x)))) → va_S A H0 H1 locs1 → W p l e R s m args below meth c H1 locs1 cells slots Q (F0 m (pc + 1) ls rest)) : W p l e R s m args below meth c H locs cells slots Q (F0 m pc ls (.int x :: .int (nI i) :: .ref a :: rest)) := va_iast hx hb hK hP hD hS q0 t0 ha ht (vp_in_nI hi hn) hdg (by rw [nI_clamp (Nat.lt_trans hi hn)]; exact kk)
end
-- a contract's start is blind to the frame
theorem zfb_R {D : va_G} {cl : List vw_C} {tys : List (ClassId × FieldType)} {ws : va_W} {av : List Value} : FrameBlind (va_Pc av (fun U => va_P D cl ws U.heap ∧ va_K D cl tys U)) := fun a U g mk q => ⟨q.1, q.2.1, va_K.moved (u := U) (U := U.calling g mk a) (Vm.Alike.refl U.vm) q.2.2⟩
theorem zfb_M {D : va_G} {cl : List vw_C} {tys : List (ClassId × FieldType)} {ws : va_W} {av : List Value} {sz : Nat} {A : Nat → Prop} : FrameBlind (va_Pc av (fun U => U.heap.size = sz ∧ va_P D cl ws U.heap ∧ va_K D cl tys U ∧ va_D A ws)) := fun a U g mk q => ⟨q.1, q.2.1, q.2.2.1, va_K.moved (u := U) (U := U.calling g mk a) (Vm.Alike.refl U.vm) q.2.2.2.1, q.2.2.2.2⟩
theorem zfb_0 {av : List Value} : FrameBlind (va_Pc av (fun _ => True)) := fun _ _ _ _ q => ⟨q.1, trivial⟩
section
variable {p : Program} {l : Launch} {e : Env} {R : Room} {s : State} {m : MethodId} {args : Array Value} {below : List Frame} {meth : Method} {c : Code} {H : Heap} {locs : List Loc} {cells slots : Nat} {Q : State → Prop} {cc : ByteArray} {pc : Nat} {ls : Array Slot} {rest st0 : List Value}
variable {y : MethodName} {bytes : ByteArray} {maxL nL n index : Nat} {ret : Option FieldType} {ws : List Cond} {rm : Room} {Ts : List Cond} {own C : String} {b : Nat} {D : va_G} {cl : List vw_C} {tys : List (ClassId × FieldType)} {w : va_W}
/-- a call through an object of a method that only reads -/
theorem zcallR {As : List Value} {post : Int32 → Prop} {ci q0 : Nat} {fs : List Value} {T : u_T} {N : Nat} (S : CallFix p m c cc nL s args Ts own) (hM : Met l y ws rm (va_Pc (.ref b :: As) (fun U => va_P D cl w U.heap ∧ va_K D cl tys U)) (vp_Si post) 0 0 (fun _ => False)) (cw : CallW R s args own C index y bytes maxL ret ws rm 0 0 n) (hK : va_K D cl tys s) (hP : va_P D cl w H) (hc : cl[ci]? = some (C, T, N)) (he : w[q0]? = some (b, .inr (ci, fs))) (hn : As.length = n) (hsize : ls.size = nL) (hst : st0 = As.reverse ++ .ref b :: rest) (hroom : (rest.map fun v => v.category).sum ≤ 8) (hdg : decode cc pc = .ok (.invokevirtual index, 3)) (hf : cells ≤ R.cells ∧ slots ≤ R.slots)
    (kk : ∀ r : Int32, post r → W p l e R s m args below meth c H locs cells slots Q (F0 m (pc + 3) ls (.int r :: rest))) : W p l e R s m args below meth c H locs cells slots Q (F0 m pc ls st0) :=
  vp_callSi (W.runV S hM cw ⟨zfb_R, va_recv hK hP hc he, fun U hU hW => ⟨rfl, by rw [hU]; exact hP, va_K.moved hW.alike hK⟩⟩ rfl hn hsize hst (lv_room hroom) hdg hf) kk
/-- a static call of a method of numbers alone -/
theorem zcallS {As : List Value} {post : Int32 → Prop} (S : CallFix p m c cc nL s args Ts own) (hM : Met l y ws rm (va_Pc As (fun _ => True)) (vp_Si post) 0 0 (fun _ => False)) (cw : CallB R s args own index y bytes maxL ret ws rm 0 0 n ∧ (Cond.static y).before args s = true) (hn : As.length = n) (hsize : ls.size = nL) (hst : st0 = As.reverse ++ rest) (hroom : (rest.map fun v => v.category).sum ≤ 8) (hdg : decode cc pc = .ok (.invokestatic index, 3)) (hf : cells ≤ R.cells ∧ slots ≤ R.slots)
    (kk : ∀ r : Int32, post r → W p l e R s m args below meth c H locs cells slots Q (F0 m (pc + 3) ls (.int r :: rest))) : W p l e R s m args below meth c H locs cells slots Q (F0 m pc ls st0) :=
  vp_callSi (W.runS S hM cw ⟨zfb_0, fun _ _ _ => ⟨rfl, trivial⟩⟩ rfl hn hsize hst (lv_room hroom) hdg hf) kk
end
-- worlds: ShrinkRanker at g 0 .. g 6, ShrinkRankerModel at h 0 .. h 4
abbrev zCl : List vw_C := [(RX0, TX0, 10), (RX1, TX1, 8)]
abbrev wX (g : Nat → Nat) (dA : ClassId) (cn : Int32) (ks as_ bs : Nat → Int32) (st : Int32) (sg : Nat → Int32) (fl : Int32) (fd : Nat → Int32) (rd : Int32) (wy : Nat → Int32) : va_W := [(g 0, .inr (0, [.int cn, .ref (g 1), .ref (g 2), .ref (g 3), .int st, .ref (g 4), .int fl, .ref (g 5), .int rd, .ref (g 6)])), (g 1, .inl (dA, 3, .inl ks)), (g 2, .inl (dA, 3, .inl as_)), (g 3, .inl (dA, 3, .inl bs)), (g 4, .inl (dA, 6, .inl sg)), (g 5, .inl (dA, 6, .inl fd)), (g 6, .inl (dA, 2240, .inl wy))]
abbrev wM (h : Nat → Nat) (dA : ClassId) (cn : Int32) (ks as_ bs : Nat → Int32) (ln dg kn : Int32) (mk : Nat → Int32) : va_W := [(h 0, .inr (1, [.int cn, .ref (h 1), .ref (h 2), .ref (h 3), .int ln, .int dg, .int kn, .ref (h 4)])), (h 1, .inl (dA, 3, .inl ks)), (h 2, .inl (dA, 3, .inl as_)), (h 3, .inl (dA, 3, .inl bs)), (h 4, .inl (dA, 171, .inl mk))]
abbrev zPre (D : va_G) (dA : ClassId) (w : va_W) (av : List Value) (sz : Nat) : Array Value → State → Prop := va_Pc av (fun U => U.heap.size = sz ∧ va_P D zCl w U.heap ∧ va_K D zCl [(dA, .int)] U ∧ va_D (fun _ => True) w)
abbrev zB {S : Type} (D : va_G) (dA : ClassId) (A : Nat → Prop) (wf : S → va_W) : S → State → Prop := fun u t => va_P D zCl (wf u) t.heap ∧ va_K D zCl [(dA, .int)] t ∧ va_D A (wf u)
/-- a method that changes its world w to one of wf and answers an int: 'post answer what' -/
abbrev zMetI {S : Type} (l : Launch) (y : MethodName) (ws : List Cond) (rm : Room) (D : va_G) (dA : ClassId) (w : va_W) (sz : Nat) (av : List Value) (post : Int32 → S → Prop) (wf : S → va_W) : Prop := Met l y ws rm (zPre D dA w av sz) (va_Qi post (zB D dA (va_A w sz) wf) (va_A w sz)) 0 0 (va_A w sz)
abbrev zMetV {S : Type} (l : Launch) (y : MethodName) (ws : List Cond) (rm : Room) (D : va_G) (dA : ClassId) (w : va_W) (sz : Nat) (av : List Value) (post : S → Prop) (wf : S → va_W) : Prop := Met l y ws rm (zPre D dA w av sz) (va_Qv post (zB D dA (va_A w sz) wf) (va_A w sz)) 0 0 (va_A w sz)
/-- a method that only reads -/
abbrev zMetR (l : Launch) (y : MethodName) (ws : List Cond) (rm : Room) (D : va_G) (dA : ClassId) (w : va_W) (av : List Value) (post : Int32 → Prop) : Prop := Met l y ws rm (va_Pc av (fun U => va_P D zCl w U.heap ∧ va_K D zCl [(dA, .int)] U)) (vp_Si post) 0 0 (fun _ => False)
section
variable {p : Program} {l : Launch} {e : Env} {R : Room} {s : State} {m : MethodId} {args : Array Value} {below : List Frame} {meth : Method} {c : Code} {H : Heap} {locs : List Loc} {cells slots : Nat} {Q : State → Prop} {cc : ByteArray} {pc : Nat} {ls : Array Slot} {rest st0 : List Value}
variable {y : MethodName} {bytes : ByteArray} {maxL nL n index : Nat} {ret : Option FieldType} {ws : List Cond} {rm : Room} {Ts : List Cond} {own C : String} {b : Nat} {D : va_G} {dA : ClassId} {w wc wr : va_W} {A : Nat → Prop}
theorem z_pick {isC : List Nat} (hC : isC.map (fun i => w[i]?) = wc.map some) : isC.filterMap (fun i => w[i]?) = wc := by
  have h := congrArg (List.filterMap id) hC
  rw [List.filterMap_map, List.filterMap_map] at h
  have h2 : List.filterMap (id ∘ some) wc = wc := by
    rw [show (id ∘ some : Nat × va_E → Option (Nat × va_E)) = some from rfl]
    exact List.filterMap_some
  rw [h2] at h
  exact h
/-- a call through an object of a method that writes: its cells stand at isC in w, the rest at isR -/
theorem zcallMi {S : Type} {As : List Value} {post : Int32 → S → Prop} {wf : S → va_W} {ci q0 : Nat} {fs : List Value} {T : u_T} {N : Nat} (isC isR : List Nat) (S0 : CallFix p m c cc nL s args Ts own) (hM : zMetI l y ws rm D dA wc H.size (.ref b :: As) post wf) (cw : CallW R s args own C index y bytes maxL ret ws rm 0 0 n) (hK : va_K D zCl [(dA, .int)] s) (hP : va_P D zCl w H) (hD : va_D A w) (hS : va_S A s.heap H locs) (hA : ∀ q : Nat, s.heap.size ≤ q → A q) (hC : isC.map (fun i => w[i]?) = wc.map some) (hR : isR.map (fun i => w[i]?) = wr.map some) (hnC : va_nd isC = true) (hnR : va_nd isR = true) (hdis : ∀ i ∈ isR, i ∉ isC) (hc : zCl[ci]? = some (C, T, N)) (he : wc[q0]? = some (b, .inr (ci, fs))) (hn : As.length = n) (hsize : ls.size = nL) (hst : st0 = As.reverse ++ .ref b :: rest) (hroom : (rest.map fun v => v.category).sum ≤ 8) (hdg : decode cc pc = .ok (.invokevirtual index, 3)) (hf : cells ≤ R.cells ∧ slots ≤ R.slots)
    (kk : ∀ (r : Int32) (u : S) (H1 : Heap) (locs1 : List Loc), post r u → va_P D zCl (wr ++ wf u) H1 → va_D A (wr ++ wf u) → va_S A s.heap H1 locs1 → W p l e R s m args below meth c H1 locs1 cells slots Q (F0 m (pc + 3) ls (.int r :: rest))) : W p l e R s m args below meth c H locs cells slots Q (F0 m pc ls st0) := by
  have hPc : va_P D zCl wc H := hP.sub isC (z_pick hC)
  have hDc := hD.sub isC hnC hC
  have hFc := va_free (wc := wc) hD hS hA isC hC
  refine va_calli (va_runV S0 hM cw ⟨zfb_M, va_recv hK hPc hc he, fun U hU hW => ⟨rfl, by rw [hU], by rw [hU]; exact hPc, va_K.moved hW.alike hK, hDc.weaken (fun _ _ _ _ => trivial)⟩⟩ rfl hn hsize hst (lv_room hroom) hdg hf) hS (fun q _ h => hFc q h) hFc (fun r u t H1 locs1 ht hvm hw hB hz1 hk1 hS1 => ?_)
  obtain ⟨hP1, hK1, hD1⟩ := hB
  rw [ht] at hP1
  obtain ⟨hP2, hD2⟩ := va_join (wr := wr) (w1 := wf u) hP hD isC isR hC hR hnR hdis hk1 hFc hP1 hD1
  exact kk r u H1 locs1 hw hP2 hD2 hS1
theorem zcallMv {S : Type} {As : List Value} {post : S → Prop} {wf : S → va_W} {ci q0 : Nat} {fs : List Value} {T : u_T} {N : Nat} (isC isR : List Nat) (S0 : CallFix p m c cc nL s args Ts own) (hM : zMetV l y ws rm D dA wc H.size (.ref b :: As) post wf) (cw : CallW R s args own C index y bytes maxL ret ws rm 0 0 n) (hK : va_K D zCl [(dA, .int)] s) (hP : va_P D zCl w H) (hD : va_D A w) (hS : va_S A s.heap H locs) (hA : ∀ q : Nat, s.heap.size ≤ q → A q) (hC : isC.map (fun i => w[i]?) = wc.map some) (hR : isR.map (fun i => w[i]?) = wr.map some) (hnC : va_nd isC = true) (hnR : va_nd isR = true) (hdis : ∀ i ∈ isR, i ∉ isC) (hc : zCl[ci]? = some (C, T, N)) (he : wc[q0]? = some (b, .inr (ci, fs))) (hn : As.length = n) (hsize : ls.size = nL) (hst : st0 = As.reverse ++ .ref b :: rest) (hroom : (rest.map fun v => v.category).sum ≤ 8) (hdg : decode cc pc = .ok (.invokevirtual index, 3)) (hf : cells ≤ R.cells ∧ slots ≤ R.slots)
    (kk : ∀ (u : S) (H1 : Heap) (locs1 : List Loc), post u → va_P D zCl (wr ++ wf u) H1 → va_D A (wr ++ wf u) → va_S A s.heap H1 locs1 → W p l e R s m args below meth c H1 locs1 cells slots Q (F0 m (pc + 3) ls rest)) : W p l e R s m args below meth c H locs cells slots Q (F0 m pc ls st0) := by
  have hPc : va_P D zCl wc H := hP.sub isC (z_pick hC)
  have hDc := hD.sub isC hnC hC
  have hFc := va_free (wc := wc) hD hS hA isC hC
  refine va_callv (va_runV S0 hM cw ⟨zfb_M, va_recv hK hPc hc he, fun U hU hW => ⟨rfl, by rw [hU], by rw [hU]; exact hPc, va_K.moved hW.alike hK, hDc.weaken (fun _ _ _ _ => trivial)⟩⟩ rfl hn hsize hst (lv_room hroom) hdg hf) hS (fun q _ h => hFc q h) hFc (fun u t H1 locs1 ht hvm hw hB hz1 hk1 hS1 => ?_)
  obtain ⟨hP1, hK1, hD1⟩ := hB
  rw [ht] at hP1
  obtain ⟨hP2, hD2⟩ := va_join (wr := wr) (w1 := wf u) hP hD isC isR hC hR hnR hdis hk1 hFc hP1 hD1
  exact kk u H1 locs1 hw hP2 hD2 hS1
end
end
section
/-! pure laws that the walks use -/
theorem zb_lt (b : Bool) : b.toNat < 2 ^ 31 := by cases b <;> decide
theorem zb_f {b : Bool} (h : b.toNat = 0) : b = false := by cases b <;> simp_all
theorem zb_t {b : Bool} (h : ¬ b.toNat = 0) : b = true := by cases b <;> simp_all
theorem zb_1 {P : Prop} [Decidable P] (h : P) : 1 = (decide P).toNat := by simp [h]
theorem zb_0 {P : Prop} [Decidable P] (h : ¬ P) : 0 = (decide P).toNat := by simp [h]
theorem z24 (i : Nat) : 2 ^ (2 * i) = 4 ^ i := by rw [Nat.pow_mul]
/-- Int32: x between lo and hi -/
def zin (x lo hi : Int32) : Bool := !decide (x < lo) && !decide (hi < x)
def zgn (k : Nat) (a b : Int32) : Bool :=
  if k = 0 then zin a (nI 2) (nI 4) && zin b (nI 0) (a - nI 1)
  else if k = 1 then zin a (nI 0) (nI 3) && zin b (nI 1) (nI 3)
  else if k = 2 then zin a (nI 0) (nI 3) && zin b (nI 0) (nI 2)
  else if k = 3 then zin a (nI 0) (nI 3) && zin b (nI 0) (nI 3)
  else if k = 4 then zin a (nI 0) (nI 3) && zin b (nI 0) (nI 3)
  else if k = 8 then true
  else if k = 9 then zin a (nI 0) (nI 3) && zin b (nI 0) (nI 1)
  else zin a (nI 0) (nI 3)
theorem zgo_lt {c : Nat × Nat × Nat} {s l x : Nat} (hg : zG c) (hs : s < 4) (hx : x < 4) : zgo c s l x < 4 := by
  obtain ⟨k, a, b⟩ := c
  obtain ⟨h9, h0, h1, h2, h3, h4⟩ := hg
  dsimp only at h9 h0 h1 h2 h3 h4
  rcases (show k = 0 ∨ k = 1 ∨ k = 2 ∨ k = 3 ∨ k = 4 ∨ k = 5 ∨ k = 6 ∨ k = 7 ∨ k = 8 ∨ k = 9 by omega) with h | h | h | h | h | h | h | h | h | h <;> subst h
  · show (s + x) % a < 4
    have := Nat.mod_lt (s + x) (show a > 0 by omega)
    omega
  · show (if x = a ∧ s < b then s + 1 else s) < 4
    split <;> omega
  · show (if x = a ∧ s ≤ b then s + 1 else s) < 4
    split <;> omega
  · show (if l = a ∧ x = b then 1 else s) < 4
    split <;> omega
  · show (if l = a ∧ x = b then 1 else s) < 4
    split <;> omega
  · show (if l ≠ 4 then s else if a ≤ x then 1 else 2) < 4
    (repeat' split) <;> omega
  · show 0 < 4
    decide
  · show (if s < a then s + 1 else s) < 4
    split <;> omega
  · show (if l < x then 1 else s) < 4
    split <;> omega
  · show (if x = a then s ^^^ 1 else s) < 4
    split
    · exact (by decide : ∀ s, s < 4 → s ^^^ 1 < 4) s hs
    · omega
theorem z4_le {i : Nat} (h : i < 3) : 4 ^ i ≤ 16 := by
  rcases (show i = 0 ∨ i = 1 ∨ i = 2 by omega) with h | h | h <;> subst h <;> decide
theorem zsh_lt {a i : Nat} (ha : a < 4) (hi : i < 3) : a * 4 ^ i < 2 ^ 31 := by
  have h := Nat.mul_le_mul (Nat.le_of_lt ha) (z4_le hi)
  omega
theorem znx_form (C : zC) (s x : Nat) (hx : x < 4) : ∀ i, (∀ j, j < i → zG (C j)) → ∃ lo, lo < 4 ^ i ∧ znx C s x i = 64 * x + lo
  | 0, _ => ⟨0, by decide, rfl⟩
  | i + 1, h => by
    obtain ⟨lo, h1, h2⟩ := znx_form C s x hx i (fun j hj => h j (by omega))
    have h3 := zgo_lt (s := s / 4 ^ i % 4) (l := s / 64) (x := x) (h i (by omega)) (Nat.mod_lt _ (by decide)) hx
    refine ⟨lo + zgo (C i) (s / 4 ^ i % 4) (s / 64) x * 4 ^ i, ?_, ?_⟩
    · have h4 := Nat.mul_le_mul_right (4 ^ i) (Nat.le_of_lt_succ h3)
      rw [Nat.pow_succ]
      omega
    · show znx C s x i + _ = _
      rw [h2]
      omega
theorem znx_lt {C : zC} {N s x : Nat} (hN : N ≤ 3) (hx : x < 4) (h : ∀ j, j < N → zG (C j)) : znx C s x N < 320 := by
  obtain ⟨lo, h1, h2⟩ := znx_form C s x hx N h
  have h3 : 4 ^ N ≤ 4 ^ 3 := Nat.pow_le_pow_right (by decide) hN
  omega
theorem zor_dec : ∀ x, x < 4 → ∀ z, z < 4 → (∀ lo, lo < 1 → (64 * x + lo) ||| z * 1 = 64 * x + lo + z * 1) ∧ (∀ lo, lo < 4 → (64 * x + lo) ||| z * 4 = 64 * x + lo + z * 4) ∧ (∀ lo, lo < 16 → (64 * x + lo) ||| z * 16 = 64 * x + lo + z * 16) := by decide +kernel
theorem znx_or {C : zC} {s x z i : Nat} (hi : i < 3) (hx : x < 4) (hz : z < 4) (h : ∀ j, j < i → zG (C j)) : znx C s x i ||| z * 4 ^ i = znx C s x i + z * 4 ^ i := by
  obtain ⟨lo, h1, h2⟩ := znx_form C s x hx i h
  rw [h2]
  obtain ⟨q0, q1, q2⟩ := zor_dec x hx z hz
  rcases (show i = 0 ∨ i = 1 ∨ i = 2 by omega) with e | e | e <;> subst e
  · exact q0 lo h1
  · exact q1 lo h1
  · exact q2 lo h1
theorem zreps_G {N : Nat} {C : zC} {ks as_ bs : Nat → Int32} (h : zReps N C ks as_ bs) {n : Nat} (hn : n ≤ N) : ∀ j, j < n → zG (C j) := fun j hj => (h j (by omega)).1
theorem zak_f {C : zC} {s : Nat} : ∀ (N : Nat) {i : Nat}, i < N → zac (C i) (s / 4 ^ i % 4) (s / 64) = false → zak C s N = false
  | 0, i, h, _ => by omega
  | N + 1, i, h, hf => by
    rcases Nat.lt_or_ge i N with q | q
    · simp [zak, zak_f N q hf]
    · have e : i = N := by omega
      subst e
      simp [zak, hf]
theorem zwy_le (N : Nat) (C : zC) : ∀ (k s : Nat), zwy N C k s ≤ 4 ^ k
  | 0, s => by
    show (zak C s N).toNat ≤ 1
    cases zak C s N <;> decide
  | k + 1, s => by
    have h0 := zwy_le N C k (znx C s 0 N)
    have h1 := zwy_le N C k (znx C s 1 N)
    have h2 := zwy_le N C k (znx C s 2 N)
    have h3 := zwy_le N C k (znx C s 3 N)
    show zwy N C k (znx C s 0 N) + zwy N C k (znx C s 1 N) + zwy N C k (znx C s 2 N) + zwy N C k (znx C s 3 N) ≤ 4 ^ (k + 1)
    rw [Nat.pow_succ]
    omega
theorem z46 {k : Nat} (h : k ≤ 6) : 4 ^ k ≤ 4096 := Nat.pow_le_pow_right (n := 4) (by decide) h
theorem zwy_le6 {N : Nat} {C : zC} {k : Nat} (h : k ≤ 6) (s : Nat) : zwy N C k s ≤ 4096 := Nat.le_trans (zwy_le N C k s) (z46 h)
theorem zso_le (N : Nat) (C : zC) (k s : Nat) : ∀ t, zso N C k s t ≤ t * 4 ^ k
  | 0 => by simp [zso]
  | t + 1 => by
    have h1 := zso_le N C k s t
    have h2 := zwy_le N C k (znx C s t N)
    show zso N C k s t + zwy N C k (znx C s t N) ≤ _
    rw [Nat.succ_mul]
    omega
theorem zso_le6 {N : Nat} {C : zC} {k : Nat} (h : k ≤ 6) (s : Nat) {t : Nat} (ht : t ≤ 4) : zso N C k s t ≤ 16384 := Nat.le_trans (zso_le N C k s t) (Nat.mul_le_mul ht (z46 h))
theorem zex_le (N : Nat) (C : zC) (s : Nat) : ∀ j, zex N C s j ≤ zst j
  | 0 => Nat.le_refl _
  | j + 1 => Nat.add_le_add (zex_le N C s j) (zwy_le N C j s)
theorem zst_mono {a b : Nat} (h : a ≤ b) : zst a ≤ zst b := by
  induction h with
  | refl => exact Nat.le_refl _
  | step _ ih => exact Nat.le_trans ih (Nat.le_add_right _ _)
theorem zst_7 : zst 7 = 5461 := by decide
theorem zex_7 (N : Nat) (C : zC) (s : Nat) {j : Nat} (h : j ≤ 7) : zex N C s j ≤ 5461 := Nat.le_trans (zex_le N C s j) (zst_7 ▸ zst_mono h)
/-- the table, flat -/
def zP (N : Nat) (C : zC) (q : Nat) : Int32 := nI (zwy N C (q / 320) (q % 320))
theorem zfill {w : Nat → Int32} {P : Nat → Int32} {i : Nat} {v : Int32} (h : ∀ q, q < i → w q = P q) (hv : v = P i) : ∀ q, q < i + 1 → upd w i v q = P q := by
  intro q hq
  by_cases e : q = i
  · rw [e, pk_us, hv]
  · rw [pk_un e]
    exact h q (by omega)
def zRow (N : Nat) (C : zC) (k : Nat) (w : Nat → Int32) : Prop := ∀ s, s < 320 → w (k * 320 + s) = nI (zwy N C k s)
theorem zP_at (N : Nat) (C : zC) {k s : Nat} (hs : s < 320) : zP N C (k * 320 + s) = nI (zwy N C k s) := by
  unfold zP
  rw [show (k * 320 + s) / 320 = k by omega, show (k * 320 + s) % 320 = s by omega]
theorem zP_0 (N : Nat) (C : zC) {s : Nat} (hs : s < 320) : zP N C s = nI (zak C s N).toNat := by
  have h := zP_at N C (k := 0) hs
  rw [Nat.zero_mul, Nat.zero_add] at h
  exact h
theorem zP_s (N : Nat) (C : zC) {k s : Nat} (hk : 1 ≤ k) (hs : s < 320) : nI (zso N C (k - 1) s 4) = zP N C (k * 320 + s) := by
  rw [zP_at N C hs, ← zwy_s, Nat.sub_add_cancel hk]
theorem zrow_flat {N : Nat} {C : zC} {w : Nat → Int32} {B k : Nat} (h : ∀ q, q < B → w q = zP N C q) (hk : (k + 1) * 320 ≤ B) : zRow N C k w := fun s hs => by rw [h _ (by omega), zP_at N C hs]
theorem ztab_flat {N : Nat} {C : zC} {w : Nat → Int32} {B : Nat} (h : ∀ q, q < B → w q = zP N C q) (hB : 2240 ≤ B) : zTab N C w := fun k hk => zrow_flat h (by omega)
theorem ztab_row {N : Nat} {C : zC} {w : Nat → Int32} (h : zTab N C w) {k : Nat} (hk : k ≤ 6) : zRow N C k w := h k hk
theorem zrs_lt {N : Nat} {C : zC} {f : Nat → Nat} (hN : N ≤ 3) (hG : ∀ j, j < N → zG (C j)) : ∀ i, (∀ j, j < i → f j < 4) → zrs N C f i < 320
  | 0, _ => (by decide : 256 < 320)
  | i + 1, h => znx_lt hN (h i (by omega)) hG
/-- an index in range -/
theorem zix {x : Int32} {n : Nat} (h0 : ¬ x < 0) (h1 : x < nI n) (hn : n < 2 ^ 31) : ∃ j : Nat, j < n ∧ x = nI j := by
  obtain ⟨j, hj, rfl⟩ := nI_of h0
  exact ⟨j, (nI_ltI hj hn).mp h1, rfl⟩
def zel (f : Nat → Nat) (L : Nat) (x : Int32) : Int32 := if x < 0 then -4 else if x < nI L then nI (f x.toNatClampNeg) else -4
theorem zel_in {f : Nat → Nat} {L j : Nat} (hj : j < L) (hL : L < 2 ^ 31) : nI (f j) = zel f L (nI j) := by
  unfold zel
  rw [if_neg (nI_pos (Nat.lt_trans hj hL)), if_pos (nI_lt hj hL), nI_clamp (Nat.lt_trans hj hL)]
/-- ready: the table is to be made, or stands -/
def zRdy (N : Nat) (C : zC) (rd : Int32) (w : Nat → Int32) : Prop := rd = nI 0 ∨ (rd = nI 1 ∧ zTab N C w)
def zup (f : Nat → Nat) (i x : Nat) : Nat → Nat := fun j => if j = i then x else f j
theorem zup_s {f : Nat → Nat} {i x : Nat} : zup f i x i = x := by simp [zup]
theorem zup_n {f : Nat → Nat} {i x j : Nat} (h : j ≠ i) : zup f i x j = f j := by simp [zup, h]
theorem zrs_eq {N : Nat} {C : zC} {f f' : Nat → Nat} : ∀ i, (∀ j, j < i → f j = f' j) → zrs N C f i = zrs N C f' i
  | 0, _ => rfl
  | i + 1, h => by
    show znx C (zrs N C f i) (f i) N = znx C (zrs N C f' i) (f' i) N
    rw [zrs_eq i (fun j hj => h j (by omega)), h i (by omega)]
theorem zrk_eq {N : Nat} {C : zC} {f f' : Nat → Nat} {L : Nat} : ∀ i, (∀ j, j < i → f j = f' j) → zrk N C f L i = zrk N C f' L i
  | 0, _ => rfl
  | i + 1, h => by
    show zrk N C f L i + zso N C (L - i - 1) (zrs N C f i) (f i) = zrk N C f' L i + zso N C (L - i - 1) (zrs N C f' i) (f' i)
    rw [zrk_eq i (fun j hj => h j (by omega)), zrs_eq i (fun j hj => h j (by omega)), h i (by omega)]
end
section
/-! what the public methods answer, in words that both classes' contracts share -/
def zNo (N : Nat) (C : zC) (x : Int32) : Prop := x < 0 ∨ nI (zex N C 256 7) ≤ x
/-- the list f of length L is failing list number x -/
def zFf (N : Nat) (C : zC) (x : Int32) (L : Nat) (f : Nat → Nat) : Prop := L ≤ 6 ∧ (∀ j, j < L → f j < 4) ∧ x = nI (zrk N C f L L) ∧ zak C (zrs N C f L) N = true
def zcok (N : Nat) (k a b : Int32) : Prop := ¬ k < 0 ∧ k ≤ nI 9 ∧ zgn k.toNatClampNeg a b = true ∧ N < 3
def zcr (N : Nat) (k a b : Int32) : Int32 := if k < 0 then -1 else if ¬ k ≤ nI 9 then -1 else if zgn k.toNatClampNeg a b = false then -2 else if 3 ≤ N then -3 else nI (N + 1)
def zpk (L : Nat) (x : Int32) : Prop := ¬ x < 0 ∧ x ≤ nI 3 ∧ L < 6
def zpu (L : Nat) (x : Int32) : Int32 := if x < 0 then -2 else if ¬ x ≤ nI 3 then -2 else if 6 ≤ L then -3 else nI (L + 1)
def zfo (N : Nat) (C : zC) (x : Int32) : Int32 := if x < 0 then nI 0 else if ¬ x ≤ nI 6 then nI 0 else nI (zwy N C x.toNatClampNeg 256)
theorem zle_nlt {x y : Int32} (h : ¬ x < y) : y ≤ x := by
  rw [Int32.le_iff_toInt_le]
  rw [Int32.lt_iff_toInt_lt] at h
  omega
theorem zfo_in {N : Nat} {C : zC} {k : Nat} (h0 : ¬ nI k < 0) (h6 : nI k ≤ nI 6) (hk : k ≤ 6) : nI (zwy N C k 256) = zfo N C (nI k) := by
  simp [zfo, h0, h6, nI_clamp (show k < 2 ^ 31 by omega)]
/-- find's second loop, a step: the element x is chosen at i -/
theorem zfind_step {N : Nat} {C : zC} {f : Nat → Nat} {ln i q lf mv x : Nat} (hi : i < ln) (hq : q = zrs N C f i) (hlf : lf + zrk N C f ln i = mv) (hso : zso N C (ln - i - 1) q x ≤ lf) (hsx : lf < zso N C (ln - i - 1) q (x + 1)) :
    znx C q x N = zrs N C (zup f i x) (i + 1) ∧ (lf - zso N C (ln - i - 1) q x) + zrk N C (zup f i x) ln (i + 1) = mv ∧ lf - zso N C (ln - i - 1) q x < zwy N C (ln - (i + 1)) (znx C q x N) := by
  have e : ∀ j, j < i → zup f i x j = f j := fun j hj => zup_n (by omega)
  have e1 : zrs N C (zup f i x) i = q := by rw [zrs_eq i e, ← hq]
  refine ⟨?_, ?_, ?_⟩
  · show _ = znx C (zrs N C (zup f i x) i) (zup f i x i) N
    rw [e1, zup_s]
  · show _ + (zrk N C (zup f i x) ln i + zso N C (ln - i - 1) (zrs N C (zup f i x) i) (zup f i x i)) = mv
    rw [e1, zup_s, zrk_eq i e]
    omega
  · have h : zso N C (ln - i - 1) q (x + 1) = zso N C (ln - i - 1) q x + zwy N C (ln - i - 1) (znx C q x N) := rfl
    rw [show ln - (i + 1) = ln - i - 1 by omega]
    omega
theorem zfind_top {N : Nat} {C : zC} {ln i q lf : Nat} (hi : i < ln) (hlt : lf < zwy N C (ln - i) q) : lf < zso N C (ln - i - 1) q 4 := by
  rw [← zwy_s, show ln - i - 1 + 1 = ln - i by omega]
  exact hlt
theorem zfind_end {N : Nat} {C : zC} {f : Nat → Nat} {ln i q lf mv : Nat} (hi : i = ln) (hq : q = zrs N C f i) (hlf : lf + zrk N C f ln i = mv) (hlt : lf < zwy N C (ln - i) q) : nI mv = nI (zrk N C f ln ln) ∧ zak C (zrs N C f ln) N = true := by
  subst hi
  rw [Nat.sub_self] at hlt
  have h : zwy N C 0 q = (zak C q N).toNat := rfl
  rw [h] at hlt
  rw [← hq]
  cases hz : zak C q N with
  | false => rw [hz] at hlt; exact absurd hlt (Nat.not_lt_zero _)
  | true =>
    rw [hz] at hlt
    have h0 : lf = 0 := Nat.lt_one_iff.mp hlt
    refine ⟨?_, rfl⟩
    rw [← hlf, h0, Nat.zero_add]
end
section
/-! pure laws that the reference's walks use -/
theorem zat_lt (n l i : Nat) : zat n l i < 4 := Nat.mod_lt _ (by decide)
theorem zoc_le (n l a : Nat) : ∀ i, zoc n l a i ≤ i
  | 0 => Nat.le_refl _
  | i + 1 => by
    have h := zoc_le n l a i
    show zoc n l a i + (if zat n l i = a then 1 else 0) ≤ i + 1
    split <;> omega
theorem zsm_le (n l : Nat) : ∀ i, zsm n l i ≤ 3 * i
  | 0 => Nat.le_refl _
  | i + 1 => by
    have h := zsm_le n l i
    have h2 := zat_lt n l i
    show zsm n l i + zat n l i ≤ 3 * (i + 1)
    omega
theorem zpr_t {n l a b : Nat} : ∀ (m : Nat) {i : Nat}, i < m → zat n l i = a → zat n l (i + 1) = b → zpr n l a b m = true
  | 0, i, h, _, _ => by omega
  | m + 1, i, h, h1, h2 => by
    rcases Nat.lt_or_ge i m with q | q
    · simp [zpr, zpr_t m q h1 h2]
    · have e : i = m := by omega
      subst e
      simp [zpr, h1, h2]
theorem zri_t {n l : Nat} : ∀ (m : Nat) {i : Nat}, i < m → zat n l i < zat n l (i + 1) → zri n l m = true
  | 0, i, h, _ => by omega
  | m + 1, i, h, h1 => by
    rcases Nat.lt_or_ge i m with q | q
    · simp [zri, zri_t m q h1]
    · have e : i = m := by omega
      subst e
      simp [zri, h1]
theorem zfl_f {C : zC} {n l : Nat} : ∀ (N : Nat) {i : Nat}, i < N → zmt (C i) n l = false → zfl C n l N = false
  | 0, i, h, _ => by omega
  | N + 1, i, h, hf => by
    rcases Nat.lt_or_ge i N with q | q
    · simp [zfl, zfl_f N q hf]
    · have e : i = N := by omega
      subst e
      simp [zfl, hf]
/-- a list's length, out of its number -/
theorem zlr_at {k n : Nat} (h1 : zst n ≤ k) (h2 : k < zst (n + 1)) : ∀ i, n ≤ i → zlr k i = n
  | 0, h => by
    have e : n = 0 := by omega
    subst e
    rfl
  | i + 1, h => by
    show (if zst (i + 1) ≤ k then i + 1 else zlr k i) = n
    rcases Nat.lt_or_ge n (i + 1) with q | q
    · rw [if_neg (by have := zst_mono (show n + 1 ≤ i + 1 by omega); omega)]
      exact zlr_at h1 h2 i (by omega)
    · have e : n = i + 1 := by omega
      subst e
      rw [if_pos h1]
theorem zln_at {n j : Nat} (hn : n ≤ 6) (hj : j < 4 ^ n) : zln (zst n + j) = n := zlr_at (Nat.le_add_right _ _) (Nat.add_lt_add_left hj _) 6 hn
theorem zmk_at {N : Nat} {C : zC} {n j : Nat} (hn : n ≤ 6) (hj : j < 4 ^ n) : zmk N C (zst n + j) = zfl C n j N := by
  unfold zmk
  rw [zln_at hn hj, Nat.add_sub_cancel_left]
theorem zlr_le (k : Nat) : ∀ i, zlr k i ≤ i
  | 0 => Nat.le_refl _
  | i + 1 => by
    have h := zlr_le k i
    show (if zst (i + 1) ≤ k then i + 1 else zlr k i) ≤ i + 1
    split <;> omega
theorem zlr_st (k : Nat) : ∀ i, zst (zlr k i) ≤ k
  | 0 => Nat.zero_le _
  | i + 1 => by
    show zst (if zst (i + 1) ≤ k then i + 1 else zlr k i) ≤ k
    split
    · assumption
    · exact zlr_st k i
theorem zln_le (k : Nat) : zln k ≤ 6 := zlr_le k 6
theorem zln_st (k : Nat) : zst (zln k) ≤ k := zlr_st k 6
theorem zlr_lt {k : Nat} : ∀ i, k < zst (i + 1) → k < zst (zlr k i + 1)
  | 0, h => h
  | i + 1, h => by
    show k < zst ((if zst (i + 1) ≤ k then i + 1 else zlr k i) + 1)
    split
    · exact h
    · exact zlr_lt i (by omega)
theorem zln_lt {k : Nat} (h : k < 5461) : k - zst (zln k) < 4 ^ zln k := by
  have h1 : k < zst (zln k + 1) := zlr_lt 6 (by rw [zst_7]; exact h)
  have h2 : zst (zln k + 1) = zst (zln k) + 4 ^ zln k := rfl
  have h3 := zln_st k
  omega
theorem zst_7le {n : Nat} (h : n ≤ 7) : zst n ≤ 5461 := zst_7 ▸ zst_mono h
theorem zst_b {n j : Nat} (hn : n ≤ 6) (hj : j < 4 ^ n) : zst n + j < 5461 := by
  have h1 : zst (n + 1) = zst n + 4 ^ n := rfl
  have h2 := zst_7le (show n + 1 ≤ 7 by omega)
  omega
-- bits
theorem zsmod : ∀ j, j < 32 → ((nI j &&& 31).toBitVec.smod 32).toNat = j := zs_l
theorem zbit_sh {x : Int32} {j : Nat} (hj : j < 32) : ((x >>> (nI j &&& 31)) &&& nI 1) = nI (zbit x j).toNat := by
  apply Int32.toBitVec_inj.1
  apply BitVec.eq_of_getLsbD_eq
  intro i hi
  rw [Int32.toBitVec_and, BitVec.getLsbD_and]
  have e1 : (x >>> (nI j &&& 31)).toBitVec = x.toBitVec.sshiftRight ((nI j &&& 31).toBitVec.smod 32).toNat := rfl
  rw [e1, zs_l j hj, BitVec.getLsbD_sshiftRight]
  have e2 : (nI 1).toBitVec.getLsbD i = decide (i = 0) := (by decide +kernel : ∀ i, i < 32 → (nI 1).toBitVec.getLsbD i = decide (i = 0)) i hi
  have e3 : (nI (zbit x j).toNat).toBitVec.getLsbD i = (decide (i = 0) && zbit x j) := by
    cases zbit x j with
    | false =>
      rw [Bool.and_false]
      exact (by decide +kernel : ∀ i, i < 32 → (nI 0).toBitVec.getLsbD i = false) i hi
    | true =>
      rw [Bool.and_true]
      exact e2
  rw [e2, e3]
  by_cases h0 : i = 0
  · subst h0
    simp [zbit, hj]
  · simp [h0]
theorem zbit_one : ∀ j, j < 32 → ∀ i, i < 32 → zbit (nI 1 <<< (nI j &&& 31)) i = decide (i = j) := by decide +kernel
theorem zbit_or {x : Int32} {j i : Nat} (hj : j < 32) (hi : i < 32) : zbit (x ||| (nI 1 <<< (nI j &&& 31))) i = (zbit x i || decide (i = j)) := by
  have h := zbit_one j hj i hi
  unfold zbit at h ⊢
  rw [Int32.toBitVec_or, BitVec.getLsbD_or, h]
theorem zbit_0 : ∀ i, i < 32 → zbit (nI 0) i = false := by decide +kernel
/-- the marks stand up to number B -/
def zMkU (N : Nat) (C : zC) (B : Nat) (w : Nat → Int32) : Prop := ∀ k, k < 5461 → zbit (w (k / 32)) (k % 32) = (decide (k < B) && zmk N C k)
theorem zMkU_0 {N : Nat} {C : zC} {w : Nat → Int32} (h : ∀ q, q < 171 → w q = nI 0) : zMkU N C 0 w := by
  intro k hk
  rw [h _ (by omega), zbit_0 _ (Nat.mod_lt _ (by decide))]
  simp
theorem zMkU_no {N : Nat} {C : zC} {B : Nat} {w : Nat → Int32} (h : zMkU N C B w) (hB : zmk N C B = false) : zMkU N C (B + 1) w := by
  intro k hk
  rw [h k hk]
  by_cases e : k = B
  · subst e
    simp [hB]
  · rw [show decide (k < B + 1) = decide (k < B) from decide_eq_decide.mpr (by omega)]
theorem zMkU_yes {N : Nat} {C : zC} {B : Nat} {w : Nat → Int32} (h : zMkU N C B w) (hB : zmk N C B = true) : zMkU N C (B + 1) (upd w (B / 32) (w (B / 32) ||| (nI 1 <<< (nI (B % 32) &&& 31)))) := by
  intro k hk
  have hm : k % 32 < 32 := Nat.mod_lt _ (by decide)
  by_cases e : k / 32 = B / 32
  · rw [e, pk_us, zbit_or (Nat.mod_lt _ (by decide)) hm, ← e, h k hk]
    by_cases e2 : k = B
    · subst e2
      simp [hB]
    · rw [show decide (k % 32 = B % 32) = false from decide_eq_false (by omega), Bool.or_false, show decide (k < B + 1) = decide (k < B) from decide_eq_decide.mpr (by omega)]
  · rw [pk_un e, h k hk, show decide (k < B + 1) = decide (k < B) from decide_eq_decide.mpr (by have : k ≠ B := fun q => e (by rw [q]); omega)]
theorem zMkU_all {N : Nat} {C : zC} {B : Nat} {w : Nat → Int32} (h : zMkU N C B w) (hB : 5461 ≤ B) : zMks N C w := by
  intro k hk
  rw [h k hk, show decide (k < B) = true from decide_eq_true (by omega), Bool.true_and]
theorem zbt_step {p : Nat → Bool} {a k : Nat} (h : a ≤ k) : zbt p a (k + 1 - a) = zbt p a (k - a) + (p k).toNat := by
  rw [show k + 1 - a = (k - a) + 1 by omega]
  show zbt p a (k - a) + (p (a + (k - a))).toNat = _
  rw [show a + (k - a) = k by omega]
theorem zxo_step {N : Nat} {C : zC} {L D n : Nat} (h : L ≤ n) : zxo N C L D (n + 1 - L) = zxo N C L D (n - L) + zxi N C n L D (4 ^ n) := by
  rw [show n + 1 - L = (n - L) + 1 by omega]
  show zxo N C L D (n - L) + zxi N C (L + (n - L)) L D (4 ^ (L + (n - L))) = _
  rw [show L + (n - L) = n by omega]
def zKn (N : Nat) (C : zC) (kn : Int32) (w : Nat → Int32) : Prop := kn = nI 0 ∨ (kn = nI 1 ∧ zMks N C w)
def zMk (N : Nat) (C : zC) (x : Int32) (k : Nat) : Prop := k < 5461 ∧ zmk N C k = true ∧ x = nI (zcn (zmk N C) k)
def zMn (N : Nat) (C : zC) (x : Int32) : Prop := ∀ k, k < 5461 → zmk N C k = true → ¬ x = nI (zcn (zmk N C) k)
def zfm (N : Nat) (C : zC) (x : Int32) : Int32 := if x < 0 then nI 0 else if ¬ x ≤ nI 6 then nI 0 else nI (zbt (zmk N C) (zst x.toNatClampNeg) (zst (x.toNatClampNeg + 1) - zst x.toNatClampNeg))
theorem zfm_in {N : Nat} {C : zC} {k : Nat} (h0 : ¬ nI k < 0) (h6 : nI k ≤ nI 6) (hk : k ≤ 6) : nI (zbt (zmk N C) (zst k) (zst (k + 1) - zst k)) = zfm N C (nI k) := by
  simp [zfm, h0, h6, nI_clamp (show k < 2 ^ 31 by omega)]
theorem zlr_step {k i t : Nat} (h1 : 1 ≤ i) (ht : t = zlr k (i - 1)) (hlt : k < zst i) : t = zlr k (i + 1 - 1) := by
  rw [show i + 1 - 1 = (i - 1) + 1 by omega]
  show t = if zst (i - 1 + 1) ≤ k then i - 1 + 1 else zlr k (i - 1)
  rw [show i - 1 + 1 = i by omega, if_neg (by omega)]
  exact ht
theorem zlr_step2 {k i : Nat} (h1 : 1 ≤ i) (hle : zst i ≤ k) : i = zlr k (i + 1 - 1) := by
  rw [show i + 1 - 1 = (i - 1) + 1 by omega]
  show i = if zst (i - 1 + 1) ≤ k then i - 1 + 1 else zlr k (i - 1)
  rw [show i - 1 + 1 = i by omega, if_pos hle]
theorem znoext {N : Nat} {C : zC} {x : Int32} {k : Nat} (h : ∀ j, j < k → zmk N C j = true → ¬ x = nI (zcn (zmk N C) j)) (hk : zmk N C k = true → ¬ x = nI (zcn (zmk N C) k)) : ∀ j, j < k + 1 → zmk N C j = true → ¬ x = nI (zcn (zmk N C) j) := by
  intro j hj
  rcases Nat.lt_or_ge j k with q | q
  · exact h j q
  · rw [show j = k by omega]
    exact hk
end
section
/-! the plain law: the automata's counts are the reference's counts; no program in sight -/
-- counting
theorem zcn_eq {p q : Nat → Bool} : ∀ n, (∀ i, i < n → p i = q i) → zcn p n = zcn q n
  | 0, _ => rfl
  | n + 1, h => by
    show zcn p n + (p n).toNat = zcn q n + (q n).toNat
    rw [zcn_eq n (fun i hi => h i (by omega)), h n (by omega)]
theorem zcn_add (p : Nat → Bool) (a : Nat) : ∀ b, zcn p (a + b) = zcn p a + zcn (fun i => p (a + i)) b
  | 0 => rfl
  | b + 1 => by
    show zcn p (a + b) + (p (a + b)).toNat = zcn p a + (zcn (fun i => p (a + i)) b + (p (a + b)).toNat)
    rw [zcn_add p a b]
    omega
theorem zcn_mono (p : Nat → Bool) {a b : Nat} (h : a ≤ b) : zcn p a ≤ zcn p b := by
  obtain ⟨d, rfl⟩ := Nat.le.dest h
  rw [zcn_add]
  exact Nat.le_add_right _ _
theorem zcn_le (p : Nat → Bool) : ∀ n, zcn p n ≤ n
  | 0 => Nat.le_refl _
  | n + 1 => by
    have h := zcn_le p n
    have h2 : (p n).toNat ≤ 1 := Bool.toNat_le _
    show zcn p n + (p n).toNat ≤ n + 1
    omega
theorem zbt_cn (p : Nat → Bool) (a : Nat) : ∀ d, zbt p a d = zcn (fun i => p (a + i)) d
  | 0 => rfl
  | d + 1 => by
    show zbt p a d + (p (a + d)).toNat = zcn (fun i => p (a + i)) d + (p (a + d)).toNat
    rw [zbt_cn p a d]
theorem zbt_0 (p : Nat → Bool) (d : Nat) : zbt p 0 d = zcn p d := by
  rw [zbt_cn]
  exact zcn_eq d (fun i _ => by rw [Nat.zero_add])
theorem zcn_uniq {p : Nat → Bool} {a b : Nat} (ha : p a = true) (hb : p b = true) (h : zcn p a = zcn p b) : a = b := by
  have key : ∀ {x y : Nat}, p x = true → zcn p x = zcn p y → ¬ x < y := by
    intro x y hx e hlt
    have h1 := zcn_mono p (show x + 1 ≤ y from hlt)
    have h2 : zcn p (x + 1) = zcn p x + (p x).toNat := rfl
    rw [hx] at h2
    have h3 : true.toNat = 1 := rfl
    omega
  have h1 := key ha h
  have h2 := key hb h.symm
  omega
/-- counting what lies in the block D of M blocks of B -/
theorem zcn_none {p : Nat → Bool} : ∀ n, (∀ i, i < n → p i = false) → zcn p n = 0
  | 0, _ => rfl
  | n + 1, h => by
    show zcn p n + (p n).toNat = 0
    rw [zcn_none n (fun i hi => h i (by omega)), h n (by omega)]
    rfl
theorem zdiv_blk {B D i : Nat} (hi : i < B) : (D * B + i) / B = D := by
  rw [Nat.mul_comm, Nat.mul_add_div (by omega), Nat.div_eq_of_lt hi, Nat.add_zero]
theorem zcn_blk (p : Nat → Bool) {B D : Nat} : ∀ M, D < M → zcn (fun l => p l && decide (l / B = D)) (M * B) = zcn (fun l => p (D * B + l)) B
  | 0, h => by omega
  | M + 1, h => by
    rw [Nat.succ_mul, zcn_add]
    rcases Nat.lt_or_ge D M with q | q
    · have h0 : zcn (fun i => p (M * B + i) && decide ((M * B + i) / B = D)) B = 0 := zcn_none B (fun i hi => by
        show (p (M * B + i) && decide ((M * B + i) / B = D)) = false
        rw [zdiv_blk hi, decide_eq_false (by omega), Bool.and_false])
      rw [zcn_blk p M q, h0, Nat.add_zero]
    · have e : D = M := by omega
      subst e
      have h0 : zcn (fun l => p l && decide (l / B = D)) (D * B) = 0 := zcn_none (D * B) (fun i hi => by
        show (p i && decide (i / B = D)) = false
        have hB : 0 < B := Nat.pos_of_ne_zero (fun z => by rw [z, Nat.mul_zero] at hi; omega)
        have h2 : i / B < D := (Nat.div_lt_iff_lt_mul hB).mpr hi
        rw [decide_eq_false (by omega), Bool.and_false])
      rw [h0, Nat.zero_add]
      exact zcn_eq B (fun i hi => by
        show (p (D * B + i) && decide ((D * B + i) / B = D)) = p (D * B + i)
        rw [zdiv_blk hi, decide_eq_true rfl, Bool.and_true])
-- digits
theorem zat_hi {L j D r i : Nat} (hi : i < L) (hr : r < 4 ^ j) : zat (L + j) (D * 4 ^ j + r) i = zat L D i := by
  unfold zat
  rw [show L + j - 1 - i = j + (L - 1 - i) by omega, Nat.pow_add, ← Nat.div_div_eq_div_mul, zdiv_blk hr]
theorem zat_lo {L j D r i : Nat} (hi : i < j) : zat (L + j) (D * 4 ^ j + r) (L + i) = zat j r i := by
  unfold zat
  have e : 4 ^ j = 4 ^ i * 4 * 4 ^ (j - 1 - i) := by
    rw [← Nat.pow_succ, ← Nat.pow_add]
    congr 1
    omega
  have e2 : D * 4 ^ j + r = 4 ^ (j - 1 - i) * (D * 4 ^ i * 4) + r := by
    rw [e]
    simp only [Nat.mul_assoc, Nat.mul_comm, Nat.mul_left_comm]
  rw [show L + j - 1 - (L + i) = j - 1 - i by omega, e2, Nat.mul_add_div (Nat.pow_pos (by decide)), Nat.mul_add_mod_self_right]
theorem zat_1 {x : Nat} (hx : x < 4) : zat 1 x 0 = x := by
  unfold zat
  simp
  omega
/-- the number of a list -/
def zvl (f : Nat → Nat) : Nat → Nat
  | 0 => 0
  | i + 1 => zvl f i * 4 + f i
theorem zvl_lt {f : Nat → Nat} : ∀ L, (∀ j, j < L → f j < 4) → zvl f L < 4 ^ L
  | 0, _ => (by decide : 0 < 1)
  | L + 1, h => by
    have h1 := zvl_lt L (fun j hj => h j (by omega))
    have h2 := h L (by omega)
    show zvl f L * 4 + f L < 4 ^ (L + 1)
    rw [Nat.pow_succ]
    omega
theorem zat_push {L D x j : Nat} (hx : x < 4) (hj : j < L) : zat (L + 1) (D * 4 + x) j = zat L D j := by
  have h := zat_hi (j := 1) (D := D) hj (show x < 4 ^ 1 from hx)
  rw [Nat.pow_one] at h
  exact h
theorem zat_push2 {L D x : Nat} (hx : x < 4) : zat (L + 1) (D * 4 + x) L = x := by
  have h := zat_lo (L := L) (j := 1) (D := D) (r := x) (i := 0) (by decide)
  rw [Nat.pow_one, Nat.add_zero, zat_1 hx] at h
  exact h
theorem zat_vl {f : Nat → Nat} : ∀ L, (∀ j, j < L → f j < 4) → ∀ j, j < L → zat L (zvl f L) j = f j
  | 0, _, j, hj => by omega
  | L + 1, h, j, hj => by
    show zat (L + 1) (zvl f L * 4 + f L) j = f j
    rcases Nat.lt_or_ge j L with q | q
    · rw [zat_push (h L (by omega)) q]
      exact zat_vl L (fun j hj => h j (by omega)) j q
    · have e : j = L := by omega
      subst e
      exact zat_push2 (h j (by omega))
-- runs from any state
def zrf (N : Nat) (C : zC) (s : Nat) (f : Nat → Nat) : Nat → Nat
  | 0 => s
  | i + 1 => znx C (zrf N C s f i) (f i) N
theorem zrs_rf (N : Nat) (C : zC) (f : Nat → Nat) : ∀ i, zrs N C f i = zrf N C 256 f i
  | 0 => rfl
  | i + 1 => by
    show znx C (zrs N C f i) (f i) N = znx C (zrf N C 256 f i) (f i) N
    rw [zrs_rf N C f i]
theorem zrf_eq {N : Nat} {C : zC} {s : Nat} {f f' : Nat → Nat} : ∀ i, (∀ j, j < i → f j = f' j) → zrf N C s f i = zrf N C s f' i
  | 0, _ => rfl
  | i + 1, h => by
    show znx C (zrf N C s f i) (f i) N = znx C (zrf N C s f' i) (f' i) N
    rw [zrf_eq i (fun j hj => h j (by omega)), h i (by omega)]
theorem zrf_add (N : Nat) (C : zC) (s : Nat) (f : Nat → Nat) (a : Nat) : ∀ b, zrf N C s f (a + b) = zrf N C (zrf N C s f a) (fun i => f (a + i)) b
  | 0 => rfl
  | b + 1 => by
    show znx C (zrf N C s f (a + b)) (f (a + b)) N = znx C (zrf N C (zrf N C s f a) (fun i => f (a + i)) b) (f (a + b)) N
    rw [zrf_add N C s f a b]
/-- from state s the list l of length k is accepted -/
def zacc (N : Nat) (C : zC) (s k l : Nat) : Bool := zak C (zrf N C s (zat k l) k) N
theorem zacc_cat {N : Nat} {C : zC} {s L j D r : Nat} (hr : r < 4 ^ j) : zacc N C s (L + j) (D * 4 ^ j + r) = zacc N C (zrf N C s (zat L D) L) j r := by
  unfold zacc
  rw [zrf_add, zrf_eq L (fun i hi => zat_hi hi hr), zrf_eq (f := fun i => zat (L + j) (D * 4 ^ j + r) (L + i)) j (fun i hi => zat_lo hi)]
theorem zacc_1 {N : Nat} {C : zC} {s k x r : Nat} (hx : x < 4) (hr : r < 4 ^ k) : zacc N C s (k + 1) (x * 4 ^ k + r) = zacc N C (znx C s x N) k r := by
  rw [Nat.add_comm k 1, zacc_cat hr]
  show zacc N C (znx C s (zat 1 x 0) N) k r = _
  rw [zat_1 hx]
theorem zcn_acc (N : Nat) (C : zC) {k : Nat} (ih : ∀ s, zwy N C k s = zcn (zacc N C s k) (4 ^ k)) (s : Nat) : ∀ x, x ≤ 4 → zcn (zacc N C s (k + 1)) (x * 4 ^ k) = zso N C k s x
  | 0, _ => by rw [Nat.zero_mul]; rfl
  | x + 1, h => by
    rw [Nat.succ_mul, zcn_add, zcn_acc N C ih s x (by omega), zcn_eq (4 ^ k) (fun i hi => zacc_1 (show x < 4 by omega) hi)]
    show _ = zso N C k s x + zwy N C k (znx C s x N)
    rw [ih]
theorem zwy_cn (N : Nat) (C : zC) : ∀ k s, zwy N C k s = zcn (zacc N C s k) (4 ^ k)
  | 0, s => by
    show (zak C s N).toNat = 0 + (zak C s N).toNat
    rw [Nat.zero_add]
  | k + 1, s => by
    rw [zwy_s, ← zcn_acc N C (zwy_cn N C k) s 4 (Nat.le_refl _), Nat.pow_succ, Nat.mul_comm]
theorem zcn_acc2 (N : Nat) (C : zC) {k x v : Nat} (hx : x < 4) (hv : v ≤ 4 ^ k) (s : Nat) : zcn (zacc N C s (k + 1)) (x * 4 ^ k + v) = zso N C k s x + zcn (zacc N C (znx C s x N) k) v := by
  rw [zcn_add, zcn_acc N C (zwy_cn N C k) s x (by omega), zcn_eq v (fun i hi => zacc_1 hx (show i < 4 ^ k by omega))]
-- rank
def zrk2 (N : Nat) (C : zC) (s : Nat) (f : Nat → Nat) (L : Nat) : Nat → Nat
  | 0 => 0
  | i + 1 => zrk2 N C s f L i + zso N C (L - i - 1) (zrf N C s f i) (f i)
theorem zrk_2 (N : Nat) (C : zC) (f : Nat → Nat) (L : Nat) : ∀ i, zrk N C f L i = zex N C 256 L + zrk2 N C 256 f L i
  | 0 => rfl
  | i + 1 => by
    show zrk N C f L i + zso N C (L - i - 1) (zrs N C f i) (f i) = zex N C 256 L + (zrk2 N C 256 f L i + zso N C (L - i - 1) (zrf N C 256 f i) (f i))
    rw [zrk_2 N C f L i, zrs_rf]
    omega
theorem zrk2_shift (N : Nat) (C : zC) (s : Nat) (f : Nat → Nat) (L : Nat) : ∀ i, zrk2 N C s f (L + 1) (i + 1) = zso N C L s (f 0) + zrk2 N C (znx C s (f 0) N) (fun j => f (j + 1)) L i
  | 0 => by
    show 0 + zso N C (L + 1 - 0 - 1) s (f 0) = zso N C L s (f 0) + 0
    simp
  | i + 1 => by
    show zrk2 N C s f (L + 1) (i + 1) + zso N C (L + 1 - (i + 1) - 1) (zrf N C s f (i + 1)) (f (i + 1)) = _ + (zrk2 N C (znx C s (f 0) N) (fun j => f (j + 1)) L i + zso N C (L - i - 1) (zrf N C (znx C s (f 0) N) (fun j => f (j + 1)) i) (f (i + 1)))
    have e : zrf N C s f (i + 1) = zrf N C (znx C s (f 0) N) (fun j => f (j + 1)) i := by
      rw [Nat.add_comm i 1, zrf_add]
      show zrf N C (znx C s (f 0) N) (fun j => f (1 + j)) i = _
      exact zrf_eq i (fun j _ => by rw [Nat.add_comm])
    rw [zrk2_shift N C s f L i, e, show L + 1 - (i + 1) - 1 = L - i - 1 by omega]
    omega
theorem zrk2_eq {N : Nat} {C : zC} {s : Nat} {f f' : Nat → Nat} {L : Nat} : ∀ i, (∀ j, j < i → f j = f' j) → zrk2 N C s f L i = zrk2 N C s f' L i
  | 0, _ => rfl
  | i + 1, h => by
    show zrk2 N C s f L i + zso N C (L - i - 1) (zrf N C s f i) (f i) = zrk2 N C s f' L i + zso N C (L - i - 1) (zrf N C s f' i) (f' i)
    rw [zrk2_eq i (fun j hj => h j (by omega)), zrf_eq i (fun j hj => h j (by omega)), h i (by omega)]
theorem zrank (N : Nat) (C : zC) : ∀ L s D, D < 4 ^ L → zcn (zacc N C s L) D = zrk2 N C s (zat L D) L L
  | 0, s, D, h => by
    have e : D = 0 := Nat.lt_one_iff.mp h
    subst e
    rfl
  | L + 1, s, D, h => by
    have hp : 0 < 4 ^ L := Nat.pow_pos (by decide)
    have e : D = D / 4 ^ L * 4 ^ L + D % 4 ^ L := by rw [Nat.mul_comm]; exact (Nat.div_add_mod D (4 ^ L)).symm
    have hx : D / 4 ^ L < 4 := (Nat.div_lt_iff_lt_mul hp).mpr (by rw [Nat.mul_comm, ← Nat.pow_succ]; exact h)
    have hr : D % 4 ^ L < 4 ^ L := Nat.mod_lt _ hp
    generalize D / 4 ^ L = x at e hx
    generalize D % 4 ^ L = r at e hr
    subst e
    have h0 : zat (L + 1) (x * 4 ^ L + r) 0 = x := by
      have q := zat_hi (L := 1) (j := L) (D := x) (i := 0) (by decide) hr
      rw [zat_1 hx, Nat.add_comm 1 L] at q
      exact q
    rw [zcn_acc2 N C hx (Nat.le_of_lt hr) s, zrk2_shift, h0, zrank N C L _ r hr]
    congr 1
    exact zrk2_eq L (fun j hj => by
      have q := zat_lo (L := 1) (j := L) (D := x) (r := r) hj
      rw [Nat.add_comm 1 L, Nat.add_comm 1 j] at q
      exact q.symm)
end
section
/-! more pure laws for the walks -/
theorem zfind_len {N : Nat} {C : zC} {lf ln mv : Nat} (h6 : 6 ≤ ln) (hln : ln ≤ 6) (hlf : lf + zex N C 256 ln = mv) (hm : mv < zex N C 256 7) : lf < zwy N C ln 256 := by
  have e : ln = 6 := Nat.le_antisymm hln h6
  subst e
  have z : zex N C 256 7 = zex N C 256 6 + zwy N C 6 256 := rfl
  omega
theorem zfind_f {fn : Nat → Int32} {f : Nat → Nat} {i x : Nat} (hx : x ≤ 3) (hf : ∀ j, j < i → fn j = nI (f j) ∧ f j < 4) : ∀ j, j < i + 1 → upd fn i (nI x) j = nI (zup f i x j) ∧ zup f i x j < 4 := by
  intro j hj
  rcases Nat.lt_or_ge j i with z | z
  · rw [pk_un (by omega), zup_n (by omega)]
    exact hf j z
  · rw [show j = i by omega, pk_us, zup_s]
    exact ⟨rfl, by omega⟩
theorem zmk_full {N : Nat} {C : zC} {n j : Nat} {w : Nat → Int32} (h1 : j ≤ 4 ^ n) (h2 : 4 ^ n ≤ j) (hw : zMkU N C (zst n + j) w) : zMkU N C (zst (n + 1)) w := by
  have e : j = 4 ^ n := Nat.le_antisymm h1 h2
  subst e
  exact hw
end
section
/-! ShrinkRanker: methods that only read (written by gen/x0.py) -/
set_option maxHeartbeats 8000000 in
set_option maxRecDepth 100000 in
theorem met_X0_in (l : Launch) (xi lo hi : Int32)  : Met l yX0_in (ws_ yX0_in cX0_in 3 (some .boolean)) ({ frames := 0, cells := 0, slots := 0, locals := 0 }) (va_Pc [.int (xi), .int (lo), .int (hi)] (fun _ => True)) (vp_Si (fun r => r = nI (zin xi lo hi).toNat)) 0 0 (fun _ => False) := by
  refine Met.ofW (cc := cX0_in) (maxL := 3) (ret := (some .boolean)) (by decide) rfl ?_
  intro p e s m args below meth c s₁ B hml hv
  obtain ⟨rfl, -⟩ := hv
  have hx := B.exec
  have hb := B.bytes
  have hr := B.returns
  have hts := atoms_spec (ws := ws_ yX0_in cX0_in 3 (some .boolean)) B.pre
  have hts : ∀ w ∈ lw_all, w.before _ s = true := fun w h => hts w (List.mem_cons_of_mem _ h)
  have hown : s.vm.findClass RX0 = some m.cls := findClass_of_methodNamed B.named
  have hlocks := B.notSynchronized
  have hl := lv_entry ([.int (xi), .int (lo), .int (hi)]) (n := 3) (Nat.le_of_ble_eq_true rfl)
  rw [lg_entry_eq]
  generalize (lg_sl ([.int (xi), .int (lo), .int (hi)]) ++ List.replicate (3 - (lg_sl ([.int (xi), .int (lo), .int (hi)])).length) Slot.unset).toArray = ls at hl ⊢
  have hl : lv_has ls 3 [(0, .int (xi)), (1, .int (lo)), (2, .int (hi))] := hl
  refine lv_iload_n hx hb dX0_in_0 rfl (lv_at hl 0 rfl) ?_
  refine lv_iload_n hx hb dX0_in_1 rfl (lv_at hl 1 rfl) ?_
  refine lv_icmp_lt (x := xi) (y := lo) (tgt := 14) hx hb dX0_in_2 (by decide) (fun c_2 => ?_) (fun c_2 => ?_)
  · refine lv_iconst (v := nI (0)) hx hb dX0_in_14 (by decide +kernel) ?_
    exact W.zret (v := nI (0)) hx hb hr rfl (fun t9 ht9 hW9 => ⟨_, rfl, (by simp [zin, c_2]), ht9⟩) (fun _ h => by cases h) dX0_in_15
  · refine lv_iload_n hx hb dX0_in_5 rfl (lv_at hl 0 rfl) ?_
    refine lv_iload_n hx hb dX0_in_6 rfl (lv_at hl 2 rfl) ?_
    refine lv_icmp_gt (x := xi) (y := hi) (tgt := 14) hx hb dX0_in_7 (by decide) (fun c_7 => ?_) (fun c_7 => ?_)
    · refine lv_iconst (v := nI (0)) hx hb dX0_in_14 (by decide +kernel) ?_
      exact W.zret (v := nI (0)) hx hb hr rfl (fun t9 ht9 hW9 => ⟨_, rfl, (by simp [zin, c_2, c_7]), ht9⟩) (fun _ h => by cases h) dX0_in_15
    · refine lv_iconst (v := nI (1)) hx hb dX0_in_10 (by decide +kernel) ?_
      refine lv_goto (tgt := 15) hx hb dX0_in_11 (by decide) ?_
      exact W.zret (v := nI (1)) hx hb hr rfl (fun t9 ht9 hW9 => ⟨_, rfl, (by simp [zin, c_2, c_7]), ht9⟩) (fun _ h => by cases h) dX0_in_15
set_option maxHeartbeats 8000000 in
set_option maxRecDepth 100000 in
theorem met_X0_goodNumbers (l : Launch) (k : Nat) (a b : Int32) (h_k : k ≤ 9) : Met l yX0_goodNumbers (ws_ yX0_goodNumbers cX0_goodNumbers 3 (some .boolean)) ({ frames := 1, cells := 0, slots := 0, locals := 22 }) (va_Pc [.int (nI (k)), .int (a), .int (b)] (fun _ => True)) (vp_Si (fun r => r = nI (zgn k a b).toNat)) 0 0 (fun _ => False) := by
  refine Met.ofW (cc := cX0_goodNumbers) (maxL := 3) (ret := (some .boolean)) (by decide) rfl ?_
  intro p e s m args below meth c s₁ B hml hv
  obtain ⟨rfl, -⟩ := hv
  have hx := B.exec
  have hb := B.bytes
  have hr := B.returns
  have hts := atoms_spec (ws := ws_ yX0_goodNumbers cX0_goodNumbers 3 (some .boolean)) B.pre
  have hts : ∀ w ∈ lw_all, w.before _ s = true := fun w h => hts w (List.mem_cons_of_mem _ h)
  have hown : s.vm.findClass RX0 = some m.cls := findClass_of_methodNamed B.named
  have hlocks := B.notSynchronized
  have hl := lv_entry ([.int (nI (k)), .int (a), .int (b)]) (n := 3) (Nat.le_of_ble_eq_true rfl)
  rw [lg_entry_eq]
  generalize (lg_sl ([.int (nI (k)), .int (a), .int (b)]) ++ List.replicate (3 - (lg_sl ([.int (nI (k)), .int (a), .int (b)])).length) Slot.unset).toArray = ls at hl ⊢
  have hl : lv_has ls 3 [(0, .int (nI (k))), (1, .int (a)), (2, .int (b))] := hl
  rcases (show k = 0 ∨ k = 1 ∨ k = 2 ∨ k = 3 ∨ k = 4 ∨ k = 5 ∨ k = 6 ∨ k = 7 ∨ k = 8 ∨ k = 9 by omega) with rfl | rfl | rfl | rfl | rfl | rfl | rfl | rfl | rfl | rfl
  · refine lv_iload_n hx hb dX0_goodNumbers_0 rfl (lv_at hl 0 rfl) ?_
    refine lv_tableIn (x := nI 0) (off := 51) (tgt := 52) hx hb dX0_goodNumbers_1 (by decide +kernel) (by decide +kernel) (by decide +kernel) (by decide) ?_
    refine lv_iload_n hx hb dX0_goodNumbers_52 rfl (lv_at hl 1 rfl) ?_
    refine lv_iconst (v := nI (2)) hx hb dX0_goodNumbers_53 (by decide +kernel) ?_
    refine lv_iconst (v := nI (4)) hx hb dX0_goodNumbers_54 (by decide +kernel) ?_
    refine zcallS (As := [.int (a), .int (nI (2)), .int (nI (4))]) (rest := []) ⟨hx, hb, hml, hown, hts⟩ (met_X0_in l a (nI (2)) (nI (4)) ) (va_cwS 3 hts (lw_S q74 q75 q25 q76) rfl rfl rfl (by decide +kernel) ⟨Nat.le_of_ble_eq_true rfl, Nat.le_of_ble_eq_true rfl⟩) rfl hl.1 rfl (Nat.le_of_ble_eq_true rfl) dX0_goodNumbers_55 ⟨Nat.zero_le _, Nat.zero_le _⟩ (fun r_55 h_55 => ?_)
    subst h_55
    refine zn_if_eq (tgt := 76) hx hb dX0_goodNumbers_58 (by decide) (zb_lt _) (fun c_58 => ?_) (fun c_58 => ?_)
    · have c_58 : (zin a (nI (2)) (nI (4))) = false := zb_f c_58
      refine lv_iconst (v := nI (0)) hx hb dX0_goodNumbers_76 (by decide +kernel) ?_
      exact W.zret (v := nI (0)) hx hb hr rfl (fun t9 ht9 hW9 => ⟨_, rfl, (congrArg nI (by simp [zgn, c_58])), ht9⟩) (fun _ h => by cases h) dX0_goodNumbers_77
    · have c_58 : (zin a (nI (2)) (nI (4))) = true := zb_t c_58
      refine lv_iload_n hx hb dX0_goodNumbers_61 rfl (lv_at hl 2 rfl) ?_
      refine lv_iconst (v := nI (0)) hx hb dX0_goodNumbers_62 (by decide +kernel) ?_
      refine lv_iload_n hx hb dX0_goodNumbers_63 rfl (lv_at hl 1 rfl) ?_
      refine lv_iconst (v := nI (1)) hx hb dX0_goodNumbers_64 (by decide +kernel) ?_
      refine lv_isub hx hb dX0_goodNumbers_65 ?_
      refine zcallS (As := [.int (b), .int (nI (0)), .int ((a - nI (1)))]) (rest := []) ⟨hx, hb, hml, hown, hts⟩ (met_X0_in l b (nI (0)) ((a - nI (1))) ) (va_cwS 3 hts (lw_S q74 q75 q25 q76) rfl rfl rfl (by decide +kernel) ⟨Nat.le_of_ble_eq_true rfl, Nat.le_of_ble_eq_true rfl⟩) rfl hl.1 rfl (Nat.le_of_ble_eq_true rfl) dX0_goodNumbers_66 ⟨Nat.zero_le _, Nat.zero_le _⟩ (fun r_66 h_66 => ?_)
      subst h_66
      refine zn_if_eq (tgt := 76) hx hb dX0_goodNumbers_69 (by decide) (zb_lt _) (fun c_69 => ?_) (fun c_69 => ?_)
      · have c_69 : (zin b (nI (0)) ((a - nI (1)))) = false := zb_f c_69
        refine lv_iconst (v := nI (0)) hx hb dX0_goodNumbers_76 (by decide +kernel) ?_
        exact W.zret (v := nI (0)) hx hb hr rfl (fun t9 ht9 hW9 => ⟨_, rfl, (congrArg nI (by simp [zgn, c_58, c_69])), ht9⟩) (fun _ h => by cases h) dX0_goodNumbers_77
      · have c_69 : (zin b (nI (0)) ((a - nI (1)))) = true := zb_t c_69
        refine lv_iconst (v := nI (1)) hx hb dX0_goodNumbers_72 (by decide +kernel) ?_
        refine lv_goto (tgt := 77) hx hb dX0_goodNumbers_73 (by decide) ?_
        exact W.zret (v := nI (1)) hx hb hr rfl (fun t9 ht9 hW9 => ⟨_, rfl, (congrArg nI (by simp [zgn, c_58, c_69])), ht9⟩) (fun _ h => by cases h) dX0_goodNumbers_77
  · refine lv_iload_n hx hb dX0_goodNumbers_0 rfl (lv_at hl 0 rfl) ?_
    refine lv_tableIn (x := nI 1) (off := 77) (tgt := 78) hx hb dX0_goodNumbers_1 (by decide +kernel) (by decide +kernel) (by decide +kernel) (by decide) ?_
    refine lv_iload_n hx hb dX0_goodNumbers_78 rfl (lv_at hl 1 rfl) ?_
    refine lv_iconst (v := nI (0)) hx hb dX0_goodNumbers_79 (by decide +kernel) ?_
    refine lv_iconst (v := nI (3)) hx hb dX0_goodNumbers_80 (by decide +kernel) ?_
    refine zcallS (As := [.int (a), .int (nI (0)), .int (nI (3))]) (rest := []) ⟨hx, hb, hml, hown, hts⟩ (met_X0_in l a (nI (0)) (nI (3)) ) (va_cwS 3 hts (lw_S q74 q75 q25 q76) rfl rfl rfl (by decide +kernel) ⟨Nat.le_of_ble_eq_true rfl, Nat.le_of_ble_eq_true rfl⟩) rfl hl.1 rfl (Nat.le_of_ble_eq_true rfl) dX0_goodNumbers_81 ⟨Nat.zero_le _, Nat.zero_le _⟩ (fun r_81 h_81 => ?_)
    subst h_81
    refine zn_if_eq (tgt := 100) hx hb dX0_goodNumbers_84 (by decide) (zb_lt _) (fun c_84 => ?_) (fun c_84 => ?_)
    · have c_84 : (zin a (nI (0)) (nI (3))) = false := zb_f c_84
      refine lv_iconst (v := nI (0)) hx hb dX0_goodNumbers_100 (by decide +kernel) ?_
      exact W.zret (v := nI (0)) hx hb hr rfl (fun t9 ht9 hW9 => ⟨_, rfl, (congrArg nI (by simp [zgn, c_84])), ht9⟩) (fun _ h => by cases h) dX0_goodNumbers_101
    · have c_84 : (zin a (nI (0)) (nI (3))) = true := zb_t c_84
      refine lv_iload_n hx hb dX0_goodNumbers_87 rfl (lv_at hl 2 rfl) ?_
      refine lv_iconst (v := nI (1)) hx hb dX0_goodNumbers_88 (by decide +kernel) ?_
      refine lv_iconst (v := nI (3)) hx hb dX0_goodNumbers_89 (by decide +kernel) ?_
      refine zcallS (As := [.int (b), .int (nI (1)), .int (nI (3))]) (rest := []) ⟨hx, hb, hml, hown, hts⟩ (met_X0_in l b (nI (1)) (nI (3)) ) (va_cwS 3 hts (lw_S q74 q75 q25 q76) rfl rfl rfl (by decide +kernel) ⟨Nat.le_of_ble_eq_true rfl, Nat.le_of_ble_eq_true rfl⟩) rfl hl.1 rfl (Nat.le_of_ble_eq_true rfl) dX0_goodNumbers_90 ⟨Nat.zero_le _, Nat.zero_le _⟩ (fun r_90 h_90 => ?_)
      subst h_90
      refine zn_if_eq (tgt := 100) hx hb dX0_goodNumbers_93 (by decide) (zb_lt _) (fun c_93 => ?_) (fun c_93 => ?_)
      · have c_93 : (zin b (nI (1)) (nI (3))) = false := zb_f c_93
        refine lv_iconst (v := nI (0)) hx hb dX0_goodNumbers_100 (by decide +kernel) ?_
        exact W.zret (v := nI (0)) hx hb hr rfl (fun t9 ht9 hW9 => ⟨_, rfl, (congrArg nI (by simp [zgn, c_84, c_93])), ht9⟩) (fun _ h => by cases h) dX0_goodNumbers_101
      · have c_93 : (zin b (nI (1)) (nI (3))) = true := zb_t c_93
        refine lv_iconst (v := nI (1)) hx hb dX0_goodNumbers_96 (by decide +kernel) ?_
        refine lv_goto (tgt := 101) hx hb dX0_goodNumbers_97 (by decide) ?_
        exact W.zret (v := nI (1)) hx hb hr rfl (fun t9 ht9 hW9 => ⟨_, rfl, (congrArg nI (by simp [zgn, c_84, c_93])), ht9⟩) (fun _ h => by cases h) dX0_goodNumbers_101
  · refine lv_iload_n hx hb dX0_goodNumbers_0 rfl (lv_at hl 0 rfl) ?_
    refine lv_tableIn (x := nI 2) (off := 101) (tgt := 102) hx hb dX0_goodNumbers_1 (by decide +kernel) (by decide +kernel) (by decide +kernel) (by decide) ?_
    refine lv_iload_n hx hb dX0_goodNumbers_102 rfl (lv_at hl 1 rfl) ?_
    refine lv_iconst (v := nI (0)) hx hb dX0_goodNumbers_103 (by decide +kernel) ?_
    refine lv_iconst (v := nI (3)) hx hb dX0_goodNumbers_104 (by decide +kernel) ?_
    refine zcallS (As := [.int (a), .int (nI (0)), .int (nI (3))]) (rest := []) ⟨hx, hb, hml, hown, hts⟩ (met_X0_in l a (nI (0)) (nI (3)) ) (va_cwS 3 hts (lw_S q74 q75 q25 q76) rfl rfl rfl (by decide +kernel) ⟨Nat.le_of_ble_eq_true rfl, Nat.le_of_ble_eq_true rfl⟩) rfl hl.1 rfl (Nat.le_of_ble_eq_true rfl) dX0_goodNumbers_105 ⟨Nat.zero_le _, Nat.zero_le _⟩ (fun r_105 h_105 => ?_)
    subst h_105
    refine zn_if_eq (tgt := 124) hx hb dX0_goodNumbers_108 (by decide) (zb_lt _) (fun c_108 => ?_) (fun c_108 => ?_)
    · have c_108 : (zin a (nI (0)) (nI (3))) = false := zb_f c_108
      refine lv_iconst (v := nI (0)) hx hb dX0_goodNumbers_124 (by decide +kernel) ?_
      exact W.zret (v := nI (0)) hx hb hr rfl (fun t9 ht9 hW9 => ⟨_, rfl, (congrArg nI (by simp [zgn, c_108])), ht9⟩) (fun _ h => by cases h) dX0_goodNumbers_125
    · have c_108 : (zin a (nI (0)) (nI (3))) = true := zb_t c_108
      refine lv_iload_n hx hb dX0_goodNumbers_111 rfl (lv_at hl 2 rfl) ?_
      refine lv_iconst (v := nI (0)) hx hb dX0_goodNumbers_112 (by decide +kernel) ?_
      refine lv_iconst (v := nI (2)) hx hb dX0_goodNumbers_113 (by decide +kernel) ?_
      refine zcallS (As := [.int (b), .int (nI (0)), .int (nI (2))]) (rest := []) ⟨hx, hb, hml, hown, hts⟩ (met_X0_in l b (nI (0)) (nI (2)) ) (va_cwS 3 hts (lw_S q74 q75 q25 q76) rfl rfl rfl (by decide +kernel) ⟨Nat.le_of_ble_eq_true rfl, Nat.le_of_ble_eq_true rfl⟩) rfl hl.1 rfl (Nat.le_of_ble_eq_true rfl) dX0_goodNumbers_114 ⟨Nat.zero_le _, Nat.zero_le _⟩ (fun r_114 h_114 => ?_)
      subst h_114
      refine zn_if_eq (tgt := 124) hx hb dX0_goodNumbers_117 (by decide) (zb_lt _) (fun c_117 => ?_) (fun c_117 => ?_)
      · have c_117 : (zin b (nI (0)) (nI (2))) = false := zb_f c_117
        refine lv_iconst (v := nI (0)) hx hb dX0_goodNumbers_124 (by decide +kernel) ?_
        exact W.zret (v := nI (0)) hx hb hr rfl (fun t9 ht9 hW9 => ⟨_, rfl, (congrArg nI (by simp [zgn, c_108, c_117])), ht9⟩) (fun _ h => by cases h) dX0_goodNumbers_125
      · have c_117 : (zin b (nI (0)) (nI (2))) = true := zb_t c_117
        refine lv_iconst (v := nI (1)) hx hb dX0_goodNumbers_120 (by decide +kernel) ?_
        refine lv_goto (tgt := 125) hx hb dX0_goodNumbers_121 (by decide) ?_
        exact W.zret (v := nI (1)) hx hb hr rfl (fun t9 ht9 hW9 => ⟨_, rfl, (congrArg nI (by simp [zgn, c_108, c_117])), ht9⟩) (fun _ h => by cases h) dX0_goodNumbers_125
  · refine lv_iload_n hx hb dX0_goodNumbers_0 rfl (lv_at hl 0 rfl) ?_
    refine lv_tableIn (x := nI 3) (off := 125) (tgt := 126) hx hb dX0_goodNumbers_1 (by decide +kernel) (by decide +kernel) (by decide +kernel) (by decide) ?_
    refine lv_iload_n hx hb dX0_goodNumbers_126 rfl (lv_at hl 1 rfl) ?_
    refine lv_iconst (v := nI (0)) hx hb dX0_goodNumbers_127 (by decide +kernel) ?_
    refine lv_iconst (v := nI (3)) hx hb dX0_goodNumbers_128 (by decide +kernel) ?_
    refine zcallS (As := [.int (a), .int (nI (0)), .int (nI (3))]) (rest := []) ⟨hx, hb, hml, hown, hts⟩ (met_X0_in l a (nI (0)) (nI (3)) ) (va_cwS 3 hts (lw_S q74 q75 q25 q76) rfl rfl rfl (by decide +kernel) ⟨Nat.le_of_ble_eq_true rfl, Nat.le_of_ble_eq_true rfl⟩) rfl hl.1 rfl (Nat.le_of_ble_eq_true rfl) dX0_goodNumbers_129 ⟨Nat.zero_le _, Nat.zero_le _⟩ (fun r_129 h_129 => ?_)
    subst h_129
    refine zn_if_eq (tgt := 148) hx hb dX0_goodNumbers_132 (by decide) (zb_lt _) (fun c_132 => ?_) (fun c_132 => ?_)
    · have c_132 : (zin a (nI (0)) (nI (3))) = false := zb_f c_132
      refine lv_iconst (v := nI (0)) hx hb dX0_goodNumbers_148 (by decide +kernel) ?_
      exact W.zret (v := nI (0)) hx hb hr rfl (fun t9 ht9 hW9 => ⟨_, rfl, (congrArg nI (by simp [zgn, c_132])), ht9⟩) (fun _ h => by cases h) dX0_goodNumbers_149
    · have c_132 : (zin a (nI (0)) (nI (3))) = true := zb_t c_132
      refine lv_iload_n hx hb dX0_goodNumbers_135 rfl (lv_at hl 2 rfl) ?_
      refine lv_iconst (v := nI (0)) hx hb dX0_goodNumbers_136 (by decide +kernel) ?_
      refine lv_iconst (v := nI (3)) hx hb dX0_goodNumbers_137 (by decide +kernel) ?_
      refine zcallS (As := [.int (b), .int (nI (0)), .int (nI (3))]) (rest := []) ⟨hx, hb, hml, hown, hts⟩ (met_X0_in l b (nI (0)) (nI (3)) ) (va_cwS 3 hts (lw_S q74 q75 q25 q76) rfl rfl rfl (by decide +kernel) ⟨Nat.le_of_ble_eq_true rfl, Nat.le_of_ble_eq_true rfl⟩) rfl hl.1 rfl (Nat.le_of_ble_eq_true rfl) dX0_goodNumbers_138 ⟨Nat.zero_le _, Nat.zero_le _⟩ (fun r_138 h_138 => ?_)
      subst h_138
      refine zn_if_eq (tgt := 148) hx hb dX0_goodNumbers_141 (by decide) (zb_lt _) (fun c_141 => ?_) (fun c_141 => ?_)
      · have c_141 : (zin b (nI (0)) (nI (3))) = false := zb_f c_141
        refine lv_iconst (v := nI (0)) hx hb dX0_goodNumbers_148 (by decide +kernel) ?_
        exact W.zret (v := nI (0)) hx hb hr rfl (fun t9 ht9 hW9 => ⟨_, rfl, (congrArg nI (by simp [zgn, c_132, c_141])), ht9⟩) (fun _ h => by cases h) dX0_goodNumbers_149
      · have c_141 : (zin b (nI (0)) (nI (3))) = true := zb_t c_141
        refine lv_iconst (v := nI (1)) hx hb dX0_goodNumbers_144 (by decide +kernel) ?_
        refine lv_goto (tgt := 149) hx hb dX0_goodNumbers_145 (by decide) ?_
        exact W.zret (v := nI (1)) hx hb hr rfl (fun t9 ht9 hW9 => ⟨_, rfl, (congrArg nI (by simp [zgn, c_132, c_141])), ht9⟩) (fun _ h => by cases h) dX0_goodNumbers_149
  · refine lv_iload_n hx hb dX0_goodNumbers_0 rfl (lv_at hl 0 rfl) ?_
    refine lv_tableIn (x := nI 4) (off := 125) (tgt := 126) hx hb dX0_goodNumbers_1 (by decide +kernel) (by decide +kernel) (by decide +kernel) (by decide) ?_
    refine lv_iload_n hx hb dX0_goodNumbers_126 rfl (lv_at hl 1 rfl) ?_
    refine lv_iconst (v := nI (0)) hx hb dX0_goodNumbers_127 (by decide +kernel) ?_
    refine lv_iconst (v := nI (3)) hx hb dX0_goodNumbers_128 (by decide +kernel) ?_
    refine zcallS (As := [.int (a), .int (nI (0)), .int (nI (3))]) (rest := []) ⟨hx, hb, hml, hown, hts⟩ (met_X0_in l a (nI (0)) (nI (3)) ) (va_cwS 3 hts (lw_S q74 q75 q25 q76) rfl rfl rfl (by decide +kernel) ⟨Nat.le_of_ble_eq_true rfl, Nat.le_of_ble_eq_true rfl⟩) rfl hl.1 rfl (Nat.le_of_ble_eq_true rfl) dX0_goodNumbers_129 ⟨Nat.zero_le _, Nat.zero_le _⟩ (fun r_129 h_129 => ?_)
    subst h_129
    refine zn_if_eq (tgt := 148) hx hb dX0_goodNumbers_132 (by decide) (zb_lt _) (fun c_132 => ?_) (fun c_132 => ?_)
    · have c_132 : (zin a (nI (0)) (nI (3))) = false := zb_f c_132
      refine lv_iconst (v := nI (0)) hx hb dX0_goodNumbers_148 (by decide +kernel) ?_
      exact W.zret (v := nI (0)) hx hb hr rfl (fun t9 ht9 hW9 => ⟨_, rfl, (congrArg nI (by simp [zgn, c_132])), ht9⟩) (fun _ h => by cases h) dX0_goodNumbers_149
    · have c_132 : (zin a (nI (0)) (nI (3))) = true := zb_t c_132
      refine lv_iload_n hx hb dX0_goodNumbers_135 rfl (lv_at hl 2 rfl) ?_
      refine lv_iconst (v := nI (0)) hx hb dX0_goodNumbers_136 (by decide +kernel) ?_
      refine lv_iconst (v := nI (3)) hx hb dX0_goodNumbers_137 (by decide +kernel) ?_
      refine zcallS (As := [.int (b), .int (nI (0)), .int (nI (3))]) (rest := []) ⟨hx, hb, hml, hown, hts⟩ (met_X0_in l b (nI (0)) (nI (3)) ) (va_cwS 3 hts (lw_S q74 q75 q25 q76) rfl rfl rfl (by decide +kernel) ⟨Nat.le_of_ble_eq_true rfl, Nat.le_of_ble_eq_true rfl⟩) rfl hl.1 rfl (Nat.le_of_ble_eq_true rfl) dX0_goodNumbers_138 ⟨Nat.zero_le _, Nat.zero_le _⟩ (fun r_138 h_138 => ?_)
      subst h_138
      refine zn_if_eq (tgt := 148) hx hb dX0_goodNumbers_141 (by decide) (zb_lt _) (fun c_141 => ?_) (fun c_141 => ?_)
      · have c_141 : (zin b (nI (0)) (nI (3))) = false := zb_f c_141
        refine lv_iconst (v := nI (0)) hx hb dX0_goodNumbers_148 (by decide +kernel) ?_
        exact W.zret (v := nI (0)) hx hb hr rfl (fun t9 ht9 hW9 => ⟨_, rfl, (congrArg nI (by simp [zgn, c_132, c_141])), ht9⟩) (fun _ h => by cases h) dX0_goodNumbers_149
      · have c_141 : (zin b (nI (0)) (nI (3))) = true := zb_t c_141
        refine lv_iconst (v := nI (1)) hx hb dX0_goodNumbers_144 (by decide +kernel) ?_
        refine lv_goto (tgt := 149) hx hb dX0_goodNumbers_145 (by decide) ?_
        exact W.zret (v := nI (1)) hx hb hr rfl (fun t9 ht9 hW9 => ⟨_, rfl, (congrArg nI (by simp [zgn, c_132, c_141])), ht9⟩) (fun _ h => by cases h) dX0_goodNumbers_149
  · refine lv_iload_n hx hb dX0_goodNumbers_0 rfl (lv_at hl 0 rfl) ?_
    refine lv_tableIn (x := nI 5) (off := 149) (tgt := 150) hx hb dX0_goodNumbers_1 (by decide +kernel) (by decide +kernel) (by decide +kernel) (by decide) ?_
    refine lv_iload_n hx hb dX0_goodNumbers_150 rfl (lv_at hl 1 rfl) ?_
    refine lv_iconst (v := nI (0)) hx hb dX0_goodNumbers_151 (by decide +kernel) ?_
    refine lv_iconst (v := nI (3)) hx hb dX0_goodNumbers_152 (by decide +kernel) ?_
    refine zcallS (As := [.int (a), .int (nI (0)), .int (nI (3))]) (rest := []) ⟨hx, hb, hml, hown, hts⟩ (met_X0_in l a (nI (0)) (nI (3)) ) (va_cwS 3 hts (lw_S q74 q75 q25 q76) rfl rfl rfl (by decide +kernel) ⟨Nat.le_of_ble_eq_true rfl, Nat.le_of_ble_eq_true rfl⟩) rfl hl.1 rfl (Nat.le_of_ble_eq_true rfl) dX0_goodNumbers_153 ⟨Nat.zero_le _, Nat.zero_le _⟩ (fun r_153 h_153 => ?_)
    subst h_153
    exact W.zret (v := nI ((zin a (nI (0)) (nI (3))).toNat)) hx hb hr (zn_nb _) (fun t9 ht9 hW9 => ⟨_, rfl, (congrArg nI (by simp [zgn])), ht9⟩) (fun _ h => by cases h) dX0_goodNumbers_156
  · refine lv_iload_n hx hb dX0_goodNumbers_0 rfl (lv_at hl 0 rfl) ?_
    refine lv_tableIn (x := nI 6) (off := 149) (tgt := 150) hx hb dX0_goodNumbers_1 (by decide +kernel) (by decide +kernel) (by decide +kernel) (by decide) ?_
    refine lv_iload_n hx hb dX0_goodNumbers_150 rfl (lv_at hl 1 rfl) ?_
    refine lv_iconst (v := nI (0)) hx hb dX0_goodNumbers_151 (by decide +kernel) ?_
    refine lv_iconst (v := nI (3)) hx hb dX0_goodNumbers_152 (by decide +kernel) ?_
    refine zcallS (As := [.int (a), .int (nI (0)), .int (nI (3))]) (rest := []) ⟨hx, hb, hml, hown, hts⟩ (met_X0_in l a (nI (0)) (nI (3)) ) (va_cwS 3 hts (lw_S q74 q75 q25 q76) rfl rfl rfl (by decide +kernel) ⟨Nat.le_of_ble_eq_true rfl, Nat.le_of_ble_eq_true rfl⟩) rfl hl.1 rfl (Nat.le_of_ble_eq_true rfl) dX0_goodNumbers_153 ⟨Nat.zero_le _, Nat.zero_le _⟩ (fun r_153 h_153 => ?_)
    subst h_153
    exact W.zret (v := nI ((zin a (nI (0)) (nI (3))).toNat)) hx hb hr (zn_nb _) (fun t9 ht9 hW9 => ⟨_, rfl, (congrArg nI (by simp [zgn])), ht9⟩) (fun _ h => by cases h) dX0_goodNumbers_156
  · refine lv_iload_n hx hb dX0_goodNumbers_0 rfl (lv_at hl 0 rfl) ?_
    refine lv_tableIn (x := nI 7) (off := 149) (tgt := 150) hx hb dX0_goodNumbers_1 (by decide +kernel) (by decide +kernel) (by decide +kernel) (by decide) ?_
    refine lv_iload_n hx hb dX0_goodNumbers_150 rfl (lv_at hl 1 rfl) ?_
    refine lv_iconst (v := nI (0)) hx hb dX0_goodNumbers_151 (by decide +kernel) ?_
    refine lv_iconst (v := nI (3)) hx hb dX0_goodNumbers_152 (by decide +kernel) ?_
    refine zcallS (As := [.int (a), .int (nI (0)), .int (nI (3))]) (rest := []) ⟨hx, hb, hml, hown, hts⟩ (met_X0_in l a (nI (0)) (nI (3)) ) (va_cwS 3 hts (lw_S q74 q75 q25 q76) rfl rfl rfl (by decide +kernel) ⟨Nat.le_of_ble_eq_true rfl, Nat.le_of_ble_eq_true rfl⟩) rfl hl.1 rfl (Nat.le_of_ble_eq_true rfl) dX0_goodNumbers_153 ⟨Nat.zero_le _, Nat.zero_le _⟩ (fun r_153 h_153 => ?_)
    subst h_153
    exact W.zret (v := nI ((zin a (nI (0)) (nI (3))).toNat)) hx hb hr (zn_nb _) (fun t9 ht9 hW9 => ⟨_, rfl, (congrArg nI (by simp [zgn])), ht9⟩) (fun _ h => by cases h) dX0_goodNumbers_156
  · refine lv_iload_n hx hb dX0_goodNumbers_0 rfl (lv_at hl 0 rfl) ?_
    refine lv_tableIn (x := nI 8) (off := 156) (tgt := 157) hx hb dX0_goodNumbers_1 (by decide +kernel) (by decide +kernel) (by decide +kernel) (by decide) ?_
    refine lv_iconst (v := nI (1)) hx hb dX0_goodNumbers_157 (by decide +kernel) ?_
    exact W.zret (v := nI (1)) hx hb hr rfl (fun t9 ht9 hW9 => ⟨_, rfl, (congrArg nI (by simp [zgn])), ht9⟩) (fun _ h => by cases h) dX0_goodNumbers_158
  · refine lv_iload_n hx hb dX0_goodNumbers_0 rfl (lv_at hl 0 rfl) ?_
    refine lv_tableOut (x := nI 9) (tgt := 159) hx hb dX0_goodNumbers_1 (by decide +kernel) (by decide) ?_
    refine lv_iload_n hx hb dX0_goodNumbers_159 rfl (lv_at hl 1 rfl) ?_
    refine lv_iconst (v := nI (0)) hx hb dX0_goodNumbers_160 (by decide +kernel) ?_
    refine lv_iconst (v := nI (3)) hx hb dX0_goodNumbers_161 (by decide +kernel) ?_
    refine zcallS (As := [.int (a), .int (nI (0)), .int (nI (3))]) (rest := []) ⟨hx, hb, hml, hown, hts⟩ (met_X0_in l a (nI (0)) (nI (3)) ) (va_cwS 3 hts (lw_S q74 q75 q25 q76) rfl rfl rfl (by decide +kernel) ⟨Nat.le_of_ble_eq_true rfl, Nat.le_of_ble_eq_true rfl⟩) rfl hl.1 rfl (Nat.le_of_ble_eq_true rfl) dX0_goodNumbers_162 ⟨Nat.zero_le _, Nat.zero_le _⟩ (fun r_162 h_162 => ?_)
    subst h_162
    refine zn_if_eq (tgt := 181) hx hb dX0_goodNumbers_165 (by decide) (zb_lt _) (fun c_165 => ?_) (fun c_165 => ?_)
    · have c_165 : (zin a (nI (0)) (nI (3))) = false := zb_f c_165
      refine lv_iconst (v := nI (0)) hx hb dX0_goodNumbers_181 (by decide +kernel) ?_
      exact W.zret (v := nI (0)) hx hb hr rfl (fun t9 ht9 hW9 => ⟨_, rfl, (congrArg nI (by simp [zgn, c_165])), ht9⟩) (fun _ h => by cases h) dX0_goodNumbers_182
    · have c_165 : (zin a (nI (0)) (nI (3))) = true := zb_t c_165
      refine lv_iload_n hx hb dX0_goodNumbers_168 rfl (lv_at hl 2 rfl) ?_
      refine lv_iconst (v := nI (0)) hx hb dX0_goodNumbers_169 (by decide +kernel) ?_
      refine lv_iconst (v := nI (1)) hx hb dX0_goodNumbers_170 (by decide +kernel) ?_
      refine zcallS (As := [.int (b), .int (nI (0)), .int (nI (1))]) (rest := []) ⟨hx, hb, hml, hown, hts⟩ (met_X0_in l b (nI (0)) (nI (1)) ) (va_cwS 3 hts (lw_S q74 q75 q25 q76) rfl rfl rfl (by decide +kernel) ⟨Nat.le_of_ble_eq_true rfl, Nat.le_of_ble_eq_true rfl⟩) rfl hl.1 rfl (Nat.le_of_ble_eq_true rfl) dX0_goodNumbers_171 ⟨Nat.zero_le _, Nat.zero_le _⟩ (fun r_171 h_171 => ?_)
      subst h_171
      refine zn_if_eq (tgt := 181) hx hb dX0_goodNumbers_174 (by decide) (zb_lt _) (fun c_174 => ?_) (fun c_174 => ?_)
      · have c_174 : (zin b (nI (0)) (nI (1))) = false := zb_f c_174
        refine lv_iconst (v := nI (0)) hx hb dX0_goodNumbers_181 (by decide +kernel) ?_
        exact W.zret (v := nI (0)) hx hb hr rfl (fun t9 ht9 hW9 => ⟨_, rfl, (congrArg nI (by simp [zgn, c_165, c_174])), ht9⟩) (fun _ h => by cases h) dX0_goodNumbers_182
      · have c_174 : (zin b (nI (0)) (nI (1))) = true := zb_t c_174
        refine lv_iconst (v := nI (1)) hx hb dX0_goodNumbers_177 (by decide +kernel) ?_
        refine lv_goto (tgt := 182) hx hb dX0_goodNumbers_178 (by decide) ?_
        exact W.zret (v := nI (1)) hx hb hr rfl (fun t9 ht9 hW9 => ⟨_, rfl, (congrArg nI (by simp [zgn, c_165, c_174])), ht9⟩) (fun _ h => by cases h) dX0_goodNumbers_182
set_option maxHeartbeats 8000000 in
set_option maxRecDepth 100000 in
theorem met_X0_goOn (l : Launch) (dC : Nat → ClassId) (dI : Nat → Nat → Nat) (g : Nat → Nat) (dA : ClassId) (N : Nat) (C : zC) (ks as_ bs : Nat → Int32) (st : Int32) (sg : Nat → Int32) (fl : Int32) (fd : Nat → Int32) (rd : Int32) (wy : Nat → Int32) (iv sv lz xv : Nat) (hN : N ≤ 3) (hC : zReps N C ks as_ bs) (h_i : iv < N) (h_s : sv < 4) (h_l : lz < 5) (h_x : xv < 4) : zMetR l yX0_goOn (ws_ yX0_goOn cX0_goOn 7 (some .int)) ({ frames := 0, cells := 0, slots := 0, locals := 0 }) (dC, dI) dA (wX g dA (nI (N)) ks as_ bs st sg fl fd rd wy) [.ref (g 0), .int (nI (iv)), .int (nI (sv)), .int (nI (lz)), .int (nI (xv))] (fun r => r = nI (zgo (C iv) sv lz xv)) := by
  refine Met.ofW (cc := cX0_goOn) (maxL := 7) (ret := (some .int)) (by decide) rfl ?_
  intro p e s m args below meth c s₁ B hml hv
  obtain ⟨rfl, hP, hK⟩ := hv
  have hx := B.exec
  have hb := B.bytes
  have hr := B.returns
  have hts := atoms_spec (ws := ws_ yX0_goOn cX0_goOn 7 (some .int)) B.pre
  have hts : ∀ w ∈ lw_all, w.before _ s = true := fun w h => hts w (List.mem_cons_of_mem _ h)
  have hown : s.vm.findClass RX0 = some m.cls := findClass_of_methodNamed B.named
  have hlocks := B.notSynchronized
  have hl := lv_entry ([.ref (g 0), .int (nI (iv)), .int (nI (sv)), .int (nI (lz)), .int (nI (xv))]) (n := 7) (Nat.le_of_ble_eq_true rfl)
  rw [lg_entry_eq]
  generalize (lg_sl ([.ref (g 0), .int (nI (iv)), .int (nI (sv)), .int (nI (lz)), .int (nI (xv))]) ++ List.replicate (7 - (lg_sl ([.ref (g 0), .int (nI (iv)), .int (nI (sv)), .int (nI (lz)), .int (nI (xv))])).length) Slot.unset).toArray = ls at hl ⊢
  have hl : lv_has ls 7 [(0, .ref (g 0)), (1, .int (nI (iv))), (2, .int (nI (sv))), (3, .int (nI (lz))), (4, .int (nI (xv)))] := hl
  have hrep := hC iv h_i
  generalize C iv = cv at hrep ⊢
  obtain ⟨k, a, b⟩ := cv
  obtain ⟨hg, hk, ha, hbb⟩ := hrep
  dsimp only [zG] at hg hk ha hbb
  have h9 := hg.1
  rcases (show k = 0 ∨ k = 1 ∨ k = 2 ∨ k = 3 ∨ k = 4 ∨ k = 5 ∨ k = 6 ∨ k = 7 ∨ k = 8 ∨ k = 9 by omega) with rfl | rfl | rfl | rfl | rfl | rfl | rfl | rfl | rfl | rfl
  · have ha := ha (by decide)
    have hbb := hbb (by decide)
    refine lv_aload_n hx hb dX0_goOn_0 rfl (lv_at hl 0 rfl) ?_
    refine va_get (D := (dC, dI)) (ci := 0) (v := .ref (g 2)) (C := RX0) (T := TX0) (N := 10) hx hb hts in_X0 hown hK hP 0 rfl rfl 2 (by decide) (hts _ q37) (fun _ h9 => h9) rfl dX0_goOn_1 ?_
    refine lv_iload_n hx hb dX0_goOn_4 rfl (lv_at hl 1 rfl) ?_
    refine zn_iald (f := as_) (i := iv) (v := nI (a)) hx hb hK hP 2 0 rfl rfl (by omega) (by decide) ha dX0_goOn_5 ?_
    refine lv_istore (lv' := [(5, .int (nI (a))), (0, .ref (g 0)), (1, .int (nI (iv))), (2, .int (nI (sv))), (3, .int (nI (lz))), (4, .int (nI (xv)))]) hx hb dX0_goOn_6 hl (by decide) rfl (fun ls hl => ?_)
    refine lv_aload_n hx hb dX0_goOn_8 rfl (lv_at hl 1 rfl) ?_
    refine va_get (D := (dC, dI)) (ci := 0) (v := .ref (g 3)) (C := RX0) (T := TX0) (N := 10) hx hb hts in_X0 hown hK hP 0 rfl rfl 3 (by decide) (hts _ q38) (fun _ h9 => h9) rfl dX0_goOn_9 ?_
    refine lv_iload_n hx hb dX0_goOn_12 rfl (lv_at hl 2 rfl) ?_
    refine zn_iald (f := bs) (i := iv) (v := nI (b)) hx hb hK hP 3 0 rfl rfl (by omega) (by decide) hbb dX0_goOn_13 ?_
    refine lv_istore (lv' := [(6, .int (nI (b))), (5, .int (nI (a))), (0, .ref (g 0)), (1, .int (nI (iv))), (2, .int (nI (sv))), (3, .int (nI (lz))), (4, .int (nI (xv)))]) hx hb dX0_goOn_14 hl (by decide) rfl (fun ls hl => ?_)
    refine lv_aload_n hx hb dX0_goOn_16 rfl (lv_at hl 2 rfl) ?_
    refine va_get (D := (dC, dI)) (ci := 0) (v := .ref (g 1)) (C := RX0) (T := TX0) (N := 10) hx hb hts in_X0 hown hK hP 0 rfl rfl 1 (by decide) (hts _ q36) (fun _ h9 => h9) rfl dX0_goOn_17 ?_
    refine lv_iload_n hx hb dX0_goOn_20 rfl (lv_at hl 3 rfl) ?_
    refine zn_iald (f := ks) (i := iv) (v := nI (0)) hx hb hK hP 1 0 rfl rfl (by omega) (by decide) hk dX0_goOn_21 ?_
    refine lv_tableIn (x := nI 0) (off := 50) (tgt := 72) hx hb dX0_goOn_22 (by decide +kernel) (by decide +kernel) (by decide +kernel) (by decide) ?_
    refine lv_iload_n hx hb dX0_goOn_72 rfl (lv_at hl 4 rfl) ?_
    refine lv_iload hx hb dX0_goOn_73 (lv_at hl 6 rfl) ?_
    refine zn_iadd hx hb dX0_goOn_75 ?_
    refine lv_iload hx hb dX0_goOn_76 (lv_at hl 1 rfl) ?_
    refine zn_if_le (tgt := 86) hx hb dX0_goOn_78 (by decide) (by omega) (fun c_78 => absurd c_78 (by omega)) (fun c_78 => ?_)
    refine lv_iload hx hb dX0_goOn_81 (lv_at hl 1 rfl) ?_
    refine lv_goto (tgt := 87) hx hb dX0_goOn_83 (by decide) ?_
    refine zn_irem hx hb dX0_goOn_87 (by omega) (by omega) (by omega) ?_
    exact W.iret (v := nI ((sv + xv) % a)) hx hb hr (fun t9 ht9 hW9 => ⟨_, rfl, (congrArg nI (show (sv + xv) % a = ((sv + xv) % a) from rfl)), ht9⟩) (fun _ h => by cases h) dX0_goOn_88
  · have ha := ha (by decide)
    have hbb := hbb (by decide)
    refine lv_aload_n hx hb dX0_goOn_0 rfl (lv_at hl 0 rfl) ?_
    refine va_get (D := (dC, dI)) (ci := 0) (v := .ref (g 2)) (C := RX0) (T := TX0) (N := 10) hx hb hts in_X0 hown hK hP 0 rfl rfl 2 (by decide) (hts _ q37) (fun _ h9 => h9) rfl dX0_goOn_1 ?_
    refine lv_iload_n hx hb dX0_goOn_4 rfl (lv_at hl 1 rfl) ?_
    refine zn_iald (f := as_) (i := iv) (v := nI (a)) hx hb hK hP 2 0 rfl rfl (by omega) (by decide) ha dX0_goOn_5 ?_
    refine lv_istore (lv' := [(5, .int (nI (a))), (0, .ref (g 0)), (1, .int (nI (iv))), (2, .int (nI (sv))), (3, .int (nI (lz))), (4, .int (nI (xv)))]) hx hb dX0_goOn_6 hl (by decide) rfl (fun ls hl => ?_)
    refine lv_aload_n hx hb dX0_goOn_8 rfl (lv_at hl 1 rfl) ?_
    refine va_get (D := (dC, dI)) (ci := 0) (v := .ref (g 3)) (C := RX0) (T := TX0) (N := 10) hx hb hts in_X0 hown hK hP 0 rfl rfl 3 (by decide) (hts _ q38) (fun _ h9 => h9) rfl dX0_goOn_9 ?_
    refine lv_iload_n hx hb dX0_goOn_12 rfl (lv_at hl 2 rfl) ?_
    refine zn_iald (f := bs) (i := iv) (v := nI (b)) hx hb hK hP 3 0 rfl rfl (by omega) (by decide) hbb dX0_goOn_13 ?_
    refine lv_istore (lv' := [(6, .int (nI (b))), (5, .int (nI (a))), (0, .ref (g 0)), (1, .int (nI (iv))), (2, .int (nI (sv))), (3, .int (nI (lz))), (4, .int (nI (xv)))]) hx hb dX0_goOn_14 hl (by decide) rfl (fun ls hl => ?_)
    refine lv_aload_n hx hb dX0_goOn_16 rfl (lv_at hl 2 rfl) ?_
    refine va_get (D := (dC, dI)) (ci := 0) (v := .ref (g 1)) (C := RX0) (T := TX0) (N := 10) hx hb hts in_X0 hown hK hP 0 rfl rfl 1 (by decide) (hts _ q36) (fun _ h9 => h9) rfl dX0_goOn_17 ?_
    refine lv_iload_n hx hb dX0_goOn_20 rfl (lv_at hl 3 rfl) ?_
    refine zn_iald (f := ks) (i := iv) (v := nI (1)) hx hb hK hP 1 0 rfl rfl (by omega) (by decide) hk dX0_goOn_21 ?_
    refine lv_tableIn (x := nI 1) (off := 67) (tgt := 89) hx hb dX0_goOn_22 (by decide +kernel) (by decide +kernel) (by decide +kernel) (by decide) ?_
    refine lv_iload hx hb dX0_goOn_89 (lv_at hl 6 rfl) ?_
    refine lv_iload hx hb dX0_goOn_91 (lv_at hl 1 rfl) ?_
    refine zn_icmp_ne (tgt := 108) hx hb dX0_goOn_93 (by decide) (by omega) (by omega) (fun c_93 => ?_) (fun c_93 => ?_)
    · refine lv_iload_n hx hb dX0_goOn_108 rfl (lv_at hl 4 rfl) ?_
      exact W.iret (v := nI (sv)) hx hb hr (fun t9 ht9 hW9 => ⟨_, rfl, (congrArg nI (show sv = (if xv = a ∧ sv < b then sv + 1 else sv) from by (repeat' split) <;> omega)), ht9⟩) (fun _ h => by cases h) dX0_goOn_109
    · refine lv_iload_n hx hb dX0_goOn_96 rfl (lv_at hl 4 rfl) ?_
      refine lv_iload hx hb dX0_goOn_97 (lv_at hl 0 rfl) ?_
      refine zn_icmp_ge (tgt := 108) hx hb dX0_goOn_99 (by decide) (by omega) (by omega) (fun c_99 => ?_) (fun c_99 => ?_)
      · refine lv_iload_n hx hb dX0_goOn_108 rfl (lv_at hl 4 rfl) ?_
        exact W.iret (v := nI (sv)) hx hb hr (fun t9 ht9 hW9 => ⟨_, rfl, (congrArg nI (show sv = (if xv = a ∧ sv < b then sv + 1 else sv) from by (repeat' split) <;> omega)), ht9⟩) (fun _ h => by cases h) dX0_goOn_109
      · refine lv_iload_n hx hb dX0_goOn_102 rfl (lv_at hl 4 rfl) ?_
        refine lv_iconst (v := nI (1)) hx hb dX0_goOn_103 (by decide +kernel) ?_
        refine zn_iadd hx hb dX0_goOn_104 ?_
        refine lv_goto (tgt := 109) hx hb dX0_goOn_105 (by decide) ?_
        exact W.iret (v := nI (sv + 1)) hx hb hr (fun t9 ht9 hW9 => ⟨_, rfl, (congrArg nI (show sv + 1 = (if xv = a ∧ sv < b then sv + 1 else sv) from by (repeat' split) <;> omega)), ht9⟩) (fun _ h => by cases h) dX0_goOn_109
  · have ha := ha (by decide)
    have hbb := hbb (by decide)
    refine lv_aload_n hx hb dX0_goOn_0 rfl (lv_at hl 0 rfl) ?_
    refine va_get (D := (dC, dI)) (ci := 0) (v := .ref (g 2)) (C := RX0) (T := TX0) (N := 10) hx hb hts in_X0 hown hK hP 0 rfl rfl 2 (by decide) (hts _ q37) (fun _ h9 => h9) rfl dX0_goOn_1 ?_
    refine lv_iload_n hx hb dX0_goOn_4 rfl (lv_at hl 1 rfl) ?_
    refine zn_iald (f := as_) (i := iv) (v := nI (a)) hx hb hK hP 2 0 rfl rfl (by omega) (by decide) ha dX0_goOn_5 ?_
    refine lv_istore (lv' := [(5, .int (nI (a))), (0, .ref (g 0)), (1, .int (nI (iv))), (2, .int (nI (sv))), (3, .int (nI (lz))), (4, .int (nI (xv)))]) hx hb dX0_goOn_6 hl (by decide) rfl (fun ls hl => ?_)
    refine lv_aload_n hx hb dX0_goOn_8 rfl (lv_at hl 1 rfl) ?_
    refine va_get (D := (dC, dI)) (ci := 0) (v := .ref (g 3)) (C := RX0) (T := TX0) (N := 10) hx hb hts in_X0 hown hK hP 0 rfl rfl 3 (by decide) (hts _ q38) (fun _ h9 => h9) rfl dX0_goOn_9 ?_
    refine lv_iload_n hx hb dX0_goOn_12 rfl (lv_at hl 2 rfl) ?_
    refine zn_iald (f := bs) (i := iv) (v := nI (b)) hx hb hK hP 3 0 rfl rfl (by omega) (by decide) hbb dX0_goOn_13 ?_
    refine lv_istore (lv' := [(6, .int (nI (b))), (5, .int (nI (a))), (0, .ref (g 0)), (1, .int (nI (iv))), (2, .int (nI (sv))), (3, .int (nI (lz))), (4, .int (nI (xv)))]) hx hb dX0_goOn_14 hl (by decide) rfl (fun ls hl => ?_)
    refine lv_aload_n hx hb dX0_goOn_16 rfl (lv_at hl 2 rfl) ?_
    refine va_get (D := (dC, dI)) (ci := 0) (v := .ref (g 1)) (C := RX0) (T := TX0) (N := 10) hx hb hts in_X0 hown hK hP 0 rfl rfl 1 (by decide) (hts _ q36) (fun _ h9 => h9) rfl dX0_goOn_17 ?_
    refine lv_iload_n hx hb dX0_goOn_20 rfl (lv_at hl 3 rfl) ?_
    refine zn_iald (f := ks) (i := iv) (v := nI (2)) hx hb hK hP 1 0 rfl rfl (by omega) (by decide) hk dX0_goOn_21 ?_
    refine lv_tableIn (x := nI 2) (off := 88) (tgt := 110) hx hb dX0_goOn_22 (by decide +kernel) (by decide +kernel) (by decide +kernel) (by decide) ?_
    refine lv_iload hx hb dX0_goOn_110 (lv_at hl 6 rfl) ?_
    refine lv_iload hx hb dX0_goOn_112 (lv_at hl 1 rfl) ?_
    refine zn_icmp_ne (tgt := 129) hx hb dX0_goOn_114 (by decide) (by omega) (by omega) (fun c_114 => ?_) (fun c_114 => ?_)
    · refine lv_iload_n hx hb dX0_goOn_129 rfl (lv_at hl 4 rfl) ?_
      exact W.iret (v := nI (sv)) hx hb hr (fun t9 ht9 hW9 => ⟨_, rfl, (congrArg nI (show sv = (if xv = a ∧ sv ≤ b then sv + 1 else sv) from by (repeat' split) <;> omega)), ht9⟩) (fun _ h => by cases h) dX0_goOn_130
    · refine lv_iload_n hx hb dX0_goOn_117 rfl (lv_at hl 4 rfl) ?_
      refine lv_iload hx hb dX0_goOn_118 (lv_at hl 0 rfl) ?_
      refine zn_icmp_gt (tgt := 129) hx hb dX0_goOn_120 (by decide) (by omega) (by omega) (fun c_120 => ?_) (fun c_120 => ?_)
      · refine lv_iload_n hx hb dX0_goOn_129 rfl (lv_at hl 4 rfl) ?_
        exact W.iret (v := nI (sv)) hx hb hr (fun t9 ht9 hW9 => ⟨_, rfl, (congrArg nI (show sv = (if xv = a ∧ sv ≤ b then sv + 1 else sv) from by (repeat' split) <;> omega)), ht9⟩) (fun _ h => by cases h) dX0_goOn_130
      · refine lv_iload_n hx hb dX0_goOn_123 rfl (lv_at hl 4 rfl) ?_
        refine lv_iconst (v := nI (1)) hx hb dX0_goOn_124 (by decide +kernel) ?_
        refine zn_iadd hx hb dX0_goOn_125 ?_
        refine lv_goto (tgt := 130) hx hb dX0_goOn_126 (by decide) ?_
        exact W.iret (v := nI (sv + 1)) hx hb hr (fun t9 ht9 hW9 => ⟨_, rfl, (congrArg nI (show sv + 1 = (if xv = a ∧ sv ≤ b then sv + 1 else sv) from by (repeat' split) <;> omega)), ht9⟩) (fun _ h => by cases h) dX0_goOn_130
  · have ha := ha (by decide)
    have hbb := hbb (by decide)
    refine lv_aload_n hx hb dX0_goOn_0 rfl (lv_at hl 0 rfl) ?_
    refine va_get (D := (dC, dI)) (ci := 0) (v := .ref (g 2)) (C := RX0) (T := TX0) (N := 10) hx hb hts in_X0 hown hK hP 0 rfl rfl 2 (by decide) (hts _ q37) (fun _ h9 => h9) rfl dX0_goOn_1 ?_
    refine lv_iload_n hx hb dX0_goOn_4 rfl (lv_at hl 1 rfl) ?_
    refine zn_iald (f := as_) (i := iv) (v := nI (a)) hx hb hK hP 2 0 rfl rfl (by omega) (by decide) ha dX0_goOn_5 ?_
    refine lv_istore (lv' := [(5, .int (nI (a))), (0, .ref (g 0)), (1, .int (nI (iv))), (2, .int (nI (sv))), (3, .int (nI (lz))), (4, .int (nI (xv)))]) hx hb dX0_goOn_6 hl (by decide) rfl (fun ls hl => ?_)
    refine lv_aload_n hx hb dX0_goOn_8 rfl (lv_at hl 1 rfl) ?_
    refine va_get (D := (dC, dI)) (ci := 0) (v := .ref (g 3)) (C := RX0) (T := TX0) (N := 10) hx hb hts in_X0 hown hK hP 0 rfl rfl 3 (by decide) (hts _ q38) (fun _ h9 => h9) rfl dX0_goOn_9 ?_
    refine lv_iload_n hx hb dX0_goOn_12 rfl (lv_at hl 2 rfl) ?_
    refine zn_iald (f := bs) (i := iv) (v := nI (b)) hx hb hK hP 3 0 rfl rfl (by omega) (by decide) hbb dX0_goOn_13 ?_
    refine lv_istore (lv' := [(6, .int (nI (b))), (5, .int (nI (a))), (0, .ref (g 0)), (1, .int (nI (iv))), (2, .int (nI (sv))), (3, .int (nI (lz))), (4, .int (nI (xv)))]) hx hb dX0_goOn_14 hl (by decide) rfl (fun ls hl => ?_)
    refine lv_aload_n hx hb dX0_goOn_16 rfl (lv_at hl 2 rfl) ?_
    refine va_get (D := (dC, dI)) (ci := 0) (v := .ref (g 1)) (C := RX0) (T := TX0) (N := 10) hx hb hts in_X0 hown hK hP 0 rfl rfl 1 (by decide) (hts _ q36) (fun _ h9 => h9) rfl dX0_goOn_17 ?_
    refine lv_iload_n hx hb dX0_goOn_20 rfl (lv_at hl 3 rfl) ?_
    refine zn_iald (f := ks) (i := iv) (v := nI (3)) hx hb hK hP 1 0 rfl rfl (by omega) (by decide) hk dX0_goOn_21 ?_
    refine lv_tableIn (x := nI 3) (off := 109) (tgt := 131) hx hb dX0_goOn_22 (by decide +kernel) (by decide +kernel) (by decide +kernel) (by decide) ?_
    refine lv_iload_n hx hb dX0_goOn_131 rfl (lv_at hl 5 rfl) ?_
    refine lv_iload hx hb dX0_goOn_132 (lv_at hl 1 rfl) ?_
    refine zn_icmp_ne (tgt := 148) hx hb dX0_goOn_134 (by decide) (by omega) (by omega) (fun c_134 => ?_) (fun c_134 => ?_)
    · refine lv_iload_n hx hb dX0_goOn_148 rfl (lv_at hl 4 rfl) ?_
      exact W.iret (v := nI (sv)) hx hb hr (fun t9 ht9 hW9 => ⟨_, rfl, (congrArg nI (show sv = (if lz = a ∧ xv = b then 1 else sv) from by (repeat' split) <;> omega)), ht9⟩) (fun _ h => by cases h) dX0_goOn_149
    · refine lv_iload hx hb dX0_goOn_137 (lv_at hl 6 rfl) ?_
      refine lv_iload hx hb dX0_goOn_139 (lv_at hl 0 rfl) ?_
      refine zn_icmp_ne (tgt := 148) hx hb dX0_goOn_141 (by decide) (by omega) (by omega) (fun c_141 => ?_) (fun c_141 => ?_)
      · refine lv_iload_n hx hb dX0_goOn_148 rfl (lv_at hl 4 rfl) ?_
        exact W.iret (v := nI (sv)) hx hb hr (fun t9 ht9 hW9 => ⟨_, rfl, (congrArg nI (show sv = (if lz = a ∧ xv = b then 1 else sv) from by (repeat' split) <;> omega)), ht9⟩) (fun _ h => by cases h) dX0_goOn_149
      · refine lv_iconst (v := nI (1)) hx hb dX0_goOn_144 (by decide +kernel) ?_
        refine lv_goto (tgt := 149) hx hb dX0_goOn_145 (by decide) ?_
        exact W.iret (v := nI (1)) hx hb hr (fun t9 ht9 hW9 => ⟨_, rfl, (congrArg nI (show 1 = (if lz = a ∧ xv = b then 1 else sv) from by (repeat' split) <;> omega)), ht9⟩) (fun _ h => by cases h) dX0_goOn_149
  · have ha := ha (by decide)
    have hbb := hbb (by decide)
    refine lv_aload_n hx hb dX0_goOn_0 rfl (lv_at hl 0 rfl) ?_
    refine va_get (D := (dC, dI)) (ci := 0) (v := .ref (g 2)) (C := RX0) (T := TX0) (N := 10) hx hb hts in_X0 hown hK hP 0 rfl rfl 2 (by decide) (hts _ q37) (fun _ h9 => h9) rfl dX0_goOn_1 ?_
    refine lv_iload_n hx hb dX0_goOn_4 rfl (lv_at hl 1 rfl) ?_
    refine zn_iald (f := as_) (i := iv) (v := nI (a)) hx hb hK hP 2 0 rfl rfl (by omega) (by decide) ha dX0_goOn_5 ?_
    refine lv_istore (lv' := [(5, .int (nI (a))), (0, .ref (g 0)), (1, .int (nI (iv))), (2, .int (nI (sv))), (3, .int (nI (lz))), (4, .int (nI (xv)))]) hx hb dX0_goOn_6 hl (by decide) rfl (fun ls hl => ?_)
    refine lv_aload_n hx hb dX0_goOn_8 rfl (lv_at hl 1 rfl) ?_
    refine va_get (D := (dC, dI)) (ci := 0) (v := .ref (g 3)) (C := RX0) (T := TX0) (N := 10) hx hb hts in_X0 hown hK hP 0 rfl rfl 3 (by decide) (hts _ q38) (fun _ h9 => h9) rfl dX0_goOn_9 ?_
    refine lv_iload_n hx hb dX0_goOn_12 rfl (lv_at hl 2 rfl) ?_
    refine zn_iald (f := bs) (i := iv) (v := nI (b)) hx hb hK hP 3 0 rfl rfl (by omega) (by decide) hbb dX0_goOn_13 ?_
    refine lv_istore (lv' := [(6, .int (nI (b))), (5, .int (nI (a))), (0, .ref (g 0)), (1, .int (nI (iv))), (2, .int (nI (sv))), (3, .int (nI (lz))), (4, .int (nI (xv)))]) hx hb dX0_goOn_14 hl (by decide) rfl (fun ls hl => ?_)
    refine lv_aload_n hx hb dX0_goOn_16 rfl (lv_at hl 2 rfl) ?_
    refine va_get (D := (dC, dI)) (ci := 0) (v := .ref (g 1)) (C := RX0) (T := TX0) (N := 10) hx hb hts in_X0 hown hK hP 0 rfl rfl 1 (by decide) (hts _ q36) (fun _ h9 => h9) rfl dX0_goOn_17 ?_
    refine lv_iload_n hx hb dX0_goOn_20 rfl (lv_at hl 3 rfl) ?_
    refine zn_iald (f := ks) (i := iv) (v := nI (4)) hx hb hK hP 1 0 rfl rfl (by omega) (by decide) hk dX0_goOn_21 ?_
    refine lv_tableIn (x := nI 4) (off := 109) (tgt := 131) hx hb dX0_goOn_22 (by decide +kernel) (by decide +kernel) (by decide +kernel) (by decide) ?_
    refine lv_iload_n hx hb dX0_goOn_131 rfl (lv_at hl 5 rfl) ?_
    refine lv_iload hx hb dX0_goOn_132 (lv_at hl 1 rfl) ?_
    refine zn_icmp_ne (tgt := 148) hx hb dX0_goOn_134 (by decide) (by omega) (by omega) (fun c_134 => ?_) (fun c_134 => ?_)
    · refine lv_iload_n hx hb dX0_goOn_148 rfl (lv_at hl 4 rfl) ?_
      exact W.iret (v := nI (sv)) hx hb hr (fun t9 ht9 hW9 => ⟨_, rfl, (congrArg nI (show sv = (if lz = a ∧ xv = b then 1 else sv) from by (repeat' split) <;> omega)), ht9⟩) (fun _ h => by cases h) dX0_goOn_149
    · refine lv_iload hx hb dX0_goOn_137 (lv_at hl 6 rfl) ?_
      refine lv_iload hx hb dX0_goOn_139 (lv_at hl 0 rfl) ?_
      refine zn_icmp_ne (tgt := 148) hx hb dX0_goOn_141 (by decide) (by omega) (by omega) (fun c_141 => ?_) (fun c_141 => ?_)
      · refine lv_iload_n hx hb dX0_goOn_148 rfl (lv_at hl 4 rfl) ?_
        exact W.iret (v := nI (sv)) hx hb hr (fun t9 ht9 hW9 => ⟨_, rfl, (congrArg nI (show sv = (if lz = a ∧ xv = b then 1 else sv) from by (repeat' split) <;> omega)), ht9⟩) (fun _ h => by cases h) dX0_goOn_149
      · refine lv_iconst (v := nI (1)) hx hb dX0_goOn_144 (by decide +kernel) ?_
        refine lv_goto (tgt := 149) hx hb dX0_goOn_145 (by decide) ?_
        exact W.iret (v := nI (1)) hx hb hr (fun t9 ht9 hW9 => ⟨_, rfl, (congrArg nI (show 1 = (if lz = a ∧ xv = b then 1 else sv) from by (repeat' split) <;> omega)), ht9⟩) (fun _ h => by cases h) dX0_goOn_149
  · have ha := ha (by decide)
    refine lv_aload_n hx hb dX0_goOn_0 rfl (lv_at hl 0 rfl) ?_
    refine va_get (D := (dC, dI)) (ci := 0) (v := .ref (g 2)) (C := RX0) (T := TX0) (N := 10) hx hb hts in_X0 hown hK hP 0 rfl rfl 2 (by decide) (hts _ q37) (fun _ h9 => h9) rfl dX0_goOn_1 ?_
    refine lv_iload_n hx hb dX0_goOn_4 rfl (lv_at hl 1 rfl) ?_
    refine zn_iald (f := as_) (i := iv) (v := nI (a)) hx hb hK hP 2 0 rfl rfl (by omega) (by decide) ha dX0_goOn_5 ?_
    refine lv_istore (lv' := [(5, .int (nI (a))), (0, .ref (g 0)), (1, .int (nI (iv))), (2, .int (nI (sv))), (3, .int (nI (lz))), (4, .int (nI (xv)))]) hx hb dX0_goOn_6 hl (by decide) rfl (fun ls hl => ?_)
    refine lv_aload_n hx hb dX0_goOn_8 rfl (lv_at hl 1 rfl) ?_
    refine va_get (D := (dC, dI)) (ci := 0) (v := .ref (g 3)) (C := RX0) (T := TX0) (N := 10) hx hb hts in_X0 hown hK hP 0 rfl rfl 3 (by decide) (hts _ q38) (fun _ h9 => h9) rfl dX0_goOn_9 ?_
    refine lv_iload_n hx hb dX0_goOn_12 rfl (lv_at hl 2 rfl) ?_
    refine zn_iald (f := bs) (i := iv) (v := bs iv) hx hb hK hP 3 0 rfl rfl (by omega) (by decide) rfl dX0_goOn_13 ?_
    refine lv_istore (lv' := [(6, .int (bs iv)), (5, .int (nI (a))), (0, .ref (g 0)), (1, .int (nI (iv))), (2, .int (nI (sv))), (3, .int (nI (lz))), (4, .int (nI (xv)))]) hx hb dX0_goOn_14 hl (by decide) rfl (fun ls hl => ?_)
    refine lv_aload_n hx hb dX0_goOn_16 rfl (lv_at hl 2 rfl) ?_
    refine va_get (D := (dC, dI)) (ci := 0) (v := .ref (g 1)) (C := RX0) (T := TX0) (N := 10) hx hb hts in_X0 hown hK hP 0 rfl rfl 1 (by decide) (hts _ q36) (fun _ h9 => h9) rfl dX0_goOn_17 ?_
    refine lv_iload_n hx hb dX0_goOn_20 rfl (lv_at hl 3 rfl) ?_
    refine zn_iald (f := ks) (i := iv) (v := nI (5)) hx hb hK hP 1 0 rfl rfl (by omega) (by decide) hk dX0_goOn_21 ?_
    refine lv_tableIn (x := nI 5) (off := 128) (tgt := 150) hx hb dX0_goOn_22 (by decide +kernel) (by decide +kernel) (by decide +kernel) (by decide) ?_
    refine lv_iload_n hx hb dX0_goOn_150 rfl (lv_at hl 5 rfl) ?_
    refine lv_iconst (v := nI (4)) hx hb dX0_goOn_151 (by decide +kernel) ?_
    refine zn_icmp_eq (tgt := 157) hx hb dX0_goOn_152 (by decide) (by omega) (by omega) (fun c_152 => ?_) (fun c_152 => ?_)
    · refine lv_iload hx hb dX0_goOn_157 (lv_at hl 6 rfl) ?_
      refine lv_iload hx hb dX0_goOn_159 (lv_at hl 1 rfl) ?_
      refine zn_icmp_lt (tgt := 168) hx hb dX0_goOn_161 (by decide) (by omega) (by omega) (fun c_161 => ?_) (fun c_161 => ?_)
      · refine lv_iconst (v := nI (2)) hx hb dX0_goOn_168 (by decide +kernel) ?_
        exact W.iret (v := nI (2)) hx hb hr (fun t9 ht9 hW9 => ⟨_, rfl, (congrArg nI (show 2 = (if lz ≠ 4 then sv else if a ≤ xv then 1 else 2) from by (repeat' split) <;> omega)), ht9⟩) (fun _ h => by cases h) dX0_goOn_169
      · refine lv_iconst (v := nI (1)) hx hb dX0_goOn_164 (by decide +kernel) ?_
        refine lv_goto (tgt := 169) hx hb dX0_goOn_165 (by decide) ?_
        exact W.iret (v := nI (1)) hx hb hr (fun t9 ht9 hW9 => ⟨_, rfl, (congrArg nI (show 1 = (if lz ≠ 4 then sv else if a ≤ xv then 1 else 2) from by (repeat' split) <;> omega)), ht9⟩) (fun _ h => by cases h) dX0_goOn_169
    · refine lv_iload_n hx hb dX0_goOn_155 rfl (lv_at hl 4 rfl) ?_
      exact W.iret (v := nI (sv)) hx hb hr (fun t9 ht9 hW9 => ⟨_, rfl, (congrArg nI (show sv = (if lz ≠ 4 then sv else if a ≤ xv then 1 else 2) from by (repeat' split) <;> omega)), ht9⟩) (fun _ h => by cases h) dX0_goOn_156
  · have ha := ha (by decide)
    refine lv_aload_n hx hb dX0_goOn_0 rfl (lv_at hl 0 rfl) ?_
    refine va_get (D := (dC, dI)) (ci := 0) (v := .ref (g 2)) (C := RX0) (T := TX0) (N := 10) hx hb hts in_X0 hown hK hP 0 rfl rfl 2 (by decide) (hts _ q37) (fun _ h9 => h9) rfl dX0_goOn_1 ?_
    refine lv_iload_n hx hb dX0_goOn_4 rfl (lv_at hl 1 rfl) ?_
    refine zn_iald (f := as_) (i := iv) (v := nI (a)) hx hb hK hP 2 0 rfl rfl (by omega) (by decide) ha dX0_goOn_5 ?_
    refine lv_istore (lv' := [(5, .int (nI (a))), (0, .ref (g 0)), (1, .int (nI (iv))), (2, .int (nI (sv))), (3, .int (nI (lz))), (4, .int (nI (xv)))]) hx hb dX0_goOn_6 hl (by decide) rfl (fun ls hl => ?_)
    refine lv_aload_n hx hb dX0_goOn_8 rfl (lv_at hl 1 rfl) ?_
    refine va_get (D := (dC, dI)) (ci := 0) (v := .ref (g 3)) (C := RX0) (T := TX0) (N := 10) hx hb hts in_X0 hown hK hP 0 rfl rfl 3 (by decide) (hts _ q38) (fun _ h9 => h9) rfl dX0_goOn_9 ?_
    refine lv_iload_n hx hb dX0_goOn_12 rfl (lv_at hl 2 rfl) ?_
    refine zn_iald (f := bs) (i := iv) (v := bs iv) hx hb hK hP 3 0 rfl rfl (by omega) (by decide) rfl dX0_goOn_13 ?_
    refine lv_istore (lv' := [(6, .int (bs iv)), (5, .int (nI (a))), (0, .ref (g 0)), (1, .int (nI (iv))), (2, .int (nI (sv))), (3, .int (nI (lz))), (4, .int (nI (xv)))]) hx hb dX0_goOn_14 hl (by decide) rfl (fun ls hl => ?_)
    refine lv_aload_n hx hb dX0_goOn_16 rfl (lv_at hl 2 rfl) ?_
    refine va_get (D := (dC, dI)) (ci := 0) (v := .ref (g 1)) (C := RX0) (T := TX0) (N := 10) hx hb hts in_X0 hown hK hP 0 rfl rfl 1 (by decide) (hts _ q36) (fun _ h9 => h9) rfl dX0_goOn_17 ?_
    refine lv_iload_n hx hb dX0_goOn_20 rfl (lv_at hl 3 rfl) ?_
    refine zn_iald (f := ks) (i := iv) (v := nI (6)) hx hb hK hP 1 0 rfl rfl (by omega) (by decide) hk dX0_goOn_21 ?_
    refine lv_tableIn (x := nI 6) (off := 148) (tgt := 170) hx hb dX0_goOn_22 (by decide +kernel) (by decide +kernel) (by decide +kernel) (by decide) ?_
    refine lv_iconst (v := nI (0)) hx hb dX0_goOn_170 (by decide +kernel) ?_
    exact W.iret (v := nI (0)) hx hb hr (fun t9 ht9 hW9 => ⟨_, rfl, (congrArg nI (show 0 = (0) from rfl)), ht9⟩) (fun _ h => by cases h) dX0_goOn_171
  · have ha := ha (by decide)
    refine lv_aload_n hx hb dX0_goOn_0 rfl (lv_at hl 0 rfl) ?_
    refine va_get (D := (dC, dI)) (ci := 0) (v := .ref (g 2)) (C := RX0) (T := TX0) (N := 10) hx hb hts in_X0 hown hK hP 0 rfl rfl 2 (by decide) (hts _ q37) (fun _ h9 => h9) rfl dX0_goOn_1 ?_
    refine lv_iload_n hx hb dX0_goOn_4 rfl (lv_at hl 1 rfl) ?_
    refine zn_iald (f := as_) (i := iv) (v := nI (a)) hx hb hK hP 2 0 rfl rfl (by omega) (by decide) ha dX0_goOn_5 ?_
    refine lv_istore (lv' := [(5, .int (nI (a))), (0, .ref (g 0)), (1, .int (nI (iv))), (2, .int (nI (sv))), (3, .int (nI (lz))), (4, .int (nI (xv)))]) hx hb dX0_goOn_6 hl (by decide) rfl (fun ls hl => ?_)
    refine lv_aload_n hx hb dX0_goOn_8 rfl (lv_at hl 1 rfl) ?_
    refine va_get (D := (dC, dI)) (ci := 0) (v := .ref (g 3)) (C := RX0) (T := TX0) (N := 10) hx hb hts in_X0 hown hK hP 0 rfl rfl 3 (by decide) (hts _ q38) (fun _ h9 => h9) rfl dX0_goOn_9 ?_
    refine lv_iload_n hx hb dX0_goOn_12 rfl (lv_at hl 2 rfl) ?_
    refine zn_iald (f := bs) (i := iv) (v := bs iv) hx hb hK hP 3 0 rfl rfl (by omega) (by decide) rfl dX0_goOn_13 ?_
    refine lv_istore (lv' := [(6, .int (bs iv)), (5, .int (nI (a))), (0, .ref (g 0)), (1, .int (nI (iv))), (2, .int (nI (sv))), (3, .int (nI (lz))), (4, .int (nI (xv)))]) hx hb dX0_goOn_14 hl (by decide) rfl (fun ls hl => ?_)
    refine lv_aload_n hx hb dX0_goOn_16 rfl (lv_at hl 2 rfl) ?_
    refine va_get (D := (dC, dI)) (ci := 0) (v := .ref (g 1)) (C := RX0) (T := TX0) (N := 10) hx hb hts in_X0 hown hK hP 0 rfl rfl 1 (by decide) (hts _ q36) (fun _ h9 => h9) rfl dX0_goOn_17 ?_
    refine lv_iload_n hx hb dX0_goOn_20 rfl (lv_at hl 3 rfl) ?_
    refine zn_iald (f := ks) (i := iv) (v := nI (7)) hx hb hK hP 1 0 rfl rfl (by omega) (by decide) hk dX0_goOn_21 ?_
    refine lv_tableIn (x := nI 7) (off := 150) (tgt := 172) hx hb dX0_goOn_22 (by decide +kernel) (by decide +kernel) (by decide +kernel) (by decide) ?_
    refine lv_iload_n hx hb dX0_goOn_172 rfl (lv_at hl 4 rfl) ?_
    refine lv_iload hx hb dX0_goOn_173 (lv_at hl 1 rfl) ?_
    refine zn_icmp_ge (tgt := 184) hx hb dX0_goOn_175 (by decide) (by omega) (by omega) (fun c_175 => ?_) (fun c_175 => ?_)
    · refine lv_iload_n hx hb dX0_goOn_184 rfl (lv_at hl 4 rfl) ?_
      exact W.iret (v := nI (sv)) hx hb hr (fun t9 ht9 hW9 => ⟨_, rfl, (congrArg nI (show sv = (if sv < a then sv + 1 else sv) from by (repeat' split) <;> omega)), ht9⟩) (fun _ h => by cases h) dX0_goOn_185
    · refine lv_iload_n hx hb dX0_goOn_178 rfl (lv_at hl 4 rfl) ?_
      refine lv_iconst (v := nI (1)) hx hb dX0_goOn_179 (by decide +kernel) ?_
      refine zn_iadd hx hb dX0_goOn_180 ?_
      refine lv_goto (tgt := 185) hx hb dX0_goOn_181 (by decide) ?_
      exact W.iret (v := nI (sv + 1)) hx hb hr (fun t9 ht9 hW9 => ⟨_, rfl, (congrArg nI (show sv + 1 = (if sv < a then sv + 1 else sv) from by (repeat' split) <;> omega)), ht9⟩) (fun _ h => by cases h) dX0_goOn_185
  · refine lv_aload_n hx hb dX0_goOn_0 rfl (lv_at hl 0 rfl) ?_
    refine va_get (D := (dC, dI)) (ci := 0) (v := .ref (g 2)) (C := RX0) (T := TX0) (N := 10) hx hb hts in_X0 hown hK hP 0 rfl rfl 2 (by decide) (hts _ q37) (fun _ h9 => h9) rfl dX0_goOn_1 ?_
    refine lv_iload_n hx hb dX0_goOn_4 rfl (lv_at hl 1 rfl) ?_
    refine zn_iald (f := as_) (i := iv) (v := as_ iv) hx hb hK hP 2 0 rfl rfl (by omega) (by decide) rfl dX0_goOn_5 ?_
    refine lv_istore (lv' := [(5, .int (as_ iv)), (0, .ref (g 0)), (1, .int (nI (iv))), (2, .int (nI (sv))), (3, .int (nI (lz))), (4, .int (nI (xv)))]) hx hb dX0_goOn_6 hl (by decide) rfl (fun ls hl => ?_)
    refine lv_aload_n hx hb dX0_goOn_8 rfl (lv_at hl 1 rfl) ?_
    refine va_get (D := (dC, dI)) (ci := 0) (v := .ref (g 3)) (C := RX0) (T := TX0) (N := 10) hx hb hts in_X0 hown hK hP 0 rfl rfl 3 (by decide) (hts _ q38) (fun _ h9 => h9) rfl dX0_goOn_9 ?_
    refine lv_iload_n hx hb dX0_goOn_12 rfl (lv_at hl 2 rfl) ?_
    refine zn_iald (f := bs) (i := iv) (v := bs iv) hx hb hK hP 3 0 rfl rfl (by omega) (by decide) rfl dX0_goOn_13 ?_
    refine lv_istore (lv' := [(6, .int (bs iv)), (5, .int (as_ iv)), (0, .ref (g 0)), (1, .int (nI (iv))), (2, .int (nI (sv))), (3, .int (nI (lz))), (4, .int (nI (xv)))]) hx hb dX0_goOn_14 hl (by decide) rfl (fun ls hl => ?_)
    refine lv_aload_n hx hb dX0_goOn_16 rfl (lv_at hl 2 rfl) ?_
    refine va_get (D := (dC, dI)) (ci := 0) (v := .ref (g 1)) (C := RX0) (T := TX0) (N := 10) hx hb hts in_X0 hown hK hP 0 rfl rfl 1 (by decide) (hts _ q36) (fun _ h9 => h9) rfl dX0_goOn_17 ?_
    refine lv_iload_n hx hb dX0_goOn_20 rfl (lv_at hl 3 rfl) ?_
    refine zn_iald (f := ks) (i := iv) (v := nI (8)) hx hb hK hP 1 0 rfl rfl (by omega) (by decide) hk dX0_goOn_21 ?_
    refine lv_tableIn (x := nI 8) (off := 164) (tgt := 186) hx hb dX0_goOn_22 (by decide +kernel) (by decide +kernel) (by decide +kernel) (by decide) ?_
    refine lv_iload_n hx hb dX0_goOn_186 rfl (lv_at hl 5 rfl) ?_
    refine lv_iload hx hb dX0_goOn_187 (lv_at hl 6 rfl) ?_
    refine zn_icmp_ge (tgt := 196) hx hb dX0_goOn_189 (by decide) (by omega) (by omega) (fun c_189 => ?_) (fun c_189 => ?_)
    · refine lv_iload_n hx hb dX0_goOn_196 rfl (lv_at hl 4 rfl) ?_
      exact W.iret (v := nI (sv)) hx hb hr (fun t9 ht9 hW9 => ⟨_, rfl, (congrArg nI (show sv = (if lz < xv then 1 else sv) from by (repeat' split) <;> omega)), ht9⟩) (fun _ h => by cases h) dX0_goOn_197
    · refine lv_iconst (v := nI (1)) hx hb dX0_goOn_192 (by decide +kernel) ?_
      refine lv_goto (tgt := 197) hx hb dX0_goOn_193 (by decide) ?_
      exact W.iret (v := nI (1)) hx hb hr (fun t9 ht9 hW9 => ⟨_, rfl, (congrArg nI (show 1 = (if lz < xv then 1 else sv) from by (repeat' split) <;> omega)), ht9⟩) (fun _ h => by cases h) dX0_goOn_197
  · have ha := ha (by decide)
    have hbb := hbb (by decide)
    refine lv_aload_n hx hb dX0_goOn_0 rfl (lv_at hl 0 rfl) ?_
    refine va_get (D := (dC, dI)) (ci := 0) (v := .ref (g 2)) (C := RX0) (T := TX0) (N := 10) hx hb hts in_X0 hown hK hP 0 rfl rfl 2 (by decide) (hts _ q37) (fun _ h9 => h9) rfl dX0_goOn_1 ?_
    refine lv_iload_n hx hb dX0_goOn_4 rfl (lv_at hl 1 rfl) ?_
    refine zn_iald (f := as_) (i := iv) (v := nI (a)) hx hb hK hP 2 0 rfl rfl (by omega) (by decide) ha dX0_goOn_5 ?_
    refine lv_istore (lv' := [(5, .int (nI (a))), (0, .ref (g 0)), (1, .int (nI (iv))), (2, .int (nI (sv))), (3, .int (nI (lz))), (4, .int (nI (xv)))]) hx hb dX0_goOn_6 hl (by decide) rfl (fun ls hl => ?_)
    refine lv_aload_n hx hb dX0_goOn_8 rfl (lv_at hl 1 rfl) ?_
    refine va_get (D := (dC, dI)) (ci := 0) (v := .ref (g 3)) (C := RX0) (T := TX0) (N := 10) hx hb hts in_X0 hown hK hP 0 rfl rfl 3 (by decide) (hts _ q38) (fun _ h9 => h9) rfl dX0_goOn_9 ?_
    refine lv_iload_n hx hb dX0_goOn_12 rfl (lv_at hl 2 rfl) ?_
    refine zn_iald (f := bs) (i := iv) (v := nI (b)) hx hb hK hP 3 0 rfl rfl (by omega) (by decide) hbb dX0_goOn_13 ?_
    refine lv_istore (lv' := [(6, .int (nI (b))), (5, .int (nI (a))), (0, .ref (g 0)), (1, .int (nI (iv))), (2, .int (nI (sv))), (3, .int (nI (lz))), (4, .int (nI (xv)))]) hx hb dX0_goOn_14 hl (by decide) rfl (fun ls hl => ?_)
    refine lv_aload_n hx hb dX0_goOn_16 rfl (lv_at hl 2 rfl) ?_
    refine va_get (D := (dC, dI)) (ci := 0) (v := .ref (g 1)) (C := RX0) (T := TX0) (N := 10) hx hb hts in_X0 hown hK hP 0 rfl rfl 1 (by decide) (hts _ q36) (fun _ h9 => h9) rfl dX0_goOn_17 ?_
    refine lv_iload_n hx hb dX0_goOn_20 rfl (lv_at hl 3 rfl) ?_
    refine zn_iald (f := ks) (i := iv) (v := nI (9)) hx hb hK hP 1 0 rfl rfl (by omega) (by decide) hk dX0_goOn_21 ?_
    refine lv_tableOut (x := nI 9) (tgt := 198) hx hb dX0_goOn_22 (by decide +kernel) (by decide) ?_
    refine lv_iload hx hb dX0_goOn_198 (lv_at hl 6 rfl) ?_
    refine lv_iload hx hb dX0_goOn_200 (lv_at hl 1 rfl) ?_
    refine zn_icmp_ne (tgt := 211) hx hb dX0_goOn_202 (by decide) (by omega) (by omega) (fun c_202 => ?_) (fun c_202 => ?_)
    · refine lv_iload_n hx hb dX0_goOn_211 rfl (lv_at hl 4 rfl) ?_
      exact W.iret (v := nI (sv)) hx hb hr (fun t9 ht9 hW9 => ⟨_, rfl, (congrArg nI (show sv = (if xv = a then sv ^^^ 1 else sv) from by (repeat' split) <;> omega)), ht9⟩) (fun _ h => by cases h) dX0_goOn_212
    · refine lv_iload_n hx hb dX0_goOn_205 rfl (lv_at hl 4 rfl) ?_
      refine lv_iconst (v := nI (1)) hx hb dX0_goOn_206 (by decide +kernel) ?_
      refine zn_ixor hx hb dX0_goOn_207 ?_
      refine lv_goto (tgt := 212) hx hb dX0_goOn_208 (by decide) ?_
      exact W.iret (v := nI (sv ^^^ 1)) hx hb hr (fun t9 ht9 hW9 => ⟨_, rfl, (congrArg nI (show sv ^^^ 1 = (if xv = a then sv ^^^ 1 else sv) from by (repeat' split) <;> omega)), ht9⟩) (fun _ h => by cases h) dX0_goOn_212
set_option maxHeartbeats 8000000 in
set_option maxRecDepth 100000 in
theorem met_X0_accepts (l : Launch) (dC : Nat → ClassId) (dI : Nat → Nat → Nat) (g : Nat → Nat) (dA : ClassId) (N : Nat) (C : zC) (ks as_ bs : Nat → Int32) (st : Int32) (sg : Nat → Int32) (fl : Int32) (fd : Nat → Int32) (rd : Int32) (wy : Nat → Int32) (iv sv lz : Nat) (hN : N ≤ 3) (hC : zReps N C ks as_ bs) (h_i : iv < N) (h_s : sv < 4) (h_l : lz < 5) : zMetR l yX0_accepts (ws_ yX0_accepts cX0_accepts 6 (some .boolean)) ({ frames := 0, cells := 0, slots := 0, locals := 0 }) (dC, dI) dA (wX g dA (nI (N)) ks as_ bs st sg fl fd rd wy) [.ref (g 0), .int (nI (iv)), .int (nI (sv)), .int (nI (lz))] (fun r => r = nI (zac (C iv) sv lz).toNat) := by
  refine Met.ofW (cc := cX0_accepts) (maxL := 6) (ret := (some .boolean)) (by decide) rfl ?_
  intro p e s m args below meth c s₁ B hml hv
  obtain ⟨rfl, hP, hK⟩ := hv
  have hx := B.exec
  have hb := B.bytes
  have hr := B.returns
  have hts := atoms_spec (ws := ws_ yX0_accepts cX0_accepts 6 (some .boolean)) B.pre
  have hts : ∀ w ∈ lw_all, w.before _ s = true := fun w h => hts w (List.mem_cons_of_mem _ h)
  have hown : s.vm.findClass RX0 = some m.cls := findClass_of_methodNamed B.named
  have hlocks := B.notSynchronized
  have hl := lv_entry ([.ref (g 0), .int (nI (iv)), .int (nI (sv)), .int (nI (lz))]) (n := 6) (Nat.le_of_ble_eq_true rfl)
  rw [lg_entry_eq]
  generalize (lg_sl ([.ref (g 0), .int (nI (iv)), .int (nI (sv)), .int (nI (lz))]) ++ List.replicate (6 - (lg_sl ([.ref (g 0), .int (nI (iv)), .int (nI (sv)), .int (nI (lz))])).length) Slot.unset).toArray = ls at hl ⊢
  have hl : lv_has ls 6 [(0, .ref (g 0)), (1, .int (nI (iv))), (2, .int (nI (sv))), (3, .int (nI (lz)))] := hl
  have hrep := hC iv h_i
  generalize C iv = cv at hrep ⊢
  obtain ⟨k, a, b⟩ := cv
  obtain ⟨hg, hk, ha, hbb⟩ := hrep
  dsimp only [zG] at hg hk ha hbb
  have h9 := hg.1
  rcases (show k = 0 ∨ k = 1 ∨ k = 2 ∨ k = 3 ∨ k = 4 ∨ k = 5 ∨ k = 6 ∨ k = 7 ∨ k = 8 ∨ k = 9 by omega) with rfl | rfl | rfl | rfl | rfl | rfl | rfl | rfl | rfl | rfl
  · have ha := ha (by decide)
    have hbb := hbb (by decide)
    refine lv_aload_n hx hb dX0_accepts_0 rfl (lv_at hl 0 rfl) ?_
    refine va_get (D := (dC, dI)) (ci := 0) (v := .ref (g 2)) (C := RX0) (T := TX0) (N := 10) hx hb hts in_X0 hown hK hP 0 rfl rfl 2 (by decide) (hts _ q37) (fun _ h9 => h9) rfl dX0_accepts_1 ?_
    refine lv_iload_n hx hb dX0_accepts_4 rfl (lv_at hl 1 rfl) ?_
    refine zn_iald (f := as_) (i := iv) (v := nI (a)) hx hb hK hP 2 0 rfl rfl (by omega) (by decide) ha dX0_accepts_5 ?_
    refine lv_istore (lv' := [(4, .int (nI (a))), (0, .ref (g 0)), (1, .int (nI (iv))), (2, .int (nI (sv))), (3, .int (nI (lz)))]) hx hb dX0_accepts_6 hl (by decide) rfl (fun ls hl => ?_)
    refine lv_aload_n hx hb dX0_accepts_8 rfl (lv_at hl 1 rfl) ?_
    refine va_get (D := (dC, dI)) (ci := 0) (v := .ref (g 3)) (C := RX0) (T := TX0) (N := 10) hx hb hts in_X0 hown hK hP 0 rfl rfl 3 (by decide) (hts _ q38) (fun _ h9 => h9) rfl dX0_accepts_9 ?_
    refine lv_iload_n hx hb dX0_accepts_12 rfl (lv_at hl 2 rfl) ?_
    refine zn_iald (f := bs) (i := iv) (v := nI (b)) hx hb hK hP 3 0 rfl rfl (by omega) (by decide) hbb dX0_accepts_13 ?_
    refine lv_istore (lv' := [(5, .int (nI (b))), (4, .int (nI (a))), (0, .ref (g 0)), (1, .int (nI (iv))), (2, .int (nI (sv))), (3, .int (nI (lz)))]) hx hb dX0_accepts_14 hl (by decide) rfl (fun ls hl => ?_)
    refine lv_aload_n hx hb dX0_accepts_16 rfl (lv_at hl 2 rfl) ?_
    refine va_get (D := (dC, dI)) (ci := 0) (v := .ref (g 1)) (C := RX0) (T := TX0) (N := 10) hx hb hts in_X0 hown hK hP 0 rfl rfl 1 (by decide) (hts _ q36) (fun _ h9 => h9) rfl dX0_accepts_17 ?_
    refine lv_iload_n hx hb dX0_accepts_20 rfl (lv_at hl 3 rfl) ?_
    refine zn_iald (f := ks) (i := iv) (v := nI (0)) hx hb hK hP 1 0 rfl rfl (by omega) (by decide) hk dX0_accepts_21 ?_
    refine lv_tableIn (x := nI 0) (off := 50) (tgt := 72) hx hb dX0_accepts_22 (by decide +kernel) (by decide +kernel) (by decide +kernel) (by decide) ?_
    refine lv_iload_n hx hb dX0_accepts_72 rfl (lv_at hl 4 rfl) ?_
    refine lv_iload hx hb dX0_accepts_73 (lv_at hl 0 rfl) ?_
    refine zn_icmp_ne (tgt := 82) hx hb dX0_accepts_75 (by decide) (by omega) (by omega) (fun c_75 => ?_) (fun c_75 => ?_)
    · refine lv_iconst (v := nI (0)) hx hb dX0_accepts_82 (by decide +kernel) ?_
      exact W.zret (v := nI (0)) hx hb hr rfl (fun t9 ht9 hW9 => ⟨_, rfl, (congrArg nI (show 0 = (decide (sv = b)).toNat from zb_0 (by omega))), ht9⟩) (fun _ h => by cases h) dX0_accepts_83
    · refine lv_iconst (v := nI (1)) hx hb dX0_accepts_78 (by decide +kernel) ?_
      refine lv_goto (tgt := 83) hx hb dX0_accepts_79 (by decide) ?_
      exact W.zret (v := nI (1)) hx hb hr rfl (fun t9 ht9 hW9 => ⟨_, rfl, (congrArg nI (show 1 = (decide (sv = b)).toNat from zb_1 (by omega))), ht9⟩) (fun _ h => by cases h) dX0_accepts_83
  · have ha := ha (by decide)
    have hbb := hbb (by decide)
    refine lv_aload_n hx hb dX0_accepts_0 rfl (lv_at hl 0 rfl) ?_
    refine va_get (D := (dC, dI)) (ci := 0) (v := .ref (g 2)) (C := RX0) (T := TX0) (N := 10) hx hb hts in_X0 hown hK hP 0 rfl rfl 2 (by decide) (hts _ q37) (fun _ h9 => h9) rfl dX0_accepts_1 ?_
    refine lv_iload_n hx hb dX0_accepts_4 rfl (lv_at hl 1 rfl) ?_
    refine zn_iald (f := as_) (i := iv) (v := nI (a)) hx hb hK hP 2 0 rfl rfl (by omega) (by decide) ha dX0_accepts_5 ?_
    refine lv_istore (lv' := [(4, .int (nI (a))), (0, .ref (g 0)), (1, .int (nI (iv))), (2, .int (nI (sv))), (3, .int (nI (lz)))]) hx hb dX0_accepts_6 hl (by decide) rfl (fun ls hl => ?_)
    refine lv_aload_n hx hb dX0_accepts_8 rfl (lv_at hl 1 rfl) ?_
    refine va_get (D := (dC, dI)) (ci := 0) (v := .ref (g 3)) (C := RX0) (T := TX0) (N := 10) hx hb hts in_X0 hown hK hP 0 rfl rfl 3 (by decide) (hts _ q38) (fun _ h9 => h9) rfl dX0_accepts_9 ?_
    refine lv_iload_n hx hb dX0_accepts_12 rfl (lv_at hl 2 rfl) ?_
    refine zn_iald (f := bs) (i := iv) (v := nI (b)) hx hb hK hP 3 0 rfl rfl (by omega) (by decide) hbb dX0_accepts_13 ?_
    refine lv_istore (lv' := [(5, .int (nI (b))), (4, .int (nI (a))), (0, .ref (g 0)), (1, .int (nI (iv))), (2, .int (nI (sv))), (3, .int (nI (lz)))]) hx hb dX0_accepts_14 hl (by decide) rfl (fun ls hl => ?_)
    refine lv_aload_n hx hb dX0_accepts_16 rfl (lv_at hl 2 rfl) ?_
    refine va_get (D := (dC, dI)) (ci := 0) (v := .ref (g 1)) (C := RX0) (T := TX0) (N := 10) hx hb hts in_X0 hown hK hP 0 rfl rfl 1 (by decide) (hts _ q36) (fun _ h9 => h9) rfl dX0_accepts_17 ?_
    refine lv_iload_n hx hb dX0_accepts_20 rfl (lv_at hl 3 rfl) ?_
    refine zn_iald (f := ks) (i := iv) (v := nI (1)) hx hb hK hP 1 0 rfl rfl (by omega) (by decide) hk dX0_accepts_21 ?_
    refine lv_tableIn (x := nI 1) (off := 62) (tgt := 84) hx hb dX0_accepts_22 (by decide +kernel) (by decide +kernel) (by decide +kernel) (by decide) ?_
    refine lv_iload_n hx hb dX0_accepts_84 rfl (lv_at hl 4 rfl) ?_
    refine lv_iload hx hb dX0_accepts_85 (lv_at hl 0 rfl) ?_
    refine zn_icmp_ne (tgt := 94) hx hb dX0_accepts_87 (by decide) (by omega) (by omega) (fun c_87 => ?_) (fun c_87 => ?_)
    · refine lv_iconst (v := nI (0)) hx hb dX0_accepts_94 (by decide +kernel) ?_
      exact W.zret (v := nI (0)) hx hb hr rfl (fun t9 ht9 hW9 => ⟨_, rfl, (congrArg nI (show 0 = (decide (sv = b)).toNat from zb_0 (by omega))), ht9⟩) (fun _ h => by cases h) dX0_accepts_95
    · refine lv_iconst (v := nI (1)) hx hb dX0_accepts_90 (by decide +kernel) ?_
      refine lv_goto (tgt := 95) hx hb dX0_accepts_91 (by decide) ?_
      exact W.zret (v := nI (1)) hx hb hr rfl (fun t9 ht9 hW9 => ⟨_, rfl, (congrArg nI (show 1 = (decide (sv = b)).toNat from zb_1 (by omega))), ht9⟩) (fun _ h => by cases h) dX0_accepts_95
  · have ha := ha (by decide)
    have hbb := hbb (by decide)
    refine lv_aload_n hx hb dX0_accepts_0 rfl (lv_at hl 0 rfl) ?_
    refine va_get (D := (dC, dI)) (ci := 0) (v := .ref (g 2)) (C := RX0) (T := TX0) (N := 10) hx hb hts in_X0 hown hK hP 0 rfl rfl 2 (by decide) (hts _ q37) (fun _ h9 => h9) rfl dX0_accepts_1 ?_
    refine lv_iload_n hx hb dX0_accepts_4 rfl (lv_at hl 1 rfl) ?_
    refine zn_iald (f := as_) (i := iv) (v := nI (a)) hx hb hK hP 2 0 rfl rfl (by omega) (by decide) ha dX0_accepts_5 ?_
    refine lv_istore (lv' := [(4, .int (nI (a))), (0, .ref (g 0)), (1, .int (nI (iv))), (2, .int (nI (sv))), (3, .int (nI (lz)))]) hx hb dX0_accepts_6 hl (by decide) rfl (fun ls hl => ?_)
    refine lv_aload_n hx hb dX0_accepts_8 rfl (lv_at hl 1 rfl) ?_
    refine va_get (D := (dC, dI)) (ci := 0) (v := .ref (g 3)) (C := RX0) (T := TX0) (N := 10) hx hb hts in_X0 hown hK hP 0 rfl rfl 3 (by decide) (hts _ q38) (fun _ h9 => h9) rfl dX0_accepts_9 ?_
    refine lv_iload_n hx hb dX0_accepts_12 rfl (lv_at hl 2 rfl) ?_
    refine zn_iald (f := bs) (i := iv) (v := nI (b)) hx hb hK hP 3 0 rfl rfl (by omega) (by decide) hbb dX0_accepts_13 ?_
    refine lv_istore (lv' := [(5, .int (nI (b))), (4, .int (nI (a))), (0, .ref (g 0)), (1, .int (nI (iv))), (2, .int (nI (sv))), (3, .int (nI (lz)))]) hx hb dX0_accepts_14 hl (by decide) rfl (fun ls hl => ?_)
    refine lv_aload_n hx hb dX0_accepts_16 rfl (lv_at hl 2 rfl) ?_
    refine va_get (D := (dC, dI)) (ci := 0) (v := .ref (g 1)) (C := RX0) (T := TX0) (N := 10) hx hb hts in_X0 hown hK hP 0 rfl rfl 1 (by decide) (hts _ q36) (fun _ h9 => h9) rfl dX0_accepts_17 ?_
    refine lv_iload_n hx hb dX0_accepts_20 rfl (lv_at hl 3 rfl) ?_
    refine zn_iald (f := ks) (i := iv) (v := nI (2)) hx hb hK hP 1 0 rfl rfl (by omega) (by decide) hk dX0_accepts_21 ?_
    refine lv_tableIn (x := nI 2) (off := 74) (tgt := 96) hx hb dX0_accepts_22 (by decide +kernel) (by decide +kernel) (by decide +kernel) (by decide) ?_
    refine lv_iload_n hx hb dX0_accepts_96 rfl (lv_at hl 4 rfl) ?_
    refine lv_iload hx hb dX0_accepts_97 (lv_at hl 0 rfl) ?_
    refine zn_icmp_gt (tgt := 106) hx hb dX0_accepts_99 (by decide) (by omega) (by omega) (fun c_99 => ?_) (fun c_99 => ?_)
    · refine lv_iconst (v := nI (0)) hx hb dX0_accepts_106 (by decide +kernel) ?_
      exact W.zret (v := nI (0)) hx hb hr rfl (fun t9 ht9 hW9 => ⟨_, rfl, (congrArg nI (show 0 = (decide (sv ≤ b)).toNat from zb_0 (by omega))), ht9⟩) (fun _ h => by cases h) dX0_accepts_107
    · refine lv_iconst (v := nI (1)) hx hb dX0_accepts_102 (by decide +kernel) ?_
      refine lv_goto (tgt := 107) hx hb dX0_accepts_103 (by decide) ?_
      exact W.zret (v := nI (1)) hx hb hr rfl (fun t9 ht9 hW9 => ⟨_, rfl, (congrArg nI (show 1 = (decide (sv ≤ b)).toNat from zb_1 (by omega))), ht9⟩) (fun _ h => by cases h) dX0_accepts_107
  · have ha := ha (by decide)
    have hbb := hbb (by decide)
    refine lv_aload_n hx hb dX0_accepts_0 rfl (lv_at hl 0 rfl) ?_
    refine va_get (D := (dC, dI)) (ci := 0) (v := .ref (g 2)) (C := RX0) (T := TX0) (N := 10) hx hb hts in_X0 hown hK hP 0 rfl rfl 2 (by decide) (hts _ q37) (fun _ h9 => h9) rfl dX0_accepts_1 ?_
    refine lv_iload_n hx hb dX0_accepts_4 rfl (lv_at hl 1 rfl) ?_
    refine zn_iald (f := as_) (i := iv) (v := nI (a)) hx hb hK hP 2 0 rfl rfl (by omega) (by decide) ha dX0_accepts_5 ?_
    refine lv_istore (lv' := [(4, .int (nI (a))), (0, .ref (g 0)), (1, .int (nI (iv))), (2, .int (nI (sv))), (3, .int (nI (lz)))]) hx hb dX0_accepts_6 hl (by decide) rfl (fun ls hl => ?_)
    refine lv_aload_n hx hb dX0_accepts_8 rfl (lv_at hl 1 rfl) ?_
    refine va_get (D := (dC, dI)) (ci := 0) (v := .ref (g 3)) (C := RX0) (T := TX0) (N := 10) hx hb hts in_X0 hown hK hP 0 rfl rfl 3 (by decide) (hts _ q38) (fun _ h9 => h9) rfl dX0_accepts_9 ?_
    refine lv_iload_n hx hb dX0_accepts_12 rfl (lv_at hl 2 rfl) ?_
    refine zn_iald (f := bs) (i := iv) (v := nI (b)) hx hb hK hP 3 0 rfl rfl (by omega) (by decide) hbb dX0_accepts_13 ?_
    refine lv_istore (lv' := [(5, .int (nI (b))), (4, .int (nI (a))), (0, .ref (g 0)), (1, .int (nI (iv))), (2, .int (nI (sv))), (3, .int (nI (lz)))]) hx hb dX0_accepts_14 hl (by decide) rfl (fun ls hl => ?_)
    refine lv_aload_n hx hb dX0_accepts_16 rfl (lv_at hl 2 rfl) ?_
    refine va_get (D := (dC, dI)) (ci := 0) (v := .ref (g 1)) (C := RX0) (T := TX0) (N := 10) hx hb hts in_X0 hown hK hP 0 rfl rfl 1 (by decide) (hts _ q36) (fun _ h9 => h9) rfl dX0_accepts_17 ?_
    refine lv_iload_n hx hb dX0_accepts_20 rfl (lv_at hl 3 rfl) ?_
    refine zn_iald (f := ks) (i := iv) (v := nI (3)) hx hb hK hP 1 0 rfl rfl (by omega) (by decide) hk dX0_accepts_21 ?_
    refine lv_tableIn (x := nI 3) (off := 86) (tgt := 108) hx hb dX0_accepts_22 (by decide +kernel) (by decide +kernel) (by decide +kernel) (by decide) ?_
    refine lv_iload_n hx hb dX0_accepts_108 rfl (lv_at hl 4 rfl) ?_
    refine lv_iconst (v := nI (1)) hx hb dX0_accepts_109 (by decide +kernel) ?_
    refine zn_icmp_ne (tgt := 117) hx hb dX0_accepts_110 (by decide) (by omega) (by omega) (fun c_110 => ?_) (fun c_110 => ?_)
    · refine lv_iconst (v := nI (0)) hx hb dX0_accepts_117 (by decide +kernel) ?_
      exact W.zret (v := nI (0)) hx hb hr rfl (fun t9 ht9 hW9 => ⟨_, rfl, (congrArg nI (show 0 = (decide (sv = 1)).toNat from zb_0 (by omega))), ht9⟩) (fun _ h => by cases h) dX0_accepts_118
    · refine lv_iconst (v := nI (1)) hx hb dX0_accepts_113 (by decide +kernel) ?_
      refine lv_goto (tgt := 118) hx hb dX0_accepts_114 (by decide) ?_
      exact W.zret (v := nI (1)) hx hb hr rfl (fun t9 ht9 hW9 => ⟨_, rfl, (congrArg nI (show 1 = (decide (sv = 1)).toNat from zb_1 (by omega))), ht9⟩) (fun _ h => by cases h) dX0_accepts_118
  · have ha := ha (by decide)
    have hbb := hbb (by decide)
    refine lv_aload_n hx hb dX0_accepts_0 rfl (lv_at hl 0 rfl) ?_
    refine va_get (D := (dC, dI)) (ci := 0) (v := .ref (g 2)) (C := RX0) (T := TX0) (N := 10) hx hb hts in_X0 hown hK hP 0 rfl rfl 2 (by decide) (hts _ q37) (fun _ h9 => h9) rfl dX0_accepts_1 ?_
    refine lv_iload_n hx hb dX0_accepts_4 rfl (lv_at hl 1 rfl) ?_
    refine zn_iald (f := as_) (i := iv) (v := nI (a)) hx hb hK hP 2 0 rfl rfl (by omega) (by decide) ha dX0_accepts_5 ?_
    refine lv_istore (lv' := [(4, .int (nI (a))), (0, .ref (g 0)), (1, .int (nI (iv))), (2, .int (nI (sv))), (3, .int (nI (lz)))]) hx hb dX0_accepts_6 hl (by decide) rfl (fun ls hl => ?_)
    refine lv_aload_n hx hb dX0_accepts_8 rfl (lv_at hl 1 rfl) ?_
    refine va_get (D := (dC, dI)) (ci := 0) (v := .ref (g 3)) (C := RX0) (T := TX0) (N := 10) hx hb hts in_X0 hown hK hP 0 rfl rfl 3 (by decide) (hts _ q38) (fun _ h9 => h9) rfl dX0_accepts_9 ?_
    refine lv_iload_n hx hb dX0_accepts_12 rfl (lv_at hl 2 rfl) ?_
    refine zn_iald (f := bs) (i := iv) (v := nI (b)) hx hb hK hP 3 0 rfl rfl (by omega) (by decide) hbb dX0_accepts_13 ?_
    refine lv_istore (lv' := [(5, .int (nI (b))), (4, .int (nI (a))), (0, .ref (g 0)), (1, .int (nI (iv))), (2, .int (nI (sv))), (3, .int (nI (lz)))]) hx hb dX0_accepts_14 hl (by decide) rfl (fun ls hl => ?_)
    refine lv_aload_n hx hb dX0_accepts_16 rfl (lv_at hl 2 rfl) ?_
    refine va_get (D := (dC, dI)) (ci := 0) (v := .ref (g 1)) (C := RX0) (T := TX0) (N := 10) hx hb hts in_X0 hown hK hP 0 rfl rfl 1 (by decide) (hts _ q36) (fun _ h9 => h9) rfl dX0_accepts_17 ?_
    refine lv_iload_n hx hb dX0_accepts_20 rfl (lv_at hl 3 rfl) ?_
    refine zn_iald (f := ks) (i := iv) (v := nI (4)) hx hb hK hP 1 0 rfl rfl (by omega) (by decide) hk dX0_accepts_21 ?_
    refine lv_tableIn (x := nI 4) (off := 97) (tgt := 119) hx hb dX0_accepts_22 (by decide +kernel) (by decide +kernel) (by decide +kernel) (by decide) ?_
    refine lv_iload_n hx hb dX0_accepts_119 rfl (lv_at hl 4 rfl) ?_
    refine zn_if_ne (tgt := 127) hx hb dX0_accepts_120 (by decide) (by omega) (fun c_120 => ?_) (fun c_120 => ?_)
    · refine lv_iconst (v := nI (0)) hx hb dX0_accepts_127 (by decide +kernel) ?_
      exact W.zret (v := nI (0)) hx hb hr rfl (fun t9 ht9 hW9 => ⟨_, rfl, (congrArg nI (show 0 = (decide (sv = 0)).toNat from zb_0 (by omega))), ht9⟩) (fun _ h => by cases h) dX0_accepts_128
    · refine lv_iconst (v := nI (1)) hx hb dX0_accepts_123 (by decide +kernel) ?_
      refine lv_goto (tgt := 128) hx hb dX0_accepts_124 (by decide) ?_
      exact W.zret (v := nI (1)) hx hb hr rfl (fun t9 ht9 hW9 => ⟨_, rfl, (congrArg nI (show 1 = (decide (sv = 0)).toNat from zb_1 (by omega))), ht9⟩) (fun _ h => by cases h) dX0_accepts_128
  · have ha := ha (by decide)
    refine lv_aload_n hx hb dX0_accepts_0 rfl (lv_at hl 0 rfl) ?_
    refine va_get (D := (dC, dI)) (ci := 0) (v := .ref (g 2)) (C := RX0) (T := TX0) (N := 10) hx hb hts in_X0 hown hK hP 0 rfl rfl 2 (by decide) (hts _ q37) (fun _ h9 => h9) rfl dX0_accepts_1 ?_
    refine lv_iload_n hx hb dX0_accepts_4 rfl (lv_at hl 1 rfl) ?_
    refine zn_iald (f := as_) (i := iv) (v := nI (a)) hx hb hK hP 2 0 rfl rfl (by omega) (by decide) ha dX0_accepts_5 ?_
    refine lv_istore (lv' := [(4, .int (nI (a))), (0, .ref (g 0)), (1, .int (nI (iv))), (2, .int (nI (sv))), (3, .int (nI (lz)))]) hx hb dX0_accepts_6 hl (by decide) rfl (fun ls hl => ?_)
    refine lv_aload_n hx hb dX0_accepts_8 rfl (lv_at hl 1 rfl) ?_
    refine va_get (D := (dC, dI)) (ci := 0) (v := .ref (g 3)) (C := RX0) (T := TX0) (N := 10) hx hb hts in_X0 hown hK hP 0 rfl rfl 3 (by decide) (hts _ q38) (fun _ h9 => h9) rfl dX0_accepts_9 ?_
    refine lv_iload_n hx hb dX0_accepts_12 rfl (lv_at hl 2 rfl) ?_
    refine zn_iald (f := bs) (i := iv) (v := bs iv) hx hb hK hP 3 0 rfl rfl (by omega) (by decide) rfl dX0_accepts_13 ?_
    refine lv_istore (lv' := [(5, .int (bs iv)), (4, .int (nI (a))), (0, .ref (g 0)), (1, .int (nI (iv))), (2, .int (nI (sv))), (3, .int (nI (lz)))]) hx hb dX0_accepts_14 hl (by decide) rfl (fun ls hl => ?_)
    refine lv_aload_n hx hb dX0_accepts_16 rfl (lv_at hl 2 rfl) ?_
    refine va_get (D := (dC, dI)) (ci := 0) (v := .ref (g 1)) (C := RX0) (T := TX0) (N := 10) hx hb hts in_X0 hown hK hP 0 rfl rfl 1 (by decide) (hts _ q36) (fun _ h9 => h9) rfl dX0_accepts_17 ?_
    refine lv_iload_n hx hb dX0_accepts_20 rfl (lv_at hl 3 rfl) ?_
    refine zn_iald (f := ks) (i := iv) (v := nI (5)) hx hb hK hP 1 0 rfl rfl (by omega) (by decide) hk dX0_accepts_21 ?_
    refine lv_tableIn (x := nI 5) (off := 107) (tgt := 129) hx hb dX0_accepts_22 (by decide +kernel) (by decide +kernel) (by decide +kernel) (by decide) ?_
    refine lv_iload_n hx hb dX0_accepts_129 rfl (lv_at hl 4 rfl) ?_
    refine lv_iconst (v := nI (1)) hx hb dX0_accepts_130 (by decide +kernel) ?_
    refine zn_icmp_ne (tgt := 138) hx hb dX0_accepts_131 (by decide) (by omega) (by omega) (fun c_131 => ?_) (fun c_131 => ?_)
    · refine lv_iconst (v := nI (0)) hx hb dX0_accepts_138 (by decide +kernel) ?_
      exact W.zret (v := nI (0)) hx hb hr rfl (fun t9 ht9 hW9 => ⟨_, rfl, (congrArg nI (show 0 = (decide (sv = 1)).toNat from zb_0 (by omega))), ht9⟩) (fun _ h => by cases h) dX0_accepts_139
    · refine lv_iconst (v := nI (1)) hx hb dX0_accepts_134 (by decide +kernel) ?_
      refine lv_goto (tgt := 139) hx hb dX0_accepts_135 (by decide) ?_
      exact W.zret (v := nI (1)) hx hb hr rfl (fun t9 ht9 hW9 => ⟨_, rfl, (congrArg nI (show 1 = (decide (sv = 1)).toNat from zb_1 (by omega))), ht9⟩) (fun _ h => by cases h) dX0_accepts_139
  · have ha := ha (by decide)
    refine lv_aload_n hx hb dX0_accepts_0 rfl (lv_at hl 0 rfl) ?_
    refine va_get (D := (dC, dI)) (ci := 0) (v := .ref (g 2)) (C := RX0) (T := TX0) (N := 10) hx hb hts in_X0 hown hK hP 0 rfl rfl 2 (by decide) (hts _ q37) (fun _ h9 => h9) rfl dX0_accepts_1 ?_
    refine lv_iload_n hx hb dX0_accepts_4 rfl (lv_at hl 1 rfl) ?_
    refine zn_iald (f := as_) (i := iv) (v := nI (a)) hx hb hK hP 2 0 rfl rfl (by omega) (by decide) ha dX0_accepts_5 ?_
    refine lv_istore (lv' := [(4, .int (nI (a))), (0, .ref (g 0)), (1, .int (nI (iv))), (2, .int (nI (sv))), (3, .int (nI (lz)))]) hx hb dX0_accepts_6 hl (by decide) rfl (fun ls hl => ?_)
    refine lv_aload_n hx hb dX0_accepts_8 rfl (lv_at hl 1 rfl) ?_
    refine va_get (D := (dC, dI)) (ci := 0) (v := .ref (g 3)) (C := RX0) (T := TX0) (N := 10) hx hb hts in_X0 hown hK hP 0 rfl rfl 3 (by decide) (hts _ q38) (fun _ h9 => h9) rfl dX0_accepts_9 ?_
    refine lv_iload_n hx hb dX0_accepts_12 rfl (lv_at hl 2 rfl) ?_
    refine zn_iald (f := bs) (i := iv) (v := bs iv) hx hb hK hP 3 0 rfl rfl (by omega) (by decide) rfl dX0_accepts_13 ?_
    refine lv_istore (lv' := [(5, .int (bs iv)), (4, .int (nI (a))), (0, .ref (g 0)), (1, .int (nI (iv))), (2, .int (nI (sv))), (3, .int (nI (lz)))]) hx hb dX0_accepts_14 hl (by decide) rfl (fun ls hl => ?_)
    refine lv_aload_n hx hb dX0_accepts_16 rfl (lv_at hl 2 rfl) ?_
    refine va_get (D := (dC, dI)) (ci := 0) (v := .ref (g 1)) (C := RX0) (T := TX0) (N := 10) hx hb hts in_X0 hown hK hP 0 rfl rfl 1 (by decide) (hts _ q36) (fun _ h9 => h9) rfl dX0_accepts_17 ?_
    refine lv_iload_n hx hb dX0_accepts_20 rfl (lv_at hl 3 rfl) ?_
    refine zn_iald (f := ks) (i := iv) (v := nI (6)) hx hb hK hP 1 0 rfl rfl (by omega) (by decide) hk dX0_accepts_21 ?_
    refine lv_tableIn (x := nI 6) (off := 118) (tgt := 140) hx hb dX0_accepts_22 (by decide +kernel) (by decide +kernel) (by decide +kernel) (by decide) ?_
    refine lv_iload_n hx hb dX0_accepts_140 rfl (lv_at hl 5 rfl) ?_
    refine lv_iconst (v := nI (4)) hx hb dX0_accepts_141 (by decide +kernel) ?_
    refine zn_icmp_eq (tgt := 155) hx hb dX0_accepts_142 (by decide) (by omega) (by omega) (fun c_142 => ?_) (fun c_142 => ?_)
    · refine lv_iconst (v := nI (0)) hx hb dX0_accepts_155 (by decide +kernel) ?_
      exact W.zret (v := nI (0)) hx hb hr rfl (fun t9 ht9 hW9 => ⟨_, rfl, (congrArg nI (show 0 = (decide (lz ≠ 4 ∧ a ≤ lz)).toNat from zb_0 (by omega))), ht9⟩) (fun _ h => by cases h) dX0_accepts_156
    · refine lv_iload_n hx hb dX0_accepts_145 rfl (lv_at hl 5 rfl) ?_
      refine lv_iload hx hb dX0_accepts_146 (lv_at hl 1 rfl) ?_
      refine zn_icmp_lt (tgt := 155) hx hb dX0_accepts_148 (by decide) (by omega) (by omega) (fun c_148 => ?_) (fun c_148 => ?_)
      · refine lv_iconst (v := nI (0)) hx hb dX0_accepts_155 (by decide +kernel) ?_
        exact W.zret (v := nI (0)) hx hb hr rfl (fun t9 ht9 hW9 => ⟨_, rfl, (congrArg nI (show 0 = (decide (lz ≠ 4 ∧ a ≤ lz)).toNat from zb_0 (by omega))), ht9⟩) (fun _ h => by cases h) dX0_accepts_156
      · refine lv_iconst (v := nI (1)) hx hb dX0_accepts_151 (by decide +kernel) ?_
        refine lv_goto (tgt := 156) hx hb dX0_accepts_152 (by decide) ?_
        exact W.zret (v := nI (1)) hx hb hr rfl (fun t9 ht9 hW9 => ⟨_, rfl, (congrArg nI (show 1 = (decide (lz ≠ 4 ∧ a ≤ lz)).toNat from zb_1 (by omega))), ht9⟩) (fun _ h => by cases h) dX0_accepts_156
  · have ha := ha (by decide)
    refine lv_aload_n hx hb dX0_accepts_0 rfl (lv_at hl 0 rfl) ?_
    refine va_get (D := (dC, dI)) (ci := 0) (v := .ref (g 2)) (C := RX0) (T := TX0) (N := 10) hx hb hts in_X0 hown hK hP 0 rfl rfl 2 (by decide) (hts _ q37) (fun _ h9 => h9) rfl dX0_accepts_1 ?_
    refine lv_iload_n hx hb dX0_accepts_4 rfl (lv_at hl 1 rfl) ?_
    refine zn_iald (f := as_) (i := iv) (v := nI (a)) hx hb hK hP 2 0 rfl rfl (by omega) (by decide) ha dX0_accepts_5 ?_
    refine lv_istore (lv' := [(4, .int (nI (a))), (0, .ref (g 0)), (1, .int (nI (iv))), (2, .int (nI (sv))), (3, .int (nI (lz)))]) hx hb dX0_accepts_6 hl (by decide) rfl (fun ls hl => ?_)
    refine lv_aload_n hx hb dX0_accepts_8 rfl (lv_at hl 1 rfl) ?_
    refine va_get (D := (dC, dI)) (ci := 0) (v := .ref (g 3)) (C := RX0) (T := TX0) (N := 10) hx hb hts in_X0 hown hK hP 0 rfl rfl 3 (by decide) (hts _ q38) (fun _ h9 => h9) rfl dX0_accepts_9 ?_
    refine lv_iload_n hx hb dX0_accepts_12 rfl (lv_at hl 2 rfl) ?_
    refine zn_iald (f := bs) (i := iv) (v := bs iv) hx hb hK hP 3 0 rfl rfl (by omega) (by decide) rfl dX0_accepts_13 ?_
    refine lv_istore (lv' := [(5, .int (bs iv)), (4, .int (nI (a))), (0, .ref (g 0)), (1, .int (nI (iv))), (2, .int (nI (sv))), (3, .int (nI (lz)))]) hx hb dX0_accepts_14 hl (by decide) rfl (fun ls hl => ?_)
    refine lv_aload_n hx hb dX0_accepts_16 rfl (lv_at hl 2 rfl) ?_
    refine va_get (D := (dC, dI)) (ci := 0) (v := .ref (g 1)) (C := RX0) (T := TX0) (N := 10) hx hb hts in_X0 hown hK hP 0 rfl rfl 1 (by decide) (hts _ q36) (fun _ h9 => h9) rfl dX0_accepts_17 ?_
    refine lv_iload_n hx hb dX0_accepts_20 rfl (lv_at hl 3 rfl) ?_
    refine zn_iald (f := ks) (i := iv) (v := nI (7)) hx hb hK hP 1 0 rfl rfl (by omega) (by decide) hk dX0_accepts_21 ?_
    refine lv_tableIn (x := nI 7) (off := 135) (tgt := 157) hx hb dX0_accepts_22 (by decide +kernel) (by decide +kernel) (by decide +kernel) (by decide) ?_
    refine lv_iload_n hx hb dX0_accepts_157 rfl (lv_at hl 4 rfl) ?_
    refine lv_iload hx hb dX0_accepts_158 (lv_at hl 1 rfl) ?_
    refine zn_icmp_ne (tgt := 167) hx hb dX0_accepts_160 (by decide) (by omega) (by omega) (fun c_160 => ?_) (fun c_160 => ?_)
    · refine lv_iconst (v := nI (0)) hx hb dX0_accepts_167 (by decide +kernel) ?_
      exact W.zret (v := nI (0)) hx hb hr rfl (fun t9 ht9 hW9 => ⟨_, rfl, (congrArg nI (show 0 = (decide (sv = a)).toNat from zb_0 (by omega))), ht9⟩) (fun _ h => by cases h) dX0_accepts_168
    · refine lv_iconst (v := nI (1)) hx hb dX0_accepts_163 (by decide +kernel) ?_
      refine lv_goto (tgt := 168) hx hb dX0_accepts_164 (by decide) ?_
      exact W.zret (v := nI (1)) hx hb hr rfl (fun t9 ht9 hW9 => ⟨_, rfl, (congrArg nI (show 1 = (decide (sv = a)).toNat from zb_1 (by omega))), ht9⟩) (fun _ h => by cases h) dX0_accepts_168
  · refine lv_aload_n hx hb dX0_accepts_0 rfl (lv_at hl 0 rfl) ?_
    refine va_get (D := (dC, dI)) (ci := 0) (v := .ref (g 2)) (C := RX0) (T := TX0) (N := 10) hx hb hts in_X0 hown hK hP 0 rfl rfl 2 (by decide) (hts _ q37) (fun _ h9 => h9) rfl dX0_accepts_1 ?_
    refine lv_iload_n hx hb dX0_accepts_4 rfl (lv_at hl 1 rfl) ?_
    refine zn_iald (f := as_) (i := iv) (v := as_ iv) hx hb hK hP 2 0 rfl rfl (by omega) (by decide) rfl dX0_accepts_5 ?_
    refine lv_istore (lv' := [(4, .int (as_ iv)), (0, .ref (g 0)), (1, .int (nI (iv))), (2, .int (nI (sv))), (3, .int (nI (lz)))]) hx hb dX0_accepts_6 hl (by decide) rfl (fun ls hl => ?_)
    refine lv_aload_n hx hb dX0_accepts_8 rfl (lv_at hl 1 rfl) ?_
    refine va_get (D := (dC, dI)) (ci := 0) (v := .ref (g 3)) (C := RX0) (T := TX0) (N := 10) hx hb hts in_X0 hown hK hP 0 rfl rfl 3 (by decide) (hts _ q38) (fun _ h9 => h9) rfl dX0_accepts_9 ?_
    refine lv_iload_n hx hb dX0_accepts_12 rfl (lv_at hl 2 rfl) ?_
    refine zn_iald (f := bs) (i := iv) (v := bs iv) hx hb hK hP 3 0 rfl rfl (by omega) (by decide) rfl dX0_accepts_13 ?_
    refine lv_istore (lv' := [(5, .int (bs iv)), (4, .int (as_ iv)), (0, .ref (g 0)), (1, .int (nI (iv))), (2, .int (nI (sv))), (3, .int (nI (lz)))]) hx hb dX0_accepts_14 hl (by decide) rfl (fun ls hl => ?_)
    refine lv_aload_n hx hb dX0_accepts_16 rfl (lv_at hl 2 rfl) ?_
    refine va_get (D := (dC, dI)) (ci := 0) (v := .ref (g 1)) (C := RX0) (T := TX0) (N := 10) hx hb hts in_X0 hown hK hP 0 rfl rfl 1 (by decide) (hts _ q36) (fun _ h9 => h9) rfl dX0_accepts_17 ?_
    refine lv_iload_n hx hb dX0_accepts_20 rfl (lv_at hl 3 rfl) ?_
    refine zn_iald (f := ks) (i := iv) (v := nI (8)) hx hb hK hP 1 0 rfl rfl (by omega) (by decide) hk dX0_accepts_21 ?_
    refine lv_tableIn (x := nI 8) (off := 147) (tgt := 169) hx hb dX0_accepts_22 (by decide +kernel) (by decide +kernel) (by decide +kernel) (by decide) ?_
    refine lv_iload_n hx hb dX0_accepts_169 rfl (lv_at hl 4 rfl) ?_
    refine lv_iconst (v := nI (1)) hx hb dX0_accepts_170 (by decide +kernel) ?_
    refine zn_icmp_ne (tgt := 178) hx hb dX0_accepts_171 (by decide) (by omega) (by omega) (fun c_171 => ?_) (fun c_171 => ?_)
    · refine lv_iconst (v := nI (0)) hx hb dX0_accepts_178 (by decide +kernel) ?_
      exact W.zret (v := nI (0)) hx hb hr rfl (fun t9 ht9 hW9 => ⟨_, rfl, (congrArg nI (show 0 = (decide (sv = 1)).toNat from zb_0 (by omega))), ht9⟩) (fun _ h => by cases h) dX0_accepts_179
    · refine lv_iconst (v := nI (1)) hx hb dX0_accepts_174 (by decide +kernel) ?_
      refine lv_goto (tgt := 179) hx hb dX0_accepts_175 (by decide) ?_
      exact W.zret (v := nI (1)) hx hb hr rfl (fun t9 ht9 hW9 => ⟨_, rfl, (congrArg nI (show 1 = (decide (sv = 1)).toNat from zb_1 (by omega))), ht9⟩) (fun _ h => by cases h) dX0_accepts_179
  · have ha := ha (by decide)
    have hbb := hbb (by decide)
    refine lv_aload_n hx hb dX0_accepts_0 rfl (lv_at hl 0 rfl) ?_
    refine va_get (D := (dC, dI)) (ci := 0) (v := .ref (g 2)) (C := RX0) (T := TX0) (N := 10) hx hb hts in_X0 hown hK hP 0 rfl rfl 2 (by decide) (hts _ q37) (fun _ h9 => h9) rfl dX0_accepts_1 ?_
    refine lv_iload_n hx hb dX0_accepts_4 rfl (lv_at hl 1 rfl) ?_
    refine zn_iald (f := as_) (i := iv) (v := nI (a)) hx hb hK hP 2 0 rfl rfl (by omega) (by decide) ha dX0_accepts_5 ?_
    refine lv_istore (lv' := [(4, .int (nI (a))), (0, .ref (g 0)), (1, .int (nI (iv))), (2, .int (nI (sv))), (3, .int (nI (lz)))]) hx hb dX0_accepts_6 hl (by decide) rfl (fun ls hl => ?_)
    refine lv_aload_n hx hb dX0_accepts_8 rfl (lv_at hl 1 rfl) ?_
    refine va_get (D := (dC, dI)) (ci := 0) (v := .ref (g 3)) (C := RX0) (T := TX0) (N := 10) hx hb hts in_X0 hown hK hP 0 rfl rfl 3 (by decide) (hts _ q38) (fun _ h9 => h9) rfl dX0_accepts_9 ?_
    refine lv_iload_n hx hb dX0_accepts_12 rfl (lv_at hl 2 rfl) ?_
    refine zn_iald (f := bs) (i := iv) (v := nI (b)) hx hb hK hP 3 0 rfl rfl (by omega) (by decide) hbb dX0_accepts_13 ?_
    refine lv_istore (lv' := [(5, .int (nI (b))), (4, .int (nI (a))), (0, .ref (g 0)), (1, .int (nI (iv))), (2, .int (nI (sv))), (3, .int (nI (lz)))]) hx hb dX0_accepts_14 hl (by decide) rfl (fun ls hl => ?_)
    refine lv_aload_n hx hb dX0_accepts_16 rfl (lv_at hl 2 rfl) ?_
    refine va_get (D := (dC, dI)) (ci := 0) (v := .ref (g 1)) (C := RX0) (T := TX0) (N := 10) hx hb hts in_X0 hown hK hP 0 rfl rfl 1 (by decide) (hts _ q36) (fun _ h9 => h9) rfl dX0_accepts_17 ?_
    refine lv_iload_n hx hb dX0_accepts_20 rfl (lv_at hl 3 rfl) ?_
    refine zn_iald (f := ks) (i := iv) (v := nI (9)) hx hb hK hP 1 0 rfl rfl (by omega) (by decide) hk dX0_accepts_21 ?_
    refine lv_tableOut (x := nI 9) (tgt := 180) hx hb dX0_accepts_22 (by decide +kernel) (by decide) ?_
    refine lv_iload_n hx hb dX0_accepts_180 rfl (lv_at hl 4 rfl) ?_
    refine lv_iload hx hb dX0_accepts_181 (lv_at hl 0 rfl) ?_
    refine zn_icmp_ne (tgt := 190) hx hb dX0_accepts_183 (by decide) (by omega) (by omega) (fun c_183 => ?_) (fun c_183 => ?_)
    · refine lv_iconst (v := nI (0)) hx hb dX0_accepts_190 (by decide +kernel) ?_
      exact W.zret (v := nI (0)) hx hb hr rfl (fun t9 ht9 hW9 => ⟨_, rfl, (congrArg nI (show 0 = (decide (sv = b)).toNat from zb_0 (by omega))), ht9⟩) (fun _ h => by cases h) dX0_accepts_191
    · refine lv_iconst (v := nI (1)) hx hb dX0_accepts_186 (by decide +kernel) ?_
      refine lv_goto (tgt := 191) hx hb dX0_accepts_187 (by decide) ?_
      exact W.zret (v := nI (1)) hx hb hr rfl (fun t9 ht9 hW9 => ⟨_, rfl, (congrArg nI (show 1 = (decide (sv = b)).toNat from zb_1 (by omega))), ht9⟩) (fun _ h => by cases h) dX0_accepts_191
set_option maxHeartbeats 8000000 in
set_option maxRecDepth 100000 in
theorem met_X0_next (l : Launch) (dC : Nat → ClassId) (dI : Nat → Nat → Nat) (g : Nat → Nat) (dA : ClassId) (N : Nat) (C : zC) (ks as_ bs : Nat → Int32) (st : Int32) (sg : Nat → Int32) (fl : Int32) (fd : Nat → Int32) (rd : Int32) (wy : Nat → Int32) (sv xv : Nat) (hN : N ≤ 3) (hC : zReps N C ks as_ bs) (h_s : sv < 320) (h_x : xv < 4) : zMetR l yX0_next (ws_ yX0_next cX0_next 7 (some .int)) ({ frames := 1, cells := 0, slots := 0, locals := 26 }) (dC, dI) dA (wX g dA (nI (N)) ks as_ bs st sg fl fd rd wy) [.ref (g 0), .int (nI (sv)), .int (nI (xv))] (fun r => r = nI (znx C sv xv N)) := by
  refine Met.ofW (cc := cX0_next) (maxL := 7) (ret := (some .int)) (by decide) rfl ?_
  intro p e s m args below meth c s₁ B hml hv
  obtain ⟨rfl, hP, hK⟩ := hv
  have hx := B.exec
  have hb := B.bytes
  have hr := B.returns
  have hts := atoms_spec (ws := ws_ yX0_next cX0_next 7 (some .int)) B.pre
  have hts : ∀ w ∈ lw_all, w.before _ s = true := fun w h => hts w (List.mem_cons_of_mem _ h)
  have hown : s.vm.findClass RX0 = some m.cls := findClass_of_methodNamed B.named
  have hlocks := B.notSynchronized
  have hl := lv_entry ([.ref (g 0), .int (nI (sv)), .int (nI (xv))]) (n := 7) (Nat.le_of_ble_eq_true rfl)
  rw [lg_entry_eq]
  generalize (lg_sl ([.ref (g 0), .int (nI (sv)), .int (nI (xv))]) ++ List.replicate (7 - (lg_sl ([.ref (g 0), .int (nI (sv)), .int (nI (xv))])).length) Slot.unset).toArray = ls at hl ⊢
  have hl : lv_has ls 7 [(0, .ref (g 0)), (1, .int (nI (sv))), (2, .int (nI (xv)))] := hl
  refine lv_iload_n hx hb dX0_next_0 rfl (lv_at hl 1 rfl) ?_
  refine lv_bipush (v := nI (6)) hx hb dX0_next_1 (by decide +kernel) ?_
  refine zn_ishr (v := sv / 64) hx hb dX0_next_3 (by omega) (by omega) rfl ?_
  refine lv_istore_n (lv' := [(3, .int (nI (sv / 64))), (0, .ref (g 0)), (1, .int (nI (sv))), (2, .int (nI (xv)))]) hx hb dX0_next_4 rfl hl (by decide) rfl (fun ls hl => ?_)
  refine lv_iload_n hx hb dX0_next_5 rfl (lv_at hl 3 rfl) ?_
  refine lv_bipush (v := nI (6)) hx hb dX0_next_6 (by decide +kernel) ?_
  refine zn_ishl (v := 64 * xv) hx hb dX0_next_8 (by omega) (by omega) (by omega) ?_
  refine lv_istore (lv' := [(4, .int (nI (64 * xv))), (3, .int (nI (sv / 64))), (0, .ref (g 0)), (1, .int (nI (sv))), (2, .int (nI (xv)))]) hx hb dX0_next_9 hl (by decide) rfl (fun ls hl => ?_)
  refine lv_iconst (v := nI (0)) hx hb dX0_next_11 (by decide +kernel) ?_
  refine lv_istore (lv' := [(5, .int (nI (0))), (4, .int (nI (64 * xv))), (3, .int (nI (sv / 64))), (0, .ref (g 0)), (1, .int (nI (sv))), (2, .int (nI (xv)))]) hx hb dX0_next_12 hl (by decide) rfl (fun ls hl => ?_)
  have loop14 : ∀ (d14 : Nat) (i : Nat) (t : Nat), N - i < d14 → i ≤ N → t = znx C sv xv i → ∀ (ls : Array Slot), lv_has ls 7 [(0, .ref (g 0)), (1, .int (nI (sv))), (2, .int (nI (xv))), (3, .int (nI (sv / 64))), (4, .int (nI (t))), (5, .int (nI (i)))] → W p l e (headSpec (ws_ yX0_next cX0_next 7 (some .int)) ({ frames := 1, cells := 0, slots := 0, locals := 26 })).room s m ([.ref (g 0), .int (nI (sv)), .int (nI (xv))] : List Value).toArray below meth c s.heap [] 0 0 (MQ below (vp_Si (fun r => r = nI (znx C sv xv N))) ([.ref (g 0), .int (nI (sv)), .int (nI (xv))] : List Value).toArray s 0 0 (fun _ => False)) (F0 m 14 ls []) := by
    intro d14
    induction d14 with
    | zero =>
      intro i t hd14
      exact absurd hd14 (Nat.not_lt_zero _)
    | succ d14 ih14 =>
      intro i t hd14 hi ht ls hl
      refine lv_iload hx hb dX0_next_14 (lv_at hl 5 rfl) ?_
      refine lv_aload_n hx hb dX0_next_16 rfl (lv_at hl 0 rfl) ?_
      refine va_get (D := (dC, dI)) (ci := 0) (v := .int (nI (N))) (C := RX0) (T := TX0) (N := 10) hx hb hts in_X0 hown hK hP 0 rfl rfl 0 (by decide) (hts _ q35) (fun _ h9 => h9) rfl dX0_next_17 ?_
      refine zn_icmp_ge (tgt := 59) hx hb dX0_next_20 (by decide) (by omega) (by omega) (fun c_20 => ?_) (fun c_20 => ?_)
      · refine lv_iload hx hb dX0_next_59 (lv_at hl 4 rfl) ?_
        exact W.iret (v := nI (t)) hx hb hr (fun t9 ht9 hW9 => ⟨_, rfl, (congrArg nI (by rw [ht, show i = N by omega])), ht9⟩) (fun _ h => by cases h) dX0_next_61
      · refine lv_aload_n hx hb dX0_next_23 rfl (lv_at hl 0 rfl) ?_
        refine lv_iload hx hb dX0_next_24 (lv_at hl 5 rfl) ?_
        refine lv_iload_n hx hb dX0_next_26 rfl (lv_at hl 1 rfl) ?_
        refine lv_iconst (v := nI (2)) hx hb dX0_next_27 (by decide +kernel) ?_
        refine lv_iload hx hb dX0_next_28 (lv_at hl 5 rfl) ?_
        refine zn_imul hx hb dX0_next_30 ?_
        refine zn_ishr (v := sv / 4 ^ i) hx hb dX0_next_31 (by omega) (by omega) (by rw [z24]) ?_
        refine lv_iconst (v := nI (3)) hx hb dX0_next_32 (by decide +kernel) ?_
        refine zn_iand3 hx hb dX0_next_33 (Nat.lt_of_le_of_lt (Nat.div_le_self _ _) (by omega)) ?_
        refine lv_iload_n hx hb dX0_next_34 rfl (lv_at hl 3 rfl) ?_
        refine lv_iload_n hx hb dX0_next_35 rfl (lv_at hl 2 rfl) ?_
        refine zcallR (As := [.int (nI (i)), .int (nI ((sv / 4 ^ i) % 4)), .int (nI (sv / 64)), .int (nI (xv))]) (rest := []) (ci := 0) (q0 := 0) ⟨hx, hb, hml, hown, hts⟩ (met_X0_goOn l dC dI g dA N C ks as_ bs st sg fl fd rd wy i ((sv / 4 ^ i) % 4) (sv / 64) xv hN hC (by omega) (Nat.mod_lt _ (by decide)) (by omega) (by omega)) (cwV 4 hts (lw_V q121 q123 qs7 q25 q124) rfl rfl rfl (by decide +kernel) ⟨Nat.le_of_ble_eq_true rfl, Nat.le_of_ble_eq_true rfl⟩) hK hP rfl rfl rfl hl.1 rfl (Nat.le_of_ble_eq_true rfl) dX0_next_36 ⟨Nat.zero_le _, Nat.zero_le _⟩ (fun r_36 h_36 => ?_)
        subst h_36
        have hz : zgo (C i) (sv / 4 ^ i % 4) (sv / 64) xv < 4 := zgo_lt (hC i (by omega)).1 (Nat.mod_lt _ (by decide)) h_x
        refine lv_istore (lv' := [(6, .int (nI (zgo (C i) ((sv / 4 ^ i) % 4) (sv / 64) xv))), (0, .ref (g 0)), (1, .int (nI (sv))), (2, .int (nI (xv))), (3, .int (nI (sv / 64))), (4, .int (nI (t))), (5, .int (nI (i)))]) hx hb dX0_next_39 hl (by decide) rfl (fun ls hl => ?_)
        refine lv_iload hx hb dX0_next_41 (lv_at hl 5 rfl) ?_
        refine lv_iload hx hb dX0_next_43 (lv_at hl 0 rfl) ?_
        refine lv_iconst (v := nI (2)) hx hb dX0_next_45 (by decide +kernel) ?_
        refine lv_iload hx hb dX0_next_46 (lv_at hl 6 rfl) ?_
        refine zn_imul hx hb dX0_next_48 ?_
        refine zn_ishl (v := zgo (C i) (sv / 4 ^ i % 4) (sv / 64) xv * 4 ^ i) hx hb dX0_next_49 (by omega) (by rw [z24]) (zsh_lt hz (by omega)) ?_
        refine zn_ior (v := znx C sv xv (i + 1)) hx hb dX0_next_50 (by rw [ht]; exact znx_or (by omega) h_x hz (zreps_G hC (by omega))) ?_
        refine lv_istore (lv' := [(4, .int (nI (znx C sv xv (i + 1)))), (6, .int (nI (zgo (C i) ((sv / 4 ^ i) % 4) (sv / 64) xv))), (0, .ref (g 0)), (1, .int (nI (sv))), (2, .int (nI (xv))), (3, .int (nI (sv / 64))), (5, .int (nI (i)))]) hx hb dX0_next_51 hl (by decide) rfl (fun ls hl => ?_)
        refine zn_iinc (a := i) (b := 1) (k := 6) (lv' := [(5, .int (nI (i + 1))), (4, .int (nI (znx C sv xv (i + 1)))), (6, .int (nI (zgo (C i) ((sv / 4 ^ i) % 4) (sv / 64) xv))), (0, .ref (g 0)), (1, .int (nI (sv))), (2, .int (nI (xv))), (3, .int (nI (sv / 64)))]) hx hb dX0_next_53 hl rfl (by decide) rfl (fun ls hl => ?_)
        refine lv_goto (tgt := 14) hx hb dX0_next_56 (by decide) ?_
        exact ih14  (i + 1) (znx C sv xv (i + 1)) (by omega) (by omega) rfl _ (lv_sub hl [3, 4, 5, 6, 1, 0] rfl)
  exact loop14 (_ + 1) 0 (64 * xv) (Nat.lt_succ_self _) (Nat.zero_le _) rfl _ (lv_sub hl [3, 4, 5, 2, 1, 0] rfl)
set_option maxHeartbeats 8000000 in
set_option maxRecDepth 100000 in
theorem met_X0_accepting (l : Launch) (dC : Nat → ClassId) (dI : Nat → Nat → Nat) (g : Nat → Nat) (dA : ClassId) (N : Nat) (C : zC) (ks as_ bs : Nat → Int32) (st : Int32) (sg : Nat → Int32) (fl : Int32) (fd : Nat → Int32) (rd : Int32) (wy : Nat → Int32) (sv : Nat) (hN : N ≤ 3) (hC : zReps N C ks as_ bs) (h_s : sv < 320) : zMetR l yX0_accepting (ws_ yX0_accepting cX0_accepting 4 (some .boolean)) ({ frames := 1, cells := 0, slots := 0, locals := 25 }) (dC, dI) dA (wX g dA (nI (N)) ks as_ bs st sg fl fd rd wy) [.ref (g 0), .int (nI (sv))] (fun r => r = nI (zak C sv N).toNat) := by
  refine Met.ofW (cc := cX0_accepting) (maxL := 4) (ret := (some .boolean)) (by decide) rfl ?_
  intro p e s m args below meth c s₁ B hml hv
  obtain ⟨rfl, hP, hK⟩ := hv
  have hx := B.exec
  have hb := B.bytes
  have hr := B.returns
  have hts := atoms_spec (ws := ws_ yX0_accepting cX0_accepting 4 (some .boolean)) B.pre
  have hts : ∀ w ∈ lw_all, w.before _ s = true := fun w h => hts w (List.mem_cons_of_mem _ h)
  have hown : s.vm.findClass RX0 = some m.cls := findClass_of_methodNamed B.named
  have hlocks := B.notSynchronized
  have hl := lv_entry ([.ref (g 0), .int (nI (sv))]) (n := 4) (Nat.le_of_ble_eq_true rfl)
  rw [lg_entry_eq]
  generalize (lg_sl ([.ref (g 0), .int (nI (sv))]) ++ List.replicate (4 - (lg_sl ([.ref (g 0), .int (nI (sv))])).length) Slot.unset).toArray = ls at hl ⊢
  have hl : lv_has ls 4 [(0, .ref (g 0)), (1, .int (nI (sv)))] := hl
  refine lv_iconst (v := nI (0)) hx hb dX0_accepting_0 (by decide +kernel) ?_
  refine lv_istore_n (lv' := [(2, .int (nI (0))), (0, .ref (g 0)), (1, .int (nI (sv)))]) hx hb dX0_accepting_1 rfl hl (by decide) rfl (fun ls hl => ?_)
  have loop2 : ∀ (d2 : Nat) (i : Nat), N - i < d2 → i ≤ N → zak C sv i = true → ∀ (ls : Array Slot), lv_has ls 4 [(0, .ref (g 0)), (1, .int (nI (sv))), (2, .int (nI (i)))] → W p l e (headSpec (ws_ yX0_accepting cX0_accepting 4 (some .boolean)) ({ frames := 1, cells := 0, slots := 0, locals := 25 })).room s m ([.ref (g 0), .int (nI (sv))] : List Value).toArray below meth c s.heap [] 0 0 (MQ below (vp_Si (fun r => r = nI (zak C sv N).toNat)) ([.ref (g 0), .int (nI (sv))] : List Value).toArray s 0 0 (fun _ => False)) (F0 m 2 ls []) := by
    intro d2
    induction d2 with
    | zero =>
      intro i hd2
      exact absurd hd2 (Nat.not_lt_zero _)
    | succ d2 ih2 =>
      intro i hd2 hi ha ls hl
      refine lv_iload_n hx hb dX0_accepting_2 rfl (lv_at hl 2 rfl) ?_
      refine lv_aload_n hx hb dX0_accepting_3 rfl (lv_at hl 0 rfl) ?_
      refine va_get (D := (dC, dI)) (ci := 0) (v := .int (nI (N))) (C := RX0) (T := TX0) (N := 10) hx hb hts in_X0 hown hK hP 0 rfl rfl 0 (by decide) (hts _ q35) (fun _ h9 => h9) rfl dX0_accepting_4 ?_
      refine zn_icmp_ge (tgt := 39) hx hb dX0_accepting_7 (by decide) (by omega) (by omega) (fun c_7 => ?_) (fun c_7 => ?_)
      · refine lv_iconst (v := nI (1)) hx hb dX0_accepting_39 (by decide +kernel) ?_
        exact W.zret (v := nI (1)) hx hb hr rfl (fun t9 ht9 hW9 => ⟨_, rfl, (congrArg nI (by rw [show N = i by omega, ha]; rfl)), ht9⟩) (fun _ h => by cases h) dX0_accepting_40
      · refine lv_aload_n hx hb dX0_accepting_10 rfl (lv_at hl 0 rfl) ?_
        refine lv_iload_n hx hb dX0_accepting_11 rfl (lv_at hl 2 rfl) ?_
        refine lv_iload_n hx hb dX0_accepting_12 rfl (lv_at hl 1 rfl) ?_
        refine lv_iconst (v := nI (2)) hx hb dX0_accepting_13 (by decide +kernel) ?_
        refine lv_iload_n hx hb dX0_accepting_14 rfl (lv_at hl 2 rfl) ?_
        refine zn_imul hx hb dX0_accepting_15 ?_
        refine zn_ishr (v := sv / 4 ^ i) hx hb dX0_accepting_16 (by omega) (by omega) (by rw [z24]) ?_
        refine lv_iconst (v := nI (3)) hx hb dX0_accepting_17 (by decide +kernel) ?_
        refine zn_iand3 hx hb dX0_accepting_18 (Nat.lt_of_le_of_lt (Nat.div_le_self _ _) (by omega)) ?_
        refine lv_iload_n hx hb dX0_accepting_19 rfl (lv_at hl 1 rfl) ?_
        refine lv_bipush (v := nI (6)) hx hb dX0_accepting_20 (by decide +kernel) ?_
        refine zn_ishr (v := sv / 64) hx hb dX0_accepting_22 (by omega) (by omega) rfl ?_
        refine zcallR (As := [.int (nI (i)), .int (nI ((sv / 4 ^ i) % 4)), .int (nI (sv / 64))]) (rest := []) (ci := 0) (q0 := 0) ⟨hx, hb, hml, hown, hts⟩ (met_X0_accepts l dC dI g dA N C ks as_ bs st sg fl fd rd wy i ((sv / 4 ^ i) % 4) (sv / 64) hN hC (by omega) (Nat.mod_lt _ (by decide)) (by omega)) (cwV 3 hts (lw_V q109 q111 qs4 q25 q112) rfl rfl rfl (by decide +kernel) ⟨Nat.le_of_ble_eq_true rfl, Nat.le_of_ble_eq_true rfl⟩) hK hP rfl rfl rfl hl.1 rfl (Nat.le_of_ble_eq_true rfl) dX0_accepting_23 ⟨Nat.zero_le _, Nat.zero_le _⟩ (fun r_23 h_23 => ?_)
        subst h_23
        refine lv_istore_n (lv' := [(3, .int (nI ((zac (C i) ((sv / 4 ^ i) % 4) (sv / 64)).toNat))), (0, .ref (g 0)), (1, .int (nI (sv))), (2, .int (nI (i)))]) hx hb dX0_accepting_26 rfl hl (by decide) rfl (fun ls hl => ?_)
        refine lv_iload_n hx hb dX0_accepting_27 rfl (lv_at hl 0 rfl) ?_
        refine zn_if_ne (tgt := 33) hx hb dX0_accepting_28 (by decide) (zb_lt _) (fun c_28 => ?_) (fun c_28 => ?_)
        · have c_28 : (zac (C i) ((sv / 4 ^ i) % 4) (sv / 64)) = true := zb_t c_28
          refine zn_iinc (a := i) (b := 1) (k := 3) (lv' := [(2, .int (nI (i + 1))), (3, .int (nI ((zac (C i) ((sv / 4 ^ i) % 4) (sv / 64)).toNat))), (0, .ref (g 0)), (1, .int (nI (sv)))]) hx hb dX0_accepting_33 hl rfl (by decide) rfl (fun ls hl => ?_)
          refine lv_goto (tgt := 2) hx hb dX0_accepting_36 (by decide) ?_
          exact ih2  (i + 1) (by omega) (by omega) (by simp [zak, ha, c_28]) _ (lv_sub hl [2, 3, 0] rfl)
        · have c_28 : (zac (C i) ((sv / 4 ^ i) % 4) (sv / 64)) = false := zb_f c_28
          refine lv_iconst (v := nI (0)) hx hb dX0_accepting_31 (by decide +kernel) ?_
          exact W.zret (v := nI (0)) hx hb hr rfl (fun t9 ht9 hW9 => ⟨_, rfl, (congrArg nI (by rw [zak_f N (by omega) c_28]; rfl)), ht9⟩) (fun _ h => by cases h) dX0_accepting_32
  exact loop2 (_ + 1) 0 (Nat.lt_succ_self _) (Nat.zero_le _) rfl _ (lv_sub hl [1, 2, 0] rfl)
set_option maxHeartbeats 8000000 in
set_option maxRecDepth 100000 in
theorem met_X0_sumOver (l : Launch) (dC : Nat → ClassId) (dI : Nat → Nat → Nat) (g : Nat → Nat) (dA : ClassId) (N : Nat) (C : zC) (ks as_ bs : Nat → Int32) (st : Int32) (sg : Nat → Int32) (fl : Int32) (fd : Nat → Int32) (rd : Int32) (wy : Nat → Int32) (kv sv tv : Nat) (hN : N ≤ 3) (hC : zReps N C ks as_ bs) (h_k : kv ≤ 6) (h_s : sv < 320) (h_t : tv ≤ 4) (h_w : zRow N C kv wy) : zMetR l yX0_sumOver (ws_ yX0_sumOver cX0_sumOver 7 (some .int)) ({ frames := 2, cells := 0, slots := 0, locals := 52 }) (dC, dI) dA (wX g dA (nI (N)) ks as_ bs st sg fl fd rd wy) [.ref (g 0), .int (nI (kv)), .int (nI (sv)), .int (nI (tv))] (fun r => r = nI (zso N C kv sv tv)) := by
  refine Met.ofW (cc := cX0_sumOver) (maxL := 7) (ret := (some .int)) (by decide) rfl ?_
  intro p e s m args below meth c s₁ B hml hv
  obtain ⟨rfl, hP, hK⟩ := hv
  have hx := B.exec
  have hb := B.bytes
  have hr := B.returns
  have hts := atoms_spec (ws := ws_ yX0_sumOver cX0_sumOver 7 (some .int)) B.pre
  have hts : ∀ w ∈ lw_all, w.before _ s = true := fun w h => hts w (List.mem_cons_of_mem _ h)
  have hown : s.vm.findClass RX0 = some m.cls := findClass_of_methodNamed B.named
  have hlocks := B.notSynchronized
  have hl := lv_entry ([.ref (g 0), .int (nI (kv)), .int (nI (sv)), .int (nI (tv))]) (n := 7) (Nat.le_of_ble_eq_true rfl)
  rw [lg_entry_eq]
  generalize (lg_sl ([.ref (g 0), .int (nI (kv)), .int (nI (sv)), .int (nI (tv))]) ++ List.replicate (7 - (lg_sl ([.ref (g 0), .int (nI (kv)), .int (nI (sv)), .int (nI (tv))])).length) Slot.unset).toArray = ls at hl ⊢
  have hl : lv_has ls 7 [(0, .ref (g 0)), (1, .int (nI (kv))), (2, .int (nI (sv))), (3, .int (nI (tv)))] := hl
  refine lv_iconst (v := nI (0)) hx hb dX0_sumOver_0 (by decide +kernel) ?_
  refine lv_istore (lv' := [(4, .int (nI (0))), (0, .ref (g 0)), (1, .int (nI (kv))), (2, .int (nI (sv))), (3, .int (nI (tv)))]) hx hb dX0_sumOver_1 hl (by decide) rfl (fun ls hl => ?_)
  refine lv_iconst (v := nI (0)) hx hb dX0_sumOver_3 (by decide +kernel) ?_
  refine lv_istore (lv' := [(5, .int (nI (0))), (4, .int (nI (0))), (0, .ref (g 0)), (1, .int (nI (kv))), (2, .int (nI (sv))), (3, .int (nI (tv)))]) hx hb dX0_sumOver_4 hl (by decide) rfl (fun ls hl => ?_)
  have loop6 : ∀ (d6 : Nat) (i : Nat) (t : Nat), tv - i < d6 → i ≤ tv → t = zso N C kv sv i → ∀ (ls : Array Slot), lv_has ls 7 [(0, .ref (g 0)), (1, .int (nI (kv))), (2, .int (nI (sv))), (3, .int (nI (tv))), (4, .int (nI (t))), (5, .int (nI (i)))] → W p l e (headSpec (ws_ yX0_sumOver cX0_sumOver 7 (some .int)) ({ frames := 2, cells := 0, slots := 0, locals := 52 })).room s m ([.ref (g 0), .int (nI (kv)), .int (nI (sv)), .int (nI (tv))] : List Value).toArray below meth c s.heap [] 0 0 (MQ below (vp_Si (fun r => r = nI (zso N C kv sv tv))) ([.ref (g 0), .int (nI (kv)), .int (nI (sv)), .int (nI (tv))] : List Value).toArray s 0 0 (fun _ => False)) (F0 m 6 ls []) := by
    intro d6
    induction d6 with
    | zero =>
      intro i t hd6
      exact absurd hd6 (Nat.not_lt_zero _)
    | succ d6 ih6 =>
      intro i t hd6 hi ht ls hl
      refine lv_iload hx hb dX0_sumOver_6 (lv_at hl 5 rfl) ?_
      refine lv_iload_n hx hb dX0_sumOver_8 rfl (lv_at hl 3 rfl) ?_
      refine zn_icmp_ge (tgt := 45) hx hb dX0_sumOver_9 (by decide) (by omega) (by omega) (fun c_9 => ?_) (fun c_9 => ?_)
      · refine lv_iload hx hb dX0_sumOver_45 (lv_at hl 4 rfl) ?_
        exact W.iret (v := nI (t)) hx hb hr (fun t9 ht9 hW9 => ⟨_, rfl, (congrArg nI (by rw [ht, show i = tv by omega])), ht9⟩) (fun _ h => by cases h) dX0_sumOver_47
      · refine lv_aload_n hx hb dX0_sumOver_12 rfl (lv_at hl 0 rfl) ?_
        refine lv_iload_n hx hb dX0_sumOver_13 rfl (lv_at hl 2 rfl) ?_
        refine lv_iload hx hb dX0_sumOver_14 (lv_at hl 5 rfl) ?_
        refine zcallR (As := [.int (nI (sv)), .int (nI (i))]) (rest := []) (ci := 0) (q0 := 0) ⟨hx, hb, hml, hown, hts⟩ (met_X0_next l dC dI g dA N C ks as_ bs st sg fl fd rd wy sv i hN hC (by omega) (by omega)) (cwV 2 hts (lw_V q117 q119 qs6 q25 q120) rfl rfl rfl (by decide +kernel) ⟨Nat.le_of_ble_eq_true rfl, Nat.le_of_ble_eq_true rfl⟩) hK hP rfl rfl rfl hl.1 rfl (Nat.le_of_ble_eq_true rfl) dX0_sumOver_16 ⟨Nat.zero_le _, Nat.zero_le _⟩ (fun r_16 h_16 => ?_)
        subst h_16
        have hz : znx C sv i N < 320 := znx_lt hN (by omega) (zreps_G hC (Nat.le_refl _))
        refine lv_istore (lv' := [(6, .int (nI (znx C sv i N))), (0, .ref (g 0)), (1, .int (nI (kv))), (2, .int (nI (sv))), (3, .int (nI (tv))), (4, .int (nI (t))), (5, .int (nI (i)))]) hx hb dX0_sumOver_19 hl (by decide) rfl (fun ls hl => ?_)
        refine lv_iload hx hb dX0_sumOver_21 (lv_at hl 5 rfl) ?_
        refine lv_aload_n hx hb dX0_sumOver_23 rfl (lv_at hl 1 rfl) ?_
        refine va_get (D := (dC, dI)) (ci := 0) (v := .ref (g 6)) (C := RX0) (T := TX0) (N := 10) hx hb hts in_X0 hown hK hP 0 rfl rfl 9 (by decide) (hts _ q44) (fun _ h9 => h9) rfl dX0_sumOver_24 ?_
        refine lv_iload_n hx hb dX0_sumOver_27 rfl (lv_at hl 2 rfl) ?_
        refine lv_sipush (v := nI (320)) hx hb dX0_sumOver_28 (by decide +kernel) ?_
        refine zn_imul hx hb dX0_sumOver_31 ?_
        refine lv_iload hx hb dX0_sumOver_32 (lv_at hl 0 rfl) ?_
        refine zn_iadd hx hb dX0_sumOver_34 ?_
        refine zn_iald (f := wy) (i := (kv * 320) + (znx C sv i N)) (v := nI (zwy N C kv (znx C sv i N))) hx hb hK hP 6 0 rfl rfl (by omega) (by decide) (h_w _ hz) dX0_sumOver_35 ?_
        refine zn_iadd hx hb dX0_sumOver_36 ?_
        refine lv_istore (lv' := [(4, .int (nI (t + (zwy N C kv (znx C sv i N))))), (6, .int (nI (znx C sv i N))), (0, .ref (g 0)), (1, .int (nI (kv))), (2, .int (nI (sv))), (3, .int (nI (tv))), (5, .int (nI (i)))]) hx hb dX0_sumOver_37 hl (by decide) rfl (fun ls hl => ?_)
        refine zn_iinc (a := i) (b := 1) (k := 6) (lv' := [(5, .int (nI (i + 1))), (4, .int (nI (t + (zwy N C kv (znx C sv i N))))), (6, .int (nI (znx C sv i N))), (0, .ref (g 0)), (1, .int (nI (kv))), (2, .int (nI (sv))), (3, .int (nI (tv)))]) hx hb dX0_sumOver_39 hl rfl (by decide) rfl (fun ls hl => ?_)
        refine lv_goto (tgt := 6) hx hb dX0_sumOver_42 (by decide) ?_
        exact ih6  (i + 1) (t + (zwy N C kv (znx C sv i N))) (by omega) (by omega) (by rw [ht]; rfl) _ (lv_sub hl [3, 4, 5, 6, 1, 0] rfl)
  exact loop6 (_ + 1) 0 0 (Nat.lt_succ_self _) (Nat.zero_le _) rfl _ (lv_sub hl [2, 3, 4, 5, 1, 0] rfl)
set_option maxHeartbeats 8000000 in
set_option maxRecDepth 100000 in
theorem met_X0_stageState (l : Launch) (dC : Nat → ClassId) (dI : Nat → Nat → Nat) (g : Nat → Nat) (dA : ClassId) (N : Nat) (C : zC) (ks as_ bs : Nat → Int32) (st : Int32) (sg : Nat → Int32) (fl : Int32) (fd : Nat → Int32) (rd : Int32) (wy : Nat → Int32) (f : Nat → Nat) (nv : Nat) (hN : N ≤ 3) (hC : zReps N C ks as_ bs) (h_n : nv ≤ 6) (h_f : ∀ j, j < nv → sg j = nI (f j) ∧ f j < 4) : zMetR l yX0_stageState (ws_ yX0_stageState cX0_stageState 4 (some .int)) ({ frames := 2, cells := 0, slots := 0, locals := 52 }) (dC, dI) dA (wX g dA (nI (N)) ks as_ bs st sg fl fd rd wy) [.ref (g 0), .int (nI (nv))] (fun r => r = nI (zrs N C f nv)) := by
  refine Met.ofW (cc := cX0_stageState) (maxL := 4) (ret := (some .int)) (by decide) rfl ?_
  intro p e s m args below meth c s₁ B hml hv
  obtain ⟨rfl, hP, hK⟩ := hv
  have hx := B.exec
  have hb := B.bytes
  have hr := B.returns
  have hts := atoms_spec (ws := ws_ yX0_stageState cX0_stageState 4 (some .int)) B.pre
  have hts : ∀ w ∈ lw_all, w.before _ s = true := fun w h => hts w (List.mem_cons_of_mem _ h)
  have hown : s.vm.findClass RX0 = some m.cls := findClass_of_methodNamed B.named
  have hlocks := B.notSynchronized
  have hl := lv_entry ([.ref (g 0), .int (nI (nv))]) (n := 4) (Nat.le_of_ble_eq_true rfl)
  rw [lg_entry_eq]
  generalize (lg_sl ([.ref (g 0), .int (nI (nv))]) ++ List.replicate (4 - (lg_sl ([.ref (g 0), .int (nI (nv))])).length) Slot.unset).toArray = ls at hl ⊢
  have hl : lv_has ls 4 [(0, .ref (g 0)), (1, .int (nI (nv)))] := hl
  refine lv_sipush (v := nI (256)) hx hb dX0_stageState_0 (by decide +kernel) ?_
  refine lv_istore_n (lv' := [(2, .int (nI (256))), (0, .ref (g 0)), (1, .int (nI (nv)))]) hx hb dX0_stageState_3 rfl hl (by decide) rfl (fun ls hl => ?_)
  refine lv_iconst (v := nI (0)) hx hb dX0_stageState_4 (by decide +kernel) ?_
  refine lv_istore_n (lv' := [(3, .int (nI (0))), (2, .int (nI (256))), (0, .ref (g 0)), (1, .int (nI (nv)))]) hx hb dX0_stageState_5 rfl hl (by decide) rfl (fun ls hl => ?_)
  have loop6 : ∀ (d6 : Nat) (i : Nat) (t : Nat), nv - i < d6 → i ≤ nv → t = zrs N C f i → t < 320 → ∀ (ls : Array Slot), lv_has ls 4 [(0, .ref (g 0)), (1, .int (nI (nv))), (2, .int (nI (t))), (3, .int (nI (i)))] → W p l e (headSpec (ws_ yX0_stageState cX0_stageState 4 (some .int)) ({ frames := 2, cells := 0, slots := 0, locals := 52 })).room s m ([.ref (g 0), .int (nI (nv))] : List Value).toArray below meth c s.heap [] 0 0 (MQ below (vp_Si (fun r => r = nI (zrs N C f nv))) ([.ref (g 0), .int (nI (nv))] : List Value).toArray s 0 0 (fun _ => False)) (F0 m 6 ls []) := by
    intro d6
    induction d6 with
    | zero =>
      intro i t hd6
      exact absurd hd6 (Nat.not_lt_zero _)
    | succ d6 ih6 =>
      intro i t hd6 hi ht hq ls hl
      refine lv_iload_n hx hb dX0_stageState_6 rfl (lv_at hl 3 rfl) ?_
      refine lv_iload_n hx hb dX0_stageState_7 rfl (lv_at hl 1 rfl) ?_
      refine zn_icmp_ge (tgt := 29) hx hb dX0_stageState_8 (by decide) (by omega) (by omega) (fun c_8 => ?_) (fun c_8 => ?_)
      · refine lv_iload_n hx hb dX0_stageState_29 rfl (lv_at hl 2 rfl) ?_
        exact W.iret (v := nI (t)) hx hb hr (fun t9 ht9 hW9 => ⟨_, rfl, (congrArg nI (by rw [ht, show i = nv by omega])), ht9⟩) (fun _ h => by cases h) dX0_stageState_30
      · refine lv_aload_n hx hb dX0_stageState_11 rfl (lv_at hl 0 rfl) ?_
        refine lv_iload_n hx hb dX0_stageState_12 rfl (lv_at hl 2 rfl) ?_
        refine lv_aload_n hx hb dX0_stageState_13 rfl (lv_at hl 0 rfl) ?_
        refine va_get (D := (dC, dI)) (ci := 0) (v := .ref (g 4)) (C := RX0) (T := TX0) (N := 10) hx hb hts in_X0 hown hK hP 0 rfl rfl 5 (by decide) (hts _ q40) (fun _ h9 => h9) rfl dX0_stageState_14 ?_
        refine lv_iload_n hx hb dX0_stageState_17 rfl (lv_at hl 3 rfl) ?_
        refine zn_iald (f := sg) (i := i) (v := nI (f i)) hx hb hK hP 4 0 rfl rfl (by omega) (by decide) (h_f i (by omega)).1 dX0_stageState_18 ?_
        refine zcallR (As := [.int (nI (t)), .int (nI (f i))]) (rest := []) (ci := 0) (q0 := 0) ⟨hx, hb, hml, hown, hts⟩ (met_X0_next l dC dI g dA N C ks as_ bs st sg fl fd rd wy t (f i) hN hC hq (h_f i (by omega)).2) (cwV 2 hts (lw_V q117 q119 qs6 q25 q120) rfl rfl rfl (by decide +kernel) ⟨Nat.le_of_ble_eq_true rfl, Nat.le_of_ble_eq_true rfl⟩) hK hP rfl rfl rfl hl.1 rfl (Nat.le_of_ble_eq_true rfl) dX0_stageState_19 ⟨Nat.zero_le _, Nat.zero_le _⟩ (fun r_19 h_19 => ?_)
        subst h_19
        refine lv_istore_n (lv' := [(2, .int (nI (znx C t (f i) N))), (0, .ref (g 0)), (1, .int (nI (nv))), (3, .int (nI (i)))]) hx hb dX0_stageState_22 rfl hl (by decide) rfl (fun ls hl => ?_)
        refine zn_iinc (a := i) (b := 1) (k := 3) (lv' := [(3, .int (nI (i + 1))), (2, .int (nI (znx C t (f i) N))), (0, .ref (g 0)), (1, .int (nI (nv)))]) hx hb dX0_stageState_23 hl rfl (by decide) rfl (fun ls hl => ?_)
        refine lv_goto (tgt := 6) hx hb dX0_stageState_26 (by decide) ?_
        exact ih6  (i + 1) (znx C t (f i) N) (by omega) (by omega) (by rw [ht]; rfl) (znx_lt hN (h_f i (by omega)).2 (zreps_G hC (Nat.le_refl _))) _ (lv_sub hl [2, 3, 1, 0] rfl)
  exact loop6 (_ + 1) 0 256 (Nat.lt_succ_self _) (Nat.zero_le _) rfl (by decide) _ (lv_sub hl [2, 3, 1, 0] rfl)
set_option maxHeartbeats 8000000 in
set_option maxRecDepth 100000 in
theorem met_X0_fails (l : Launch) (dC : Nat → ClassId) (dI : Nat → Nat → Nat) (g : Nat → Nat) (dA : ClassId) (N : Nat) (C : zC) (ks as_ bs : Nat → Int32) (L : Nat) (sg : Nat → Int32) (fl : Int32) (fd : Nat → Int32) (rd : Int32) (wy : Nat → Int32) (f : Nat → Nat) (hN : N ≤ 3) (hC : zReps N C ks as_ bs) (hL : L ≤ 6) (h_f : ∀ j, j < L → sg j = nI (f j) ∧ f j < 4) : zMetR l yX0_fails (ws_ yX0_fails cX0_fails 2 (some .boolean)) ({ frames := 3, cells := 0, slots := 0, locals := 75 }) (dC, dI) dA (wX g dA (nI (N)) ks as_ bs (nI (L)) sg fl fd rd wy) [.ref (g 0)] (fun r => r = nI (zak C (zrs N C f L) N).toNat) := by
  refine Met.ofW (cc := cX0_fails) (maxL := 2) (ret := (some .boolean)) (by decide) rfl ?_
  intro p e s m args below meth c s₁ B hml hv
  obtain ⟨rfl, hP, hK⟩ := hv
  have hx := B.exec
  have hb := B.bytes
  have hr := B.returns
  have hts := atoms_spec (ws := ws_ yX0_fails cX0_fails 2 (some .boolean)) B.pre
  have hts : ∀ w ∈ lw_all, w.before _ s = true := fun w h => hts w (List.mem_cons_of_mem _ h)
  have hown : s.vm.findClass RX0 = some m.cls := findClass_of_methodNamed B.named
  have hlocks := B.notSynchronized
  have hl := lv_entry ([.ref (g 0)]) (n := 2) (Nat.le_of_ble_eq_true rfl)
  rw [lg_entry_eq]
  generalize (lg_sl ([.ref (g 0)]) ++ List.replicate (2 - (lg_sl ([.ref (g 0)])).length) Slot.unset).toArray = ls at hl ⊢
  have hl : lv_has ls 2 [(0, .ref (g 0))] := hl
  refine lv_aload_n hx hb dX0_fails_0 rfl (lv_at hl 0 rfl) ?_
  refine lv_aload_n hx hb dX0_fails_1 rfl (lv_at hl 0 rfl) ?_
  refine va_get (D := (dC, dI)) (ci := 0) (v := .int (nI (L))) (C := RX0) (T := TX0) (N := 10) hx hb hts in_X0 hown hK hP 0 rfl rfl 4 (by decide) (hts _ q39) (fun _ h9 => h9) rfl dX0_fails_2 ?_
  refine zcallR (As := [.int (nI (L))]) (rest := []) (ci := 0) (q0 := 0) ⟨hx, hb, hml, hown, hts⟩ (met_X0_stageState l dC dI g dA N C ks as_ bs (nI (L)) sg fl fd rd wy f L hN hC hL h_f) (cwV 1 hts (lw_V q137 q139 qs8 q25 q140) rfl rfl rfl (by decide +kernel) ⟨Nat.le_of_ble_eq_true rfl, Nat.le_of_ble_eq_true rfl⟩) hK hP rfl rfl rfl hl.1 rfl (Nat.le_of_ble_eq_true rfl) dX0_fails_5 ⟨Nat.zero_le _, Nat.zero_le _⟩ (fun r_5 h_5 => ?_)
  subst h_5
  refine lv_istore_n (lv' := [(1, .int (nI (zrs N C f L))), (0, .ref (g 0))]) hx hb dX0_fails_8 rfl hl (by decide) rfl (fun ls hl => ?_)
  refine lv_aload_n hx hb dX0_fails_9 rfl (lv_at hl 1 rfl) ?_
  refine lv_iload_n hx hb dX0_fails_10 rfl (lv_at hl 0 rfl) ?_
  refine zcallR (As := [.int (nI (zrs N C f L))]) (rest := []) (ci := 0) (q0 := 0) ⟨hx, hb, hml, hown, hts⟩ (met_X0_accepting l dC dI g dA N C ks as_ bs (nI (L)) sg fl fd rd wy (zrs N C f L) hN hC (zrs_lt hN (zreps_G hC (Nat.le_refl _)) L (fun j hj => (h_f j hj).2))) (cwV 1 hts (lw_V q105 q107 qs3 q25 q108) rfl rfl rfl (by decide +kernel) ⟨Nat.le_of_ble_eq_true rfl, Nat.le_of_ble_eq_true rfl⟩) hK hP rfl rfl rfl hl.1 rfl (Nat.le_of_ble_eq_true rfl) dX0_fails_11 ⟨Nat.zero_le _, Nat.zero_le _⟩ (fun r_11 h_11 => ?_)
  subst h_11
  exact W.zret (v := nI ((zak C (zrs N C f L) N).toNat)) hx hb hr (zn_nb _) (fun t9 ht9 hW9 => ⟨_, rfl, rfl, ht9⟩) (fun _ h => by cases h) dX0_fails_14
set_option maxHeartbeats 8000000 in
set_option maxRecDepth 100000 in
theorem met_X0_element (l : Launch) (dC : Nat → ClassId) (dI : Nat → Nat → Nat) (g : Nat → Nat) (dA : ClassId) (N : Nat) (C : zC) (ks as_ bs : Nat → Int32) (L : Nat) (sg : Nat → Int32) (fl : Int32) (fd : Nat → Int32) (rd : Int32) (wy : Nat → Int32) (f : Nat → Nat) (xi : Int32) (hN : N ≤ 3) (hC : zReps N C ks as_ bs) (hL : L ≤ 6) (h_f : ∀ j, j < L → sg j = nI (f j) ∧ f j < 4) : zMetR l yX0_element (ws_ yX0_element cX0_element 2 (some .int)) ({ frames := 0, cells := 0, slots := 0, locals := 0 }) (dC, dI) dA (wX g dA (nI (N)) ks as_ bs (nI (L)) sg fl fd rd wy) [.ref (g 0), .int (xi)] (fun r => r = zel f L xi) := by
  refine Met.ofW (cc := cX0_element) (maxL := 2) (ret := (some .int)) (by decide) rfl ?_
  intro p e s m args below meth c s₁ B hml hv
  obtain ⟨rfl, hP, hK⟩ := hv
  have hx := B.exec
  have hb := B.bytes
  have hr := B.returns
  have hts := atoms_spec (ws := ws_ yX0_element cX0_element 2 (some .int)) B.pre
  have hts : ∀ w ∈ lw_all, w.before _ s = true := fun w h => hts w (List.mem_cons_of_mem _ h)
  have hown : s.vm.findClass RX0 = some m.cls := findClass_of_methodNamed B.named
  have hlocks := B.notSynchronized
  have hl := lv_entry ([.ref (g 0), .int (xi)]) (n := 2) (Nat.le_of_ble_eq_true rfl)
  rw [lg_entry_eq]
  generalize (lg_sl ([.ref (g 0), .int (xi)]) ++ List.replicate (2 - (lg_sl ([.ref (g 0), .int (xi)])).length) Slot.unset).toArray = ls at hl ⊢
  have hl : lv_has ls 2 [(0, .ref (g 0)), (1, .int (xi))] := hl
  refine lv_iload_n hx hb dX0_element_0 rfl (lv_at hl 1 rfl) ?_
  refine lv_if_lt (x := xi) (tgt := 12) hx hb dX0_element_1 (by decide) (fun c_1 => ?_) (fun c_1 => ?_)
  · refine lv_bipush (v := (-4)) hx hb dX0_element_12 (by decide +kernel) ?_
    refine lv_goto (tgt := 23) hx hb dX0_element_14 (by decide) ?_
    exact W.iret (v := (-4)) hx hb hr (fun t9 ht9 hW9 => ⟨_, rfl, (by simp [zel, c_1]), ht9⟩) (fun _ h => by cases h) dX0_element_23
  · refine lv_iload_n hx hb dX0_element_4 rfl (lv_at hl 1 rfl) ?_
    refine lv_aload_n hx hb dX0_element_5 rfl (lv_at hl 0 rfl) ?_
    refine va_get (D := (dC, dI)) (ci := 0) (v := .int (nI (L))) (C := RX0) (T := TX0) (N := 10) hx hb hts in_X0 hown hK hP 0 rfl rfl 4 (by decide) (hts _ q39) (fun _ h9 => h9) rfl dX0_element_6 ?_
    refine lv_icmp_lt (x := xi) (y := nI (L)) (tgt := 17) hx hb dX0_element_9 (by decide) (fun c_9 => ?_) (fun c_9 => ?_)
    · obtain ⟨j, hj, rfl⟩ := zix c_1 c_9 (by omega)
      refine lv_aload_n hx hb dX0_element_17 rfl (lv_at hl 0 rfl) ?_
      refine va_get (D := (dC, dI)) (ci := 0) (v := .ref (g 4)) (C := RX0) (T := TX0) (N := 10) hx hb hts in_X0 hown hK hP 0 rfl rfl 5 (by decide) (hts _ q40) (fun _ h9 => h9) rfl dX0_element_18 ?_
      refine lv_iload_n hx hb dX0_element_21 rfl (lv_at hl 1 rfl) ?_
      refine zn_iald (f := sg) (i := j) (v := nI (f j)) hx hb hK hP 4 0 rfl rfl (by omega) (by decide) (h_f j hj).1 dX0_element_22 ?_
      exact W.iret (v := nI (f j)) hx hb hr (fun t9 ht9 hW9 => ⟨_, rfl, (zel_in hj (by omega)), ht9⟩) (fun _ h => by cases h) dX0_element_23
    · refine lv_bipush (v := (-4)) hx hb dX0_element_12 (by decide +kernel) ?_
      refine lv_goto (tgt := 23) hx hb dX0_element_14 (by decide) ?_
      exact W.iret (v := (-4)) hx hb hr (fun t9 ht9 hW9 => ⟨_, rfl, (by simp [zel, c_1, c_9]), ht9⟩) (fun _ h => by cases h) dX0_element_23
end
section
/-! ShrinkRanker: prepare, total (written by gen/x0w.py) -/
set_option maxHeartbeats 8000000 in
set_option maxRecDepth 100000 in
theorem met_X0_prepare (l : Launch) (dC : Nat → ClassId) (dI : Nat → Nat → Nat) (g : Nat → Nat) (dA : ClassId) (sz : Nat) (N : Nat) (C : zC) (ks as_ bs : Nat → Int32) (st : Int32) (sg : Nat → Int32) (fl : Int32) (fd : Nat → Int32) (rd : Int32) (wy : Nat → Int32) (hN : N ≤ 3) (hC : zReps N C ks as_ bs) (h_r : zRdy N C rd wy) : zMetV (S := (Nat → Int32)) l yX0_prepare (ws_ yX0_prepare cX0_prepare 3 none) ({ frames := 3, cells := 0, slots := 0, locals := 78 }) (dC, dI) dA (wX g dA (nI (N)) ks as_ bs st sg fl fd rd wy) sz [.ref (g 0)] (fun w => zTab N C w) (fun w => wX g dA (nI N) ks as_ bs st sg fl fd (nI 1) w) := by
  refine Met.ofW (cc := cX0_prepare) (maxL := 3) (ret := none) (by decide) rfl ?_
  intro p e s m args below meth c s₁ B hml hv
  obtain ⟨rfl, hsz, hP, hK, hD0⟩ := hv
  have hx := B.exec
  have hb := B.bytes
  have hr := B.returns
  have hts := atoms_spec (ws := ws_ yX0_prepare cX0_prepare 3 none) B.pre
  have hts : ∀ w ∈ lw_all, w.before _ s = true := fun w h => hts w (List.mem_cons_of_mem _ h)
  have hown : s.vm.findClass RX0 = some m.cls := findClass_of_methodNamed B.named
  have hlocks := B.notSynchronized
  subst hsz
  have hD := hD0.self (sz := s.heap.size)
  generalize hAe : va_A (wX g dA (nI (N)) ks as_ bs st sg fl fd rd wy) s.heap.size = A at hD ⊢
  have hA : ∀ q : Nat, s.heap.size ≤ q → A q := fun q h => by rw [← hAe]; exact Or.inr h
  have hS : va_S A s.heap s.heap [] := va_S.rf
  clear hD0 hAe
  have hl := lv_entry ([.ref (g 0)]) (n := 3) (Nat.le_of_ble_eq_true rfl)
  rw [lg_entry_eq]
  generalize (lg_sl ([.ref (g 0)]) ++ List.replicate (3 - (lg_sl ([.ref (g 0)])).length) Slot.unset).toArray = ls at hl ⊢
  have hl : lv_has ls 3 [(0, .ref (g 0))] := hl
  rcases h_r with rfl | ⟨rfl, h_T⟩
  · refine lv_aload_n hx hb dX0_prepare_0 rfl (lv_at hl 0 rfl) ?_
    refine va_get (D := (dC, dI)) (ci := 0) (v := .int (nI (0))) (C := RX0) (T := TX0) (N := 10) hx hb hts in_X0 hown hK hP 0 rfl rfl 8 (by decide) (hts _ q43) (fun _ h9 => h9) rfl dX0_prepare_1 ?_
    refine zn_if_eq (tgt := 8) hx hb dX0_prepare_4 (by decide) (by omega) (fun _ => ?_) (fun c9 => absurd c9 (by decide))
    refine lv_aload_n hx hb dX0_prepare_8 rfl (lv_at hl 0 rfl) ?_
    refine lv_iconst (v := nI (1)) hx hb dX0_prepare_9 (by decide +kernel) ?_
    refine va_put (D := (dC, dI)) (ci := 0) (v := .int (nI (1))) (ty := .boolean) (C := RX0) (T := TX0) (N := 10) hx hb hts in_X0 tyX0 tyX0_ok nmX0 hown hK hP hD hS 0 rfl rfl 8 (by decide) (hts _ q43) (fun _ h9 => h9) rfl (by decide +kernel) rfl rfl (Nat.le_of_ble_eq_true rfl) dX0_prepare_10 (fun H locs hP hD hS => ?_)
    have hP : va_P (dC, dI) zCl (wX g dA (nI (N)) ks as_ bs st sg fl fd (nI (1)) wy) H := hP
    have hD : va_D A (wX g dA (nI (N)) ks as_ bs st sg fl fd (nI (1)) wy) := hD
    refine lv_iconst (v := nI (0)) hx hb dX0_prepare_13 (by decide +kernel) ?_
    refine lv_istore_n (lv' := [(1, .int (nI (0))), (0, .ref (g 0))]) hx hb dX0_prepare_14 rfl hl (by decide) rfl (fun ls hl => ?_)
    have loop15 : ∀ (d15 : Nat) (i : Nat) (wz : Nat → Int32), 320 - i < d15 → i ≤ 320 → (∀ q, q < i → wz q = zP N C q) → ∀ (H : Heap) (locs : List Loc), va_P (dC, dI) zCl (wX g dA (nI (N)) ks as_ bs st sg fl fd (nI (1)) wz) H → va_D A (wX g dA (nI (N)) ks as_ bs st sg fl fd (nI (1)) wz) → va_S A s.heap H locs → ∀ (ls : Array Slot), lv_has ls 3 [(0, .ref (g 0)), (1, .int (nI (i)))] → W p l e (headSpec (ws_ yX0_prepare cX0_prepare 3 none) ({ frames := 3, cells := 0, slots := 0, locals := 78 })).room s m ([.ref (g 0)] : List Value).toArray below meth c H locs 0 0 (MQ below (va_Qv (S := (Nat → Int32)) (fun w => zTab N C w) (zB (dC, dI) dA A (fun w => wX g dA (nI N) ks as_ bs st sg fl fd (nI 1) w)) A) ([.ref (g 0)] : List Value).toArray s 0 0 (A)) (F0 m 15 ls []) := by
      intro d15
      induction d15 with
      | zero =>
        intro i wz hd15
        exact absurd hd15 (Nat.not_lt_zero _)
      | succ d15 ih15 =>
        intro i wz hd15 hi hw H locs hP hD hS ls hl
        refine lv_iload_n hx hb dX0_prepare_15 rfl (lv_at hl 1 rfl) ?_
        refine lv_sipush (v := nI (320)) hx hb dX0_prepare_16 (by decide +kernel) ?_
        refine zn_icmp_ge (tgt := 49) hx hb dX0_prepare_19 (by decide) (by omega) (by omega) (fun c_19 => ?_) (fun c_19 => ?_)
        · refine lv_iconst (v := nI (1)) hx hb dX0_prepare_49 (by decide +kernel) ?_
          refine lv_istore_n (lv' := [(1, .int (nI (1))), (0, .ref (g 0))]) hx hb dX0_prepare_50 rfl hl (by decide) rfl (fun ls hl => ?_)
          have loop51 : ∀ (d51 : Nat) (k : Nat) (wz : Nat → Int32), 7 - k < d51 → 1 ≤ k → k ≤ 7 → (∀ q, q < k * 320 → wz q = zP N C q) → ∀ (H : Heap) (locs : List Loc), va_P (dC, dI) zCl (wX g dA (nI (N)) ks as_ bs st sg fl fd (nI (1)) wz) H → va_D A (wX g dA (nI (N)) ks as_ bs st sg fl fd (nI (1)) wz) → va_S A s.heap H locs → ∀ (ls : Array Slot), lv_has ls 3 [(0, .ref (g 0)), (1, .int (nI (k)))] → W p l e (headSpec (ws_ yX0_prepare cX0_prepare 3 none) ({ frames := 3, cells := 0, slots := 0, locals := 78 })).room s m ([.ref (g 0)] : List Value).toArray below meth c H locs 0 0 (MQ below (va_Qv (S := (Nat → Int32)) (fun w => zTab N C w) (zB (dC, dI) dA A (fun w => wX g dA (nI N) ks as_ bs st sg fl fd (nI 1) w)) A) ([.ref (g 0)] : List Value).toArray s 0 0 (A)) (F0 m 51 ls []) := by
            intro d51
            induction d51 with
            | zero =>
              intro k wz hd51
              exact absurd hd51 (Nat.not_lt_zero _)
            | succ d51 ih51 =>
              intro k wz hd51 hk1 hk7 hw H locs hP hD hS ls hl
              refine lv_iload_n hx hb dX0_prepare_51 rfl (lv_at hl 1 rfl) ?_
              refine lv_bipush (v := nI (6)) hx hb dX0_prepare_52 (by decide +kernel) ?_
              refine zn_icmp_gt (tgt := 99) hx hb dX0_prepare_54 (by decide) (by omega) (by omega) (fun c_54 => ?_) (fun c_54 => ?_)
              · exact W.vret hx hb hr (fun t9 ht9 hW9 => ⟨⟨wz, rfl, (ztab_flat hw (by omega)), by rw [ht9]; exact hP, va_K.moved hW9.alike hK, hD⟩, hS.F ht9⟩) hS.2.2 dX0_prepare_99
              · refine lv_iconst (v := nI (0)) hx hb dX0_prepare_57 (by decide +kernel) ?_
                refine lv_istore_n (lv' := [(2, .int (nI (0))), (0, .ref (g 0)), (1, .int (nI (k)))]) hx hb dX0_prepare_58 rfl hl (by decide) rfl (fun ls hl => ?_)
                have loop59 : ∀ (d59 : Nat) (j : Nat) (wz : Nat → Int32), 320 - j < d59 → j ≤ 320 → (∀ q, q < k * 320 + j → wz q = zP N C q) → ∀ (H : Heap) (locs : List Loc), va_P (dC, dI) zCl (wX g dA (nI (N)) ks as_ bs st sg fl fd (nI (1)) wz) H → va_D A (wX g dA (nI (N)) ks as_ bs st sg fl fd (nI (1)) wz) → va_S A s.heap H locs → ∀ (ls : Array Slot), lv_has ls 3 [(0, .ref (g 0)), (1, .int (nI (k))), (2, .int (nI (j)))] → W p l e (headSpec (ws_ yX0_prepare cX0_prepare 3 none) ({ frames := 3, cells := 0, slots := 0, locals := 78 })).room s m ([.ref (g 0)] : List Value).toArray below meth c H locs 0 0 (MQ below (va_Qv (S := (Nat → Int32)) (fun w => zTab N C w) (zB (dC, dI) dA A (fun w => wX g dA (nI N) ks as_ bs st sg fl fd (nI 1) w)) A) ([.ref (g 0)] : List Value).toArray s 0 0 (A)) (F0 m 59 ls []) := by
                  intro d59
                  induction d59 with
                  | zero =>
                    intro j wz hd59
                    exact absurd hd59 (Nat.not_lt_zero _)
                  | succ d59 ih59 =>
                    intro j wz hd59 hj hw H locs hP hD hS ls hl
                    refine lv_iload_n hx hb dX0_prepare_59 rfl (lv_at hl 2 rfl) ?_
                    refine lv_sipush (v := nI (320)) hx hb dX0_prepare_60 (by decide +kernel) ?_
                    refine zn_icmp_ge (tgt := 93) hx hb dX0_prepare_63 (by decide) (by omega) (by omega) (fun c_63 => ?_) (fun c_63 => ?_)
                    · refine zn_iinc (a := k) (b := 1) (k := 1) (lv' := [(1, .int (nI (k + 1))), (0, .ref (g 0)), (2, .int (nI (j)))]) hx hb dX0_prepare_93 hl rfl (by decide) rfl (fun ls hl => ?_)
                      refine lv_goto (tgt := 51) hx hb dX0_prepare_96 (by decide) ?_
                      exact ih51  (k + 1) wz (by omega) (by omega) (by omega) (fun q hq => hw q (by omega)) _ _ hP hD hS _ (lv_sub hl [1, 0] rfl)
                    · refine lv_aload_n hx hb dX0_prepare_66 rfl (lv_at hl 0 rfl) ?_
                      refine va_get (D := (dC, dI)) (ci := 0) (v := .ref (g 6)) (C := RX0) (T := TX0) (N := 10) hx hb hts in_X0 hown hK hP 0 rfl rfl 9 (by decide) (hts _ q44) (fun _ h9 => h9) rfl dX0_prepare_67 ?_
                      refine lv_iload_n hx hb dX0_prepare_70 rfl (lv_at hl 1 rfl) ?_
                      refine lv_sipush (v := nI (320)) hx hb dX0_prepare_71 (by decide +kernel) ?_
                      refine zn_imul hx hb dX0_prepare_74 ?_
                      refine lv_iload_n hx hb dX0_prepare_75 rfl (lv_at hl 2 rfl) ?_
                      refine zn_iadd hx hb dX0_prepare_76 ?_
                      refine lv_aload_n hx hb dX0_prepare_77 rfl (lv_at hl 0 rfl) ?_
                      refine lv_iload_n hx hb dX0_prepare_78 rfl (lv_at hl 1 rfl) ?_
                      refine lv_iconst (v := nI (1)) hx hb dX0_prepare_79 (by decide +kernel) ?_
                      refine zn_isub hx hb dX0_prepare_80 (by omega) ?_
                      refine lv_iload_n hx hb dX0_prepare_81 rfl (lv_at hl 2 rfl) ?_
                      refine lv_iconst (v := nI (4)) hx hb dX0_prepare_82 (by decide +kernel) ?_
                      refine zcallR (As := [.int (nI (k - 1)), .int (nI (j)), .int (nI (4))]) (rest := [.int (nI ((k * 320) + j)), .ref (g 6)]) (ci := 0) (q0 := 0) ⟨hx, hb, hml, hown, hts⟩ (met_X0_sumOver l dC dI g dA N C ks as_ bs st sg fl fd (nI (1)) wz (k - 1) j 4 hN hC (by omega) (by omega) (by omega) (zrow_flat hw (by omega))) (cwV 3 hts (lw_V q113 q115 qs5 q25 q116) rfl rfl rfl (by decide +kernel) ⟨Nat.le_of_ble_eq_true rfl, Nat.le_of_ble_eq_true rfl⟩) hK hP rfl rfl rfl hl.1 rfl (Nat.le_of_ble_eq_true rfl) dX0_prepare_83 ⟨Nat.zero_le _, Nat.zero_le _⟩ (fun r_83 h_83 => ?_)
                      subst h_83
                      refine zn_iast (f := wz) (i := (k * 320) + j) (x := nI (zso N C (k - 1) j 4)) hx hb hK hP hD hS 6 0 rfl rfl (by omega) (by decide) dX0_prepare_86 (fun H locs hP hD hS => ?_)
                      have hP : va_P (dC, dI) zCl (wX g dA (nI (N)) ks as_ bs st sg fl fd (nI (1)) (upd wz ((k * 320) + j) (nI (zso N C (k - 1) j 4)))) H := hP
                      have hD : va_D A (wX g dA (nI (N)) ks as_ bs st sg fl fd (nI (1)) (upd wz ((k * 320) + j) (nI (zso N C (k - 1) j 4)))) := hD
                      refine zn_iinc (a := j) (b := 1) (k := 2) (lv' := [(2, .int (nI (j + 1))), (0, .ref (g 0)), (1, .int (nI (k)))]) hx hb dX0_prepare_87 hl rfl (by decide) rfl (fun ls hl => ?_)
                      refine lv_goto (tgt := 59) hx hb dX0_prepare_90 (by decide) ?_
                      exact ih59  (j + 1) (upd wz ((k * 320) + j) (nI (zso N C (k - 1) j 4))) (by omega) (by omega) (zfill hw (zP_s N C hk1 (by omega))) _ _ hP hD hS _ (lv_sub hl [1, 2, 0] rfl)
                exact loop59 (_ + 1) 0 wz (Nat.lt_succ_self _) (by omega) (fun q hq => hw q (by omega)) _ _ hP hD hS _ (lv_sub hl [1, 2, 0] rfl)
          exact loop51 (_ + 1) 1 wz (Nat.lt_succ_self _) (by omega) (by omega) (fun q hq => hw q (by omega)) _ _ hP hD hS _ (lv_sub hl [1, 0] rfl)
        · refine lv_aload_n hx hb dX0_prepare_22 rfl (lv_at hl 0 rfl) ?_
          refine lv_iload_n hx hb dX0_prepare_23 rfl (lv_at hl 1 rfl) ?_
          refine zcallR (As := [.int (nI (i))]) (rest := []) (ci := 0) (q0 := 0) ⟨hx, hb, hml, hown, hts⟩ (met_X0_accepting l dC dI g dA N C ks as_ bs st sg fl fd (nI (1)) wz i hN hC (by omega)) (cwV 1 hts (lw_V q105 q107 qs3 q25 q108) rfl rfl rfl (by decide +kernel) ⟨Nat.le_of_ble_eq_true rfl, Nat.le_of_ble_eq_true rfl⟩) hK hP rfl rfl rfl hl.1 rfl (Nat.le_of_ble_eq_true rfl) dX0_prepare_24 ⟨Nat.zero_le _, Nat.zero_le _⟩ (fun r_24 h_24 => ?_)
          subst h_24
          refine lv_istore_n (lv' := [(2, .int (nI ((zak C i N).toNat))), (0, .ref (g 0)), (1, .int (nI (i)))]) hx hb dX0_prepare_27 rfl hl (by decide) rfl (fun ls hl => ?_)
          refine lv_aload_n hx hb dX0_prepare_28 rfl (lv_at hl 1 rfl) ?_
          refine va_get (D := (dC, dI)) (ci := 0) (v := .ref (g 6)) (C := RX0) (T := TX0) (N := 10) hx hb hts in_X0 hown hK hP 0 rfl rfl 9 (by decide) (hts _ q44) (fun _ h9 => h9) rfl dX0_prepare_29 ?_
          refine lv_iload_n hx hb dX0_prepare_32 rfl (lv_at hl 2 rfl) ?_
          refine lv_iload_n hx hb dX0_prepare_33 rfl (lv_at hl 0 rfl) ?_
          refine zn_if_eq (tgt := 41) hx hb dX0_prepare_34 (by decide) (zb_lt _) (fun c_34 => ?_) (fun c_34 => ?_)
          · have c_34 : (zak C i N) = false := zb_f c_34
            refine lv_iconst (v := nI (0)) hx hb dX0_prepare_41 (by decide +kernel) ?_
            refine zn_iast (f := wz) (i := i) (x := nI (0)) hx hb hK hP hD hS 6 0 rfl rfl (by omega) (by decide) dX0_prepare_42 (fun H locs hP hD hS => ?_)
            have hP : va_P (dC, dI) zCl (wX g dA (nI (N)) ks as_ bs st sg fl fd (nI (1)) (upd wz i (nI (0)))) H := hP
            have hD : va_D A (wX g dA (nI (N)) ks as_ bs st sg fl fd (nI (1)) (upd wz i (nI (0)))) := hD
            refine zn_iinc (a := i) (b := 1) (k := 2) (lv' := [(1, .int (nI (i + 1))), (2, .int (nI ((zak C i N).toNat))), (0, .ref (g 0))]) hx hb dX0_prepare_43 hl rfl (by decide) rfl (fun ls hl => ?_)
            refine lv_goto (tgt := 15) hx hb dX0_prepare_46 (by decide) ?_
            exact ih15  (i + 1) (upd wz i (nI (0))) (by omega) (by omega) (zfill hw (by rw [zP_0 N C (by omega), c_34]; rfl)) _ _ hP hD hS _ (lv_sub hl [2, 0] rfl)
          · have c_34 : (zak C i N) = true := zb_t c_34
            refine lv_iconst (v := nI (1)) hx hb dX0_prepare_37 (by decide +kernel) ?_
            refine lv_goto (tgt := 42) hx hb dX0_prepare_38 (by decide) ?_
            refine zn_iast (f := wz) (i := i) (x := nI (1)) hx hb hK hP hD hS 6 0 rfl rfl (by omega) (by decide) dX0_prepare_42 (fun H locs hP hD hS => ?_)
            have hP : va_P (dC, dI) zCl (wX g dA (nI (N)) ks as_ bs st sg fl fd (nI (1)) (upd wz i (nI (1)))) H := hP
            have hD : va_D A (wX g dA (nI (N)) ks as_ bs st sg fl fd (nI (1)) (upd wz i (nI (1)))) := hD
            refine zn_iinc (a := i) (b := 1) (k := 2) (lv' := [(1, .int (nI (i + 1))), (2, .int (nI ((zak C i N).toNat))), (0, .ref (g 0))]) hx hb dX0_prepare_43 hl rfl (by decide) rfl (fun ls hl => ?_)
            refine lv_goto (tgt := 15) hx hb dX0_prepare_46 (by decide) ?_
            exact ih15  (i + 1) (upd wz i (nI (1))) (by omega) (by omega) (zfill hw (by rw [zP_0 N C (by omega), c_34]; rfl)) _ _ hP hD hS _ (lv_sub hl [2, 0] rfl)
    exact loop15 (_ + 1) 0 wy (Nat.lt_succ_self _) (by omega) (fun q hq => absurd hq (Nat.not_lt_zero _)) _ _ hP hD hS _ (lv_sub hl [1, 0] rfl)
  · refine lv_aload_n hx hb dX0_prepare_0 rfl (lv_at hl 0 rfl) ?_
    refine va_get (D := (dC, dI)) (ci := 0) (v := .int (nI (1))) (C := RX0) (T := TX0) (N := 10) hx hb hts in_X0 hown hK hP 0 rfl rfl 8 (by decide) (hts _ q43) (fun _ h9 => h9) rfl dX0_prepare_1 ?_
    refine zn_if_eq (tgt := 8) hx hb dX0_prepare_4 (by decide) (by omega) (fun c9 => absurd c9 (by decide)) (fun _ => ?_)
    exact W.vret hx hb hr (fun t9 ht9 hW9 => ⟨⟨wy, rfl, h_T, by rw [ht9]; exact hP, va_K.moved hW9.alike hK, hD⟩, hS.F ht9⟩) hS.2.2 dX0_prepare_7
set_option maxHeartbeats 8000000 in
set_option maxRecDepth 100000 in
theorem met_X0_total (l : Launch) (dC : Nat → ClassId) (dI : Nat → Nat → Nat) (g : Nat → Nat) (dA : ClassId) (sz : Nat) (N : Nat) (C : zC) (ks as_ bs : Nat → Int32) (st : Int32) (sg : Nat → Int32) (fl : Int32) (fd : Nat → Int32) (rd : Int32) (wy : Nat → Int32) (hN : N ≤ 3) (hC : zReps N C ks as_ bs) (h_r : zRdy N C rd wy) : zMetI (S := (Nat → Int32)) l yX0_total (ws_ yX0_total cX0_total 3 (some .int)) ({ frames := 4, cells := 0, slots := 0, locals := 100 }) (dC, dI) dA (wX g dA (nI (N)) ks as_ bs st sg fl fd rd wy) sz [.ref (g 0)] (fun r w => r = nI (zex N C 256 7) ∧ zTab N C w) (fun w => wX g dA (nI N) ks as_ bs st sg fl fd (nI 1) w) := by
  refine Met.ofW (cc := cX0_total) (maxL := 3) (ret := (some .int)) (by decide) rfl ?_
  intro p e s m args below meth c s₁ B hml hv
  obtain ⟨rfl, hsz, hP, hK, hD0⟩ := hv
  have hx := B.exec
  have hb := B.bytes
  have hr := B.returns
  have hts := atoms_spec (ws := ws_ yX0_total cX0_total 3 (some .int)) B.pre
  have hts : ∀ w ∈ lw_all, w.before _ s = true := fun w h => hts w (List.mem_cons_of_mem _ h)
  have hown : s.vm.findClass RX0 = some m.cls := findClass_of_methodNamed B.named
  have hlocks := B.notSynchronized
  subst hsz
  have hD := hD0.self (sz := s.heap.size)
  generalize hAe : va_A (wX g dA (nI (N)) ks as_ bs st sg fl fd rd wy) s.heap.size = A at hD ⊢
  have hA : ∀ q : Nat, s.heap.size ≤ q → A q := fun q h => by rw [← hAe]; exact Or.inr h
  have hS : va_S A s.heap s.heap [] := va_S.rf
  clear hD0 hAe
  have hl := lv_entry ([.ref (g 0)]) (n := 3) (Nat.le_of_ble_eq_true rfl)
  rw [lg_entry_eq]
  generalize (lg_sl ([.ref (g 0)]) ++ List.replicate (3 - (lg_sl ([.ref (g 0)])).length) Slot.unset).toArray = ls at hl ⊢
  have hl : lv_has ls 3 [(0, .ref (g 0))] := hl
  refine lv_aload_n hx hb dX0_total_0 rfl (lv_at hl 0 rfl) ?_
  refine zcallMv (As := []) (rest := []) (wr := []) (ci := 0) (q0 := 0) [0, 1, 2, 3, 4, 5, 6] [] ⟨hx, hb, hml, hown, hts⟩ (met_X0_prepare l dC dI g dA s.heap.size N C ks as_ bs st sg fl fd rd wy  hN hC h_r) (cwV 0 hts (lw_V q101 q103 qs2 q25 q104) rfl rfl rfl (by decide +kernel) ⟨Nat.le_of_ble_eq_true rfl, Nat.le_of_ble_eq_true rfl⟩) hK hP hD hS hA rfl rfl (by decide) (by decide) (by decide) rfl rfl rfl hl.1 rfl (Nat.le_of_ble_eq_true rfl) dX0_total_1 ⟨Nat.zero_le _, Nat.zero_le _⟩ (fun u_1 H locs h_1 hP hD hS => ?_)
  have hP : va_P (dC, dI) zCl (wX g dA (nI (N)) ks as_ bs st sg fl fd (nI (1)) u_1) H := hP
  have hD : va_D A (wX g dA (nI (N)) ks as_ bs st sg fl fd (nI (1)) u_1) := hD
  have hT : zTab N C u_1 := h_1
  refine lv_iconst (v := nI (0)) hx hb dX0_total_4 (by decide +kernel) ?_
  refine lv_istore_n (lv' := [(1, .int (nI (0))), (0, .ref (g 0))]) hx hb dX0_total_5 rfl hl (by decide) rfl (fun ls hl => ?_)
  refine lv_iconst (v := nI (0)) hx hb dX0_total_6 (by decide +kernel) ?_
  refine lv_istore_n (lv' := [(2, .int (nI (0))), (1, .int (nI (0))), (0, .ref (g 0))]) hx hb dX0_total_7 rfl hl (by decide) rfl (fun ls hl => ?_)
  have loop8 : ∀ (d8 : Nat) (k : Nat) (t : Nat), 7 - k < d8 → k ≤ 7 → t = zex N C 256 k → ∀ (ls : Array Slot), lv_has ls 3 [(0, .ref (g 0)), (1, .int (nI (t))), (2, .int (nI (k)))] → W p l e (headSpec (ws_ yX0_total cX0_total 3 (some .int)) ({ frames := 4, cells := 0, slots := 0, locals := 100 })).room s m ([.ref (g 0)] : List Value).toArray below meth c H locs 0 0 (MQ below (va_Qi (S := (Nat → Int32)) (fun r w => r = nI (zex N C 256 7) ∧ zTab N C w) (zB (dC, dI) dA A (fun w => wX g dA (nI N) ks as_ bs st sg fl fd (nI 1) w)) A) ([.ref (g 0)] : List Value).toArray s 0 0 (A)) (F0 m 8 ls []) := by
    intro d8
    induction d8 with
    | zero =>
      intro k t hd8
      exact absurd hd8 (Nat.not_lt_zero _)
    | succ d8 ih8 =>
      intro k t hd8 hk ht ls hl
      refine lv_iload_n hx hb dX0_total_8 rfl (lv_at hl 2 rfl) ?_
      refine lv_bipush (v := nI (6)) hx hb dX0_total_9 (by decide +kernel) ?_
      refine zn_icmp_gt (tgt := 37) hx hb dX0_total_11 (by decide) (by omega) (by omega) (fun c_11 => ?_) (fun c_11 => ?_)
      · refine lv_iload_n hx hb dX0_total_37 rfl (lv_at hl 1 rfl) ?_
        exact W.iret (v := nI (t)) hx hb hr (fun t9 ht9 hW9 => ⟨⟨nI (t), u_1, rfl, ⟨congrArg nI (by rw [ht, show k = 7 by omega]), hT⟩, by rw [ht9]; exact hP, va_K.moved hW9.alike hK, hD⟩, hS.F ht9⟩) hS.2.2 dX0_total_38
      · refine lv_iload_n hx hb dX0_total_14 rfl (lv_at hl 1 rfl) ?_
        refine lv_aload_n hx hb dX0_total_15 rfl (lv_at hl 0 rfl) ?_
        refine va_get (D := (dC, dI)) (ci := 0) (v := .ref (g 6)) (C := RX0) (T := TX0) (N := 10) hx hb hts in_X0 hown hK hP 0 rfl rfl 9 (by decide) (hts _ q44) (fun _ h9 => h9) rfl dX0_total_16 ?_
        refine lv_iload_n hx hb dX0_total_19 rfl (lv_at hl 2 rfl) ?_
        refine lv_sipush (v := nI (320)) hx hb dX0_total_20 (by decide +kernel) ?_
        refine zn_imul hx hb dX0_total_23 ?_
        refine lv_sipush (v := nI (256)) hx hb dX0_total_24 (by decide +kernel) ?_
        refine zn_iadd hx hb dX0_total_27 ?_
        refine zn_iald (f := u_1) (i := (k * 320) + 256) (v := nI (zwy N C k 256)) hx hb hK hP 6 0 rfl rfl (by omega) (by decide) (hT k (by omega) _ (by omega)) dX0_total_28 ?_
        refine zn_iadd hx hb dX0_total_29 ?_
        refine lv_istore_n (lv' := [(1, .int (nI (t + (zwy N C k 256)))), (0, .ref (g 0)), (2, .int (nI (k)))]) hx hb dX0_total_30 rfl hl (by decide) rfl (fun ls hl => ?_)
        refine zn_iinc (a := k) (b := 1) (k := 2) (lv' := [(2, .int (nI (k + 1))), (1, .int (nI (t + (zwy N C k 256)))), (0, .ref (g 0))]) hx hb dX0_total_31 hl rfl (by decide) rfl (fun ls hl => ?_)
        refine lv_goto (tgt := 8) hx hb dX0_total_34 (by decide) ?_
        exact ih8  (k + 1) (t + (zwy N C k 256)) (by omega) (by omega) (by rw [ht]; rfl) _ (lv_sub hl [2, 1, 0] rfl)
  exact loop8 (_ + 1) 0 0 (Nat.lt_succ_self _) (by omega) rfl _ (lv_sub hl [2, 1, 0] rfl)
end
section
/-! ShrinkRanker: find (written by gen/x0w.py) -/
set_option maxHeartbeats 8000000 in
set_option maxRecDepth 100000 in
theorem met_X0_find (l : Launch) (dC : Nat → ClassId) (dI : Nat → Nat → Nat) (g : Nat → Nat) (dA : ClassId) (sz : Nat) (N : Nat) (C : zC) (ks as_ bs : Nat → Int32) (st : Int32) (sg : Nat → Int32) (fl : Int32) (fd : Nat → Int32) (rd : Int32) (wy : Nat → Int32) (xi : Int32) (hN : N ≤ 3) (hC : zReps N C ks as_ bs) (h_r : zRdy N C rd wy) : zMetI (S := Int32 × (Nat → Int32) × (Nat → Int32)) l yX0_find (ws_ yX0_find cX0_find 9 (some .boolean)) ({ frames := 5, cells := 0, slots := 0, locals := 122 }) (dC, dI) dA (wX g dA (nI (N)) ks as_ bs st sg fl fd rd wy) sz [.ref (g 0), .int (xi)] (fun r u => zTab N C u.2.2 ∧ ((r = nI 0 ∧ u.1 = fl ∧ u.2.1 = fd ∧ zNo N C xi) ∨ (r = nI 1 ∧ ∃ (L : Nat) (f : Nat → Nat), zFf N C xi L f ∧ u.1 = nI L ∧ ∀ j, j < L → u.2.1 j = nI (f j)))) (fun u => wX g dA (nI N) ks as_ bs st sg u.1 u.2.1 (nI 1) u.2.2) := by
  refine Met.ofW (cc := cX0_find) (maxL := 9) (ret := (some .boolean)) (by decide) rfl ?_
  intro p e s m args below meth c s₁ B hml hv
  obtain ⟨rfl, hsz, hP, hK, hD0⟩ := hv
  have hx := B.exec
  have hb := B.bytes
  have hr := B.returns
  have hts := atoms_spec (ws := ws_ yX0_find cX0_find 9 (some .boolean)) B.pre
  have hts : ∀ w ∈ lw_all, w.before _ s = true := fun w h => hts w (List.mem_cons_of_mem _ h)
  have hown : s.vm.findClass RX0 = some m.cls := findClass_of_methodNamed B.named
  have hlocks := B.notSynchronized
  subst hsz
  have hD := hD0.self (sz := s.heap.size)
  generalize hAe : va_A (wX g dA (nI (N)) ks as_ bs st sg fl fd rd wy) s.heap.size = A at hD ⊢
  have hA : ∀ q : Nat, s.heap.size ≤ q → A q := fun q h => by rw [← hAe]; exact Or.inr h
  have hS : va_S A s.heap s.heap [] := va_S.rf
  clear hD0 hAe
  have hl := lv_entry ([.ref (g 0), .int (xi)]) (n := 9) (Nat.le_of_ble_eq_true rfl)
  rw [lg_entry_eq]
  generalize (lg_sl ([.ref (g 0), .int (xi)]) ++ List.replicate (9 - (lg_sl ([.ref (g 0), .int (xi)])).length) Slot.unset).toArray = ls at hl ⊢
  have hl : lv_has ls 9 [(0, .ref (g 0)), (1, .int (xi))] := hl
  refine lv_aload_n hx hb dX0_find_0 rfl (lv_at hl 0 rfl) ?_
  refine zcallMi (As := []) (rest := []) (wr := []) (ci := 0) (q0 := 0) [0, 1, 2, 3, 4, 5, 6] [] ⟨hx, hb, hml, hown, hts⟩ (met_X0_total l dC dI g dA s.heap.size N C ks as_ bs st sg fl fd rd wy  hN hC h_r) (cwV 0 hts (lw_V q97 q99 qs1 q25 q100) rfl rfl rfl (by decide +kernel) ⟨Nat.le_of_ble_eq_true rfl, Nat.le_of_ble_eq_true rfl⟩) hK hP hD hS hA rfl rfl (by decide) (by decide) (by decide) rfl rfl rfl hl.1 rfl (Nat.le_of_ble_eq_true rfl) dX0_find_1 ⟨Nat.zero_le _, Nat.zero_le _⟩ (fun r_1 u_1 H locs h_1 hP hD hS => ?_)
  obtain ⟨h_1, hT⟩ := h_1
  subst h_1
  have hP : va_P (dC, dI) zCl (wX g dA (nI (N)) ks as_ bs st sg fl fd (nI (1)) u_1) H := hP
  have hD : va_D A (wX g dA (nI (N)) ks as_ bs st sg fl fd (nI (1)) u_1) := hD
  refine lv_istore_n (lv' := [(2, .int (nI (zex N C 256 7))), (0, .ref (g 0)), (1, .int (xi))]) hx hb dX0_find_4 rfl hl (by decide) rfl (fun ls hl => ?_)
  refine lv_iload_n hx hb dX0_find_5 rfl (lv_at hl 2 rfl) ?_
  refine lv_if_lt (x := xi) (tgt := 14) hx hb dX0_find_6 (by decide) (fun c_6 => ?_) (fun c_6 => ?_)
  · refine lv_iconst (v := nI (0)) hx hb dX0_find_14 (by decide +kernel) ?_
    exact W.zret (v := nI (0)) hx hb hr rfl (fun t9 ht9 hW9 => ⟨⟨nI (0), (fl, fd, u_1), rfl, ⟨hT, Or.inl ⟨rfl, rfl, rfl, Or.inl c_6⟩⟩, by rw [ht9]; exact hP, va_K.moved hW9.alike hK, hD⟩, hS.F ht9⟩) hS.2.2 dX0_find_15
  · refine lv_iload_n hx hb dX0_find_9 rfl (lv_at hl 2 rfl) ?_
    refine lv_iload_n hx hb dX0_find_10 rfl (lv_at hl 0 rfl) ?_
    refine lv_icmp_lt (x := xi) (y := nI (zex N C 256 7)) (tgt := 16) hx hb dX0_find_11 (by decide) (fun c_11 => ?_) (fun c_11 => ?_)
    · obtain ⟨mv, hm, rfl⟩ := zix c_6 c_11 (Nat.lt_of_le_of_lt (zex_7 N C 256 (Nat.le_refl _)) (by decide))
      have hmx := zex_7 N C 256 (Nat.le_refl 7)
      refine lv_iload_n hx hb dX0_find_16 rfl (lv_at hl 2 rfl) ?_
      refine lv_istore_n (lv' := [(3, .int (nI (mv))), (2, .int (nI (zex N C 256 7))), (0, .ref (g 0)), (1, .int (nI (mv)))]) hx hb dX0_find_17 rfl hl (by decide) rfl (fun ls hl => ?_)
      refine lv_iconst (v := nI (0)) hx hb dX0_find_18 (by decide +kernel) ?_
      refine lv_istore (lv' := [(4, .int (nI (0))), (3, .int (nI (mv))), (2, .int (nI (zex N C 256 7))), (0, .ref (g 0)), (1, .int (nI (mv)))]) hx hb dX0_find_19 hl (by decide) rfl (fun ls hl => ?_)
      have join71 : ∀ (lf : Nat) (ln : Nat), ln ≤ 6 → lf + zex N C 256 ln = mv → lf < zwy N C ln 256 → ∀ (ls : Array Slot), lv_has ls 9 [(0, .ref (g 0)), (3, .int (nI (lf))), (4, .int (nI (ln)))] → W p l e (headSpec (ws_ yX0_find cX0_find 9 (some .boolean)) ({ frames := 5, cells := 0, slots := 0, locals := 122 })).room s m ([.ref (g 0), .int ((nI (mv)))] : List Value).toArray below meth c H locs 0 0 (MQ below (va_Qi (S := Int32 × (Nat → Int32) × (Nat → Int32)) (fun r u => zTab N C u.2.2 ∧ ((r = nI 0 ∧ u.1 = fl ∧ u.2.1 = fd ∧ zNo N C (nI (mv))) ∨ (r = nI 1 ∧ ∃ (L : Nat) (f : Nat → Nat), zFf N C (nI (mv)) L f ∧ u.1 = nI L ∧ ∀ j, j < L → u.2.1 j = nI (f j)))) (zB (dC, dI) dA A (fun u => wX g dA (nI N) ks as_ bs st sg u.1 u.2.1 (nI 1) u.2.2)) A) ([.ref (g 0), .int ((nI (mv)))] : List Value).toArray s 0 0 (A)) (F0 m 71 ls []) := by
        intro lf ln hln hlf hlt ls hl
        refine lv_aload_n hx hb dX0_find_71 rfl (lv_at hl 0 rfl) ?_
        refine lv_iload hx hb dX0_find_72 (lv_at hl 2 rfl) ?_
        refine va_put (D := (dC, dI)) (ci := 0) (v := .int (nI (ln))) (ty := .int) (C := RX0) (T := TX0) (N := 10) hx hb hts in_X0 tyX0 tyX0_ok nmX0 hown hK hP hD hS 0 rfl rfl 6 (by decide) (hts _ q41) (fun _ h9 => h9) rfl (by decide +kernel) rfl rfl (Nat.le_of_ble_eq_true rfl) dX0_find_74 (fun H locs hP hD hS => ?_)
        have hP : va_P (dC, dI) zCl (wX g dA (nI (N)) ks as_ bs st sg (nI (ln)) fd (nI (1)) u_1) H := hP
        have hD : va_D A (wX g dA (nI (N)) ks as_ bs st sg (nI (ln)) fd (nI (1)) u_1) := hD
        refine lv_sipush (v := nI (256)) hx hb dX0_find_77 (by decide +kernel) ?_
        refine lv_istore (lv' := [(5, .int (nI (256))), (0, .ref (g 0)), (3, .int (nI (lf))), (4, .int (nI (ln)))]) hx hb dX0_find_80 hl (by decide) rfl (fun ls hl => ?_)
        refine lv_iconst (v := nI (0)) hx hb dX0_find_82 (by decide +kernel) ?_
        refine lv_istore (lv' := [(6, .int (nI (0))), (5, .int (nI (256))), (0, .ref (g 0)), (3, .int (nI (lf))), (4, .int (nI (ln)))]) hx hb dX0_find_83 hl (by decide) rfl (fun ls hl => ?_)
        have loop85 : ∀ (d85 : Nat) (i : Nat) (lf : Nat) (q : Nat) (fn : Nat → Int32) (f : Nat → Nat), ln - i < d85 → i ≤ ln → q = zrs N C f i → q < 320 → lf + zrk N C f ln i = mv → lf < zwy N C (ln - i) q → (∀ j, j < i → fn j = nI (f j) ∧ f j < 4) → ∀ (H : Heap) (locs : List Loc), va_P (dC, dI) zCl (wX g dA (nI (N)) ks as_ bs st sg (nI (ln)) fn (nI (1)) u_1) H → va_D A (wX g dA (nI (N)) ks as_ bs st sg (nI (ln)) fn (nI (1)) u_1) → va_S A s.heap H locs → ∀ (ls : Array Slot), lv_has ls 9 [(0, .ref (g 0)), (3, .int (nI (lf))), (4, .int (nI (ln))), (5, .int (nI (q))), (6, .int (nI (i)))] → W p l e (headSpec (ws_ yX0_find cX0_find 9 (some .boolean)) ({ frames := 5, cells := 0, slots := 0, locals := 122 })).room s m ([.ref (g 0), .int ((nI (mv)))] : List Value).toArray below meth c H locs 0 0 (MQ below (va_Qi (S := Int32 × (Nat → Int32) × (Nat → Int32)) (fun r u => zTab N C u.2.2 ∧ ((r = nI 0 ∧ u.1 = fl ∧ u.2.1 = fd ∧ zNo N C (nI (mv))) ∨ (r = nI 1 ∧ ∃ (L : Nat) (f : Nat → Nat), zFf N C (nI (mv)) L f ∧ u.1 = nI L ∧ ∀ j, j < L → u.2.1 j = nI (f j)))) (zB (dC, dI) dA A (fun u => wX g dA (nI N) ks as_ bs st sg u.1 u.2.1 (nI 1) u.2.2)) A) ([.ref (g 0), .int ((nI (mv)))] : List Value).toArray s 0 0 (A)) (F0 m 85 ls []) := by
          intro d85
          induction d85 with
          | zero =>
            intro i lf q fn f hd85
            exact absurd hd85 (Nat.not_lt_zero _)
          | succ d85 ih85 =>
            intro i lf q fn f hd85 hi hq hqb hlf hlt hf H locs hP hD hS ls hl
            refine lv_iload hx hb dX0_find_85 (lv_at hl 4 rfl) ?_
            refine lv_iload hx hb dX0_find_87 (lv_at hl 2 rfl) ?_
            refine zn_icmp_ge (tgt := 178) hx hb dX0_find_89 (by decide) (by omega) (by omega) (fun c_89 => ?_) (fun c_89 => ?_)
            · refine lv_iconst (v := nI (1)) hx hb dX0_find_178 (by decide +kernel) ?_
              exact W.zret (v := nI (1)) hx hb hr rfl (fun t9 ht9 hW9 => ⟨⟨nI (1), (nI ln, fn, u_1), rfl, ⟨hT, Or.inr ⟨rfl, ln, f, ⟨hln, fun j hj => (hf j (by omega)).2, zfind_end (by omega) hq hlf hlt⟩, rfl, fun j hj => (hf j (by omega)).1⟩⟩, by rw [ht9]; exact hP, va_K.moved hW9.alike hK, hD⟩, hS.F ht9⟩) hS.2.2 dX0_find_179
            · refine lv_iconst (v := nI (0)) hx hb dX0_find_92 (by decide +kernel) ?_
              refine lv_istore (lv' := [(7, .int (nI (0))), (0, .ref (g 0)), (3, .int (nI (lf))), (4, .int (nI (ln))), (5, .int (nI (q))), (6, .int (nI (i)))]) hx hb dX0_find_93 hl (by decide) rfl (fun ls hl => ?_)
              refine lv_iconst (v := nI (0)) hx hb dX0_find_95 (by decide +kernel) ?_
              refine lv_istore (lv' := [(8, .int (nI (0))), (7, .int (nI (0))), (0, .ref (g 0)), (3, .int (nI (lf))), (4, .int (nI (ln))), (5, .int (nI (q))), (6, .int (nI (i)))]) hx hb dX0_find_96 hl (by decide) rfl (fun ls hl => ?_)
              have join131 : ∀ (x : Nat), x ≤ 3 → zso N C (ln - i - 1) q x ≤ lf → lf < zso N C (ln - i - 1) q (x + 1) → ∀ (ls : Array Slot), lv_has ls 9 [(0, .ref (g 0)), (3, .int (nI (lf))), (4, .int (nI (ln))), (5, .int (nI (q))), (6, .int (nI (i))), (7, .int (nI (x))), (8, .int (nI (0)))] → W p l e (headSpec (ws_ yX0_find cX0_find 9 (some .boolean)) ({ frames := 5, cells := 0, slots := 0, locals := 122 })).room s m ([.ref (g 0), .int ((nI (mv)))] : List Value).toArray below meth c H locs 0 0 (MQ below (va_Qi (S := Int32 × (Nat → Int32) × (Nat → Int32)) (fun r u => zTab N C u.2.2 ∧ ((r = nI 0 ∧ u.1 = fl ∧ u.2.1 = fd ∧ zNo N C (nI (mv))) ∨ (r = nI 1 ∧ ∃ (L : Nat) (f : Nat → Nat), zFf N C (nI (mv)) L f ∧ u.1 = nI L ∧ ∀ j, j < L → u.2.1 j = nI (f j)))) (zB (dC, dI) dA A (fun u => wX g dA (nI N) ks as_ bs st sg u.1 u.2.1 (nI 1) u.2.2)) A) ([.ref (g 0), .int ((nI (mv)))] : List Value).toArray s 0 0 (A)) (F0 m 131 ls []) := by
                intro x hx3 hso hsx ls hl
                refine lv_aload_n hx hb dX0_find_131 rfl (lv_at hl 0 rfl) ?_
                refine lv_iload hx hb dX0_find_132 (lv_at hl 2 rfl) ?_
                refine lv_iload hx hb dX0_find_134 (lv_at hl 4 rfl) ?_
                refine zn_isub hx hb dX0_find_136 (by omega) ?_
                refine lv_iconst (v := nI (1)) hx hb dX0_find_137 (by decide +kernel) ?_
                refine zn_isub hx hb dX0_find_138 (by omega) ?_
                refine lv_iload hx hb dX0_find_139 (lv_at hl 3 rfl) ?_
                refine lv_iload hx hb dX0_find_141 (lv_at hl 5 rfl) ?_
                refine zcallR (As := [.int (nI ((ln - i) - 1)), .int (nI (q)), .int (nI (x))]) (rest := []) (ci := 0) (q0 := 0) ⟨hx, hb, hml, hown, hts⟩ (met_X0_sumOver l dC dI g dA N C ks as_ bs st sg (nI (ln)) fn (nI (1)) u_1 ((ln - i) - 1) q x hN hC (by omega) hqb (by omega) (ztab_row hT (by omega))) (cwV 3 hts (lw_V q113 q115 qs5 q25 q116) rfl rfl rfl (by decide +kernel) ⟨Nat.le_of_ble_eq_true rfl, Nat.le_of_ble_eq_true rfl⟩) hK hP rfl rfl rfl hl.1 rfl (Nat.le_of_ble_eq_true rfl) dX0_find_143 ⟨Nat.zero_le _, Nat.zero_le _⟩ (fun r_143 h_143 => ?_)
                subst h_143
                have hz2 : zso N C (ln - i - 1) q x ≤ 16384 := zso_le6 (by omega) q (by omega)
                refine lv_istore (lv' := [(8, .int (nI (zso N C ((ln - i) - 1) q x))), (0, .ref (g 0)), (3, .int (nI (lf))), (4, .int (nI (ln))), (5, .int (nI (q))), (6, .int (nI (i))), (7, .int (nI (x)))]) hx hb dX0_find_146 hl (by decide) rfl (fun ls hl => ?_)
                refine lv_iload_n hx hb dX0_find_148 rfl (lv_at hl 2 rfl) ?_
                refine lv_iload hx hb dX0_find_149 (lv_at hl 0 rfl) ?_
                refine zn_isub hx hb dX0_find_151 (by omega) ?_
                refine lv_istore_n (lv' := [(3, .int (nI (lf - (zso N C ((ln - i) - 1) q x)))), (8, .int (nI (zso N C ((ln - i) - 1) q x))), (0, .ref (g 0)), (4, .int (nI (ln))), (5, .int (nI (q))), (6, .int (nI (i))), (7, .int (nI (x)))]) hx hb dX0_find_152 rfl hl (by decide) rfl (fun ls hl => ?_)
                refine lv_aload_n hx hb dX0_find_153 rfl (lv_at hl 2 rfl) ?_
                refine va_get (D := (dC, dI)) (ci := 0) (v := .ref (g 5)) (C := RX0) (T := TX0) (N := 10) hx hb hts in_X0 hown hK hP 0 rfl rfl 7 (by decide) (hts _ q42) (fun _ h9 => h9) rfl dX0_find_154 ?_
                refine lv_iload hx hb dX0_find_157 (lv_at hl 5 rfl) ?_
                refine lv_iload hx hb dX0_find_159 (lv_at hl 6 rfl) ?_
                refine zn_iast (f := fn) (i := i) (x := nI (x)) hx hb hK hP hD hS 5 0 rfl rfl (by omega) (by decide) dX0_find_161 (fun H locs hP hD hS => ?_)
                have hP : va_P (dC, dI) zCl (wX g dA (nI (N)) ks as_ bs st sg (nI (ln)) (upd fn i (nI (x))) (nI (1)) u_1) H := hP
                have hD : va_D A (wX g dA (nI (N)) ks as_ bs st sg (nI (ln)) (upd fn i (nI (x))) (nI (1)) u_1) := hD
                refine lv_aload_n hx hb dX0_find_162 rfl (lv_at hl 2 rfl) ?_
                refine lv_iload hx hb dX0_find_163 (lv_at hl 4 rfl) ?_
                refine lv_iload hx hb dX0_find_165 (lv_at hl 6 rfl) ?_
                refine zcallR (As := [.int (nI (q)), .int (nI (x))]) (rest := []) (ci := 0) (q0 := 0) ⟨hx, hb, hml, hown, hts⟩ (met_X0_next l dC dI g dA N C ks as_ bs st sg (nI (ln)) (upd fn i (nI (x))) (nI (1)) u_1 q x hN hC hqb (by omega)) (cwV 2 hts (lw_V q117 q119 qs6 q25 q120) rfl rfl rfl (by decide +kernel) ⟨Nat.le_of_ble_eq_true rfl, Nat.le_of_ble_eq_true rfl⟩) hK hP rfl rfl rfl hl.1 rfl (Nat.le_of_ble_eq_true rfl) dX0_find_167 ⟨Nat.zero_le _, Nat.zero_le _⟩ (fun r_167 h_167 => ?_)
                subst h_167
                refine lv_istore (lv' := [(5, .int (nI (znx C q x N))), (3, .int (nI (lf - (zso N C ((ln - i) - 1) q x)))), (8, .int (nI (zso N C ((ln - i) - 1) q x))), (0, .ref (g 0)), (4, .int (nI (ln))), (6, .int (nI (i))), (7, .int (nI (x)))]) hx hb dX0_find_170 hl (by decide) rfl (fun ls hl => ?_)
                refine zn_iinc (a := i) (b := 1) (k := 5) (lv' := [(6, .int (nI (i + 1))), (5, .int (nI (znx C q x N))), (3, .int (nI (lf - (zso N C ((ln - i) - 1) q x)))), (8, .int (nI (zso N C ((ln - i) - 1) q x))), (0, .ref (g 0)), (4, .int (nI (ln))), (7, .int (nI (x)))]) hx hb dX0_find_172 hl rfl (by decide) rfl (fun ls hl => ?_)
                refine lv_goto (tgt := 85) hx hb dX0_find_175 (by decide) ?_
                exact ih85  (i + 1) (lf - (zso N C ((ln - i) - 1) q x)) (znx C q x N) (upd fn i (nI (x))) (zup f i x) (by omega) (by omega) (zfind_step c_89 hq hlf hso hsx).1 (znx_lt hN (by omega) (zreps_G hC (Nat.le_refl _))) (zfind_step c_89 hq hlf hso hsx).2.1 (zfind_step c_89 hq hlf hso hsx).2.2 (zfind_f hx3 hf) _ _ hP hD hS _ (lv_sub hl [4, 2, 5, 1, 0] rfl)
              have loop98 : ∀ (d98 : Nat) (x : Nat), 3 - x < d98 → x ≤ 3 → zso N C (ln - i - 1) q x ≤ lf → ∀ (ls : Array Slot), lv_has ls 9 [(0, .ref (g 0)), (3, .int (nI (lf))), (4, .int (nI (ln))), (5, .int (nI (q))), (6, .int (nI (i))), (7, .int (nI (x))), (8, .int (nI (0)))] → W p l e (headSpec (ws_ yX0_find cX0_find 9 (some .boolean)) ({ frames := 5, cells := 0, slots := 0, locals := 122 })).room s m ([.ref (g 0), .int ((nI (mv)))] : List Value).toArray below meth c H locs 0 0 (MQ below (va_Qi (S := Int32 × (Nat → Int32) × (Nat → Int32)) (fun r u => zTab N C u.2.2 ∧ ((r = nI 0 ∧ u.1 = fl ∧ u.2.1 = fd ∧ zNo N C (nI (mv))) ∨ (r = nI 1 ∧ ∃ (L : Nat) (f : Nat → Nat), zFf N C (nI (mv)) L f ∧ u.1 = nI L ∧ ∀ j, j < L → u.2.1 j = nI (f j)))) (zB (dC, dI) dA A (fun u => wX g dA (nI N) ks as_ bs st sg u.1 u.2.1 (nI 1) u.2.2)) A) ([.ref (g 0), .int ((nI (mv)))] : List Value).toArray s 0 0 (A)) (F0 m 98 ls []) := by
                intro d98
                induction d98 with
                | zero =>
                  intro x hd98
                  exact absurd hd98 (Nat.not_lt_zero _)
                | succ d98 ih98 =>
                  intro x hd98 hx3 hso ls hl
                  refine lv_iload hx hb dX0_find_98 (lv_at hl 5 rfl) ?_
                  refine lv_iconst (v := nI (3)) hx hb dX0_find_100 (by decide +kernel) ?_
                  refine zn_icmp_ge (tgt := 131) hx hb dX0_find_101 (by decide) (by omega) (by omega) (fun c_101 => ?_) (fun c_101 => ?_)
                  · exact join131 x (by omega) (by omega) (by rw [show x + 1 = 4 by omega]; exact zfind_top c_89 hlt) _ (lv_sub hl [0, 1, 2, 3, 4, 5, 6] rfl)
                  · refine lv_iload_n hx hb dX0_find_104 rfl (lv_at hl 1 rfl) ?_
                    refine lv_aload_n hx hb dX0_find_105 rfl (lv_at hl 0 rfl) ?_
                    refine lv_iload hx hb dX0_find_106 (lv_at hl 2 rfl) ?_
                    refine lv_iload hx hb dX0_find_108 (lv_at hl 4 rfl) ?_
                    refine zn_isub hx hb dX0_find_110 (by omega) ?_
                    refine lv_iconst (v := nI (1)) hx hb dX0_find_111 (by decide +kernel) ?_
                    refine zn_isub hx hb dX0_find_112 (by omega) ?_
                    refine lv_iload hx hb dX0_find_113 (lv_at hl 3 rfl) ?_
                    refine lv_iload hx hb dX0_find_115 (lv_at hl 5 rfl) ?_
                    refine lv_iconst (v := nI (1)) hx hb dX0_find_117 (by decide +kernel) ?_
                    refine zn_iadd hx hb dX0_find_118 ?_
                    refine zcallR (As := [.int (nI ((ln - i) - 1)), .int (nI (q)), .int (nI (x + 1))]) (rest := [.int (nI (lf))]) (ci := 0) (q0 := 0) ⟨hx, hb, hml, hown, hts⟩ (met_X0_sumOver l dC dI g dA N C ks as_ bs st sg (nI (ln)) fn (nI (1)) u_1 ((ln - i) - 1) q (x + 1) hN hC (by omega) hqb (by omega) (ztab_row hT (by omega))) (cwV 3 hts (lw_V q113 q115 qs5 q25 q116) rfl rfl rfl (by decide +kernel) ⟨Nat.le_of_ble_eq_true rfl, Nat.le_of_ble_eq_true rfl⟩) hK hP rfl rfl rfl hl.1 rfl (Nat.le_of_ble_eq_true rfl) dX0_find_119 ⟨Nat.zero_le _, Nat.zero_le _⟩ (fun r_119 h_119 => ?_)
                    subst h_119
                    have hz1 : zso N C (ln - i - 1) q (x + 1) ≤ 16384 := zso_le6 (by omega) q (by omega)
                    refine zn_icmp_lt (tgt := 131) hx hb dX0_find_122 (by decide) (by omega) (by omega) (fun c_122 => ?_) (fun c_122 => ?_)
                    · exact join131 x (by omega) (by omega) c_122 _ (lv_sub hl [0, 1, 2, 3, 4, 5, 6] rfl)
                    · refine zn_iinc (a := x) (b := 1) (k := 5) (lv' := [(7, .int (nI (x + 1))), (0, .ref (g 0)), (3, .int (nI (lf))), (4, .int (nI (ln))), (5, .int (nI (q))), (6, .int (nI (i))), (8, .int (nI (0)))]) hx hb dX0_find_125 hl rfl (by decide) rfl (fun ls hl => ?_)
                      refine lv_goto (tgt := 98) hx hb dX0_find_128 (by decide) ?_
                      exact ih98  (x + 1) (by omega) (by omega) c_122 _ (lv_sub hl [1, 2, 3, 4, 5, 0, 6] rfl)
              exact loop98 (_ + 1) 0 (Nat.lt_succ_self _) (by omega) (Nat.zero_le _) _ (lv_sub hl [2, 3, 4, 5, 6, 1, 0] rfl)
        exact loop85 (_ + 1) 0 lf 256 fd (fun _ => 0) (Nat.lt_succ_self _) (by omega) rfl (by decide) (by simp only [zrk]; omega) (by simpa using hlt) (fun j hj => absurd hj (Nat.not_lt_zero _)) _ _ hP hD hS _ (lv_sub hl [2, 3, 4, 1, 0] rfl)
      have loop21 : ∀ (d21 : Nat) (lf : Nat) (ln : Nat), 6 - ln < d21 → ln ≤ 6 → lf + zex N C 256 ln = mv → ∀ (ls : Array Slot), lv_has ls 9 [(0, .ref (g 0)), (3, .int (nI (lf))), (4, .int (nI (ln)))] → W p l e (headSpec (ws_ yX0_find cX0_find 9 (some .boolean)) ({ frames := 5, cells := 0, slots := 0, locals := 122 })).room s m ([.ref (g 0), .int ((nI (mv)))] : List Value).toArray below meth c H locs 0 0 (MQ below (va_Qi (S := Int32 × (Nat → Int32) × (Nat → Int32)) (fun r u => zTab N C u.2.2 ∧ ((r = nI 0 ∧ u.1 = fl ∧ u.2.1 = fd ∧ zNo N C (nI (mv))) ∨ (r = nI 1 ∧ ∃ (L : Nat) (f : Nat → Nat), zFf N C (nI (mv)) L f ∧ u.1 = nI L ∧ ∀ j, j < L → u.2.1 j = nI (f j)))) (zB (dC, dI) dA A (fun u => wX g dA (nI N) ks as_ bs st sg u.1 u.2.1 (nI 1) u.2.2)) A) ([.ref (g 0), .int ((nI (mv)))] : List Value).toArray s 0 0 (A)) (F0 m 21 ls []) := by
        intro d21
        induction d21 with
        | zero =>
          intro lf ln hd21
          exact absurd hd21 (Nat.not_lt_zero _)
        | succ d21 ih21 =>
          intro lf ln hd21 hln hlf ls hl
          refine lv_iload hx hb dX0_find_21 (lv_at hl 2 rfl) ?_
          refine lv_bipush (v := nI (6)) hx hb dX0_find_23 (by decide +kernel) ?_
          refine zn_icmp_ge (tgt := 71) hx hb dX0_find_25 (by decide) (by omega) (by omega) (fun c_25 => ?_) (fun c_25 => ?_)
          · exact join71 lf ln (by omega) (by omega) (zfind_len c_25 hln hlf hm) _ (lv_sub hl [0, 1, 2] rfl)
          · refine lv_iload_n hx hb dX0_find_28 rfl (lv_at hl 1 rfl) ?_
            refine lv_aload_n hx hb dX0_find_29 rfl (lv_at hl 0 rfl) ?_
            refine va_get (D := (dC, dI)) (ci := 0) (v := .ref (g 6)) (C := RX0) (T := TX0) (N := 10) hx hb hts in_X0 hown hK hP 0 rfl rfl 9 (by decide) (hts _ q44) (fun _ h9 => h9) rfl dX0_find_30 ?_
            refine lv_iload hx hb dX0_find_33 (lv_at hl 2 rfl) ?_
            refine lv_sipush (v := nI (320)) hx hb dX0_find_35 (by decide +kernel) ?_
            refine zn_imul hx hb dX0_find_38 ?_
            refine lv_sipush (v := nI (256)) hx hb dX0_find_39 (by decide +kernel) ?_
            refine zn_iadd hx hb dX0_find_42 ?_
            refine zn_iald (f := u_1) (i := (ln * 320) + 256) (v := nI (zwy N C ln 256)) hx hb hK hP 6 0 rfl rfl (by omega) (by decide) (hT ln (by omega) _ (by omega)) dX0_find_43 ?_
            have hwl := zwy_le6 (N := N) (C := C) (show ln ≤ 6 by omega) 256
            refine zn_icmp_lt (tgt := 71) hx hb dX0_find_44 (by decide) (by omega) (by omega) (fun c_44 => ?_) (fun c_44 => ?_)
            · exact join71 lf ln (by omega) (by omega) c_44 _ (lv_sub hl [0, 1, 2] rfl)
            · refine lv_iload_n hx hb dX0_find_47 rfl (lv_at hl 1 rfl) ?_
              refine lv_aload_n hx hb dX0_find_48 rfl (lv_at hl 0 rfl) ?_
              refine va_get (D := (dC, dI)) (ci := 0) (v := .ref (g 6)) (C := RX0) (T := TX0) (N := 10) hx hb hts in_X0 hown hK hP 0 rfl rfl 9 (by decide) (hts _ q44) (fun _ h9 => h9) rfl dX0_find_49 ?_
              refine lv_iload hx hb dX0_find_52 (lv_at hl 2 rfl) ?_
              refine lv_sipush (v := nI (320)) hx hb dX0_find_54 (by decide +kernel) ?_
              refine zn_imul hx hb dX0_find_57 ?_
              refine lv_sipush (v := nI (256)) hx hb dX0_find_58 (by decide +kernel) ?_
              refine zn_iadd hx hb dX0_find_61 ?_
              refine zn_iald (f := u_1) (i := (ln * 320) + 256) (v := nI (zwy N C ln 256)) hx hb hK hP 6 0 rfl rfl (by omega) (by decide) (hT ln (by omega) _ (by omega)) dX0_find_62 ?_
              refine zn_isub hx hb dX0_find_63 (by omega) ?_
              refine lv_istore_n (lv' := [(3, .int (nI (lf - (zwy N C ln 256)))), (0, .ref (g 0)), (4, .int (nI (ln)))]) hx hb dX0_find_64 rfl hl (by decide) rfl (fun ls hl => ?_)
              refine zn_iinc (a := ln) (b := 1) (k := 2) (lv' := [(4, .int (nI (ln + 1))), (3, .int (nI (lf - (zwy N C ln 256)))), (0, .ref (g 0))]) hx hb dX0_find_65 hl rfl (by decide) rfl (fun ls hl => ?_)
              refine lv_goto (tgt := 21) hx hb dX0_find_68 (by decide) ?_
              exact ih21  (lf - (zwy N C ln 256)) (ln + 1) (by omega) (by omega) (by simp only [zex]; omega) _ (lv_sub hl [2, 1, 0] rfl)
      exact loop21 (_ + 1) mv 0 (Nat.lt_succ_self _) (by omega) rfl _ (lv_sub hl [3, 1, 0] rfl)
    · refine lv_iconst (v := nI (0)) hx hb dX0_find_14 (by decide +kernel) ?_
      exact W.zret (v := nI (0)) hx hb hr rfl (fun t9 ht9 hW9 => ⟨⟨nI (0), (fl, fd, u_1), rfl, ⟨hT, Or.inl ⟨rfl, rfl, rfl, Or.inr (zle_nlt c_11)⟩⟩, by rw [ht9]; exact hP, va_K.moved hW9.alike hK, hD⟩, hS.F ht9⟩) hS.2.2 dX0_find_15
end
section
/-! ShrinkRanker: the public methods (written by gen/x0w.py) -/
set_option maxHeartbeats 8000000 in
set_option maxRecDepth 100000 in
theorem met_X0_condition (l : Launch) (dC : Nat → ClassId) (dI : Nat → Nat → Nat) (g : Nat → Nat) (dA : ClassId) (sz : Nat) (N : Nat) (C : zC) (ks as_ bs : Nat → Int32) (st : Int32) (sg : Nat → Int32) (fl : Int32) (fd : Nat → Int32) (rd : Int32) (wy : Nat → Int32) (kv av bv : Int32) (hN : N ≤ 3) (hC : zReps N C ks as_ bs) : zMetI (S := Int32 × (Nat → Int32) × (Nat → Int32) × (Nat → Int32) × Int32) l yX0_condition (ws_ yX0_condition cX0_condition 5 (some .int)) ({ frames := 2, cells := 0, slots := 0, locals := 44 }) (dC, dI) dA (wX g dA (nI (N)) ks as_ bs st sg fl fd rd wy) sz [.ref (g 0), .int (kv), .int (av), .int (bv)] (fun r u => r = zcr N kv av bv ∧ (zcok N kv av bv → u = (nI (N + 1), upd ks N kv, upd as_ N av, upd bs N bv, nI 0)) ∧ (¬ zcok N kv av bv → u = (nI N, ks, as_, bs, rd))) (fun u => wX g dA u.1 u.2.1 u.2.2.1 u.2.2.2.1 st sg fl fd u.2.2.2.2 wy) := by
  refine Met.ofW (cc := cX0_condition) (maxL := 5) (ret := (some .int)) (by decide) rfl ?_
  intro p e s m args below meth c s₁ B hml hv
  obtain ⟨rfl, hsz, hP, hK, hD0⟩ := hv
  have hx := B.exec
  have hb := B.bytes
  have hr := B.returns
  have hts := atoms_spec (ws := ws_ yX0_condition cX0_condition 5 (some .int)) B.pre
  have hts : ∀ w ∈ lw_all, w.before _ s = true := fun w h => hts w (List.mem_cons_of_mem _ h)
  have hown : s.vm.findClass RX0 = some m.cls := findClass_of_methodNamed B.named
  have hlocks := B.notSynchronized
  subst hsz
  have hD := hD0.self (sz := s.heap.size)
  generalize hAe : va_A (wX g dA (nI (N)) ks as_ bs st sg fl fd rd wy) s.heap.size = A at hD ⊢
  have hA : ∀ q : Nat, s.heap.size ≤ q → A q := fun q h => by rw [← hAe]; exact Or.inr h
  have hS : va_S A s.heap s.heap [] := va_S.rf
  clear hD0 hAe
  have hl := lv_entry ([.ref (g 0), .int (kv), .int (av), .int (bv)]) (n := 5) (Nat.le_of_ble_eq_true rfl)
  rw [lg_entry_eq]
  generalize (lg_sl ([.ref (g 0), .int (kv), .int (av), .int (bv)]) ++ List.replicate (5 - (lg_sl ([.ref (g 0), .int (kv), .int (av), .int (bv)])).length) Slot.unset).toArray = ls at hl ⊢
  have hl : lv_has ls 5 [(0, .ref (g 0)), (1, .int (kv)), (2, .int (av)), (3, .int (bv))] := hl
  refine lv_iload_n hx hb dX0_condition_0 rfl (lv_at hl 1 rfl) ?_
  refine lv_if_lt (x := kv) (tgt := 10) hx hb dX0_condition_1 (by decide) (fun c_1 => ?_) (fun c_1 => ?_)
  · refine lv_iconst (v := (-1)) hx hb dX0_condition_10 (by decide +kernel) ?_
    exact W.iret (v := (-1)) hx hb hr (fun t9 ht9 hW9 => ⟨⟨(-1), (nI N, ks, as_, bs, rd), rfl, ⟨by simp [zcr, c_1], fun h => absurd c_1 h.1, fun _ => rfl⟩, by rw [ht9]; exact hP, va_K.moved hW9.alike hK, hD⟩, hS.F ht9⟩) hS.2.2 dX0_condition_11
  · refine lv_iload_n hx hb dX0_condition_4 rfl (lv_at hl 1 rfl) ?_
    refine lv_bipush (v := nI (9)) hx hb dX0_condition_5 (by decide +kernel) ?_
    refine lv_icmp_le (x := kv) (y := nI (9)) (tgt := 12) hx hb dX0_condition_7 (by decide) (fun c_7 => ?_) (fun c_7 => ?_)
    · obtain ⟨k, hk9, rfl⟩ := nI_of2 (M := nI 9) (n := 9) (by decide +kernel) c_1 c_7
      have hcl : (nI k).toNatClampNeg = k := nI_clamp (by omega)
      refine lv_iload_n hx hb dX0_condition_12 rfl (lv_at hl 1 rfl) ?_
      refine lv_iload_n hx hb dX0_condition_13 rfl (lv_at hl 2 rfl) ?_
      refine lv_iload_n hx hb dX0_condition_14 rfl (lv_at hl 3 rfl) ?_
      refine zcallS (As := [.int (nI (k)), .int (av), .int (bv)]) (rest := []) ⟨hx, hb, hml, hown, hts⟩ (met_X0_goodNumbers l k av bv hk9) (va_cwS 3 hts (lw_S q71 q72 q25 q73) rfl rfl rfl (by decide +kernel) ⟨Nat.le_of_ble_eq_true rfl, Nat.le_of_ble_eq_true rfl⟩) rfl hl.1 rfl (Nat.le_of_ble_eq_true rfl) dX0_condition_15 ⟨Nat.zero_le _, Nat.zero_le _⟩ (fun r_15 h_15 => ?_)
      subst h_15
      refine lv_istore (lv' := [(4, .int (nI ((zgn k av bv).toNat))), (0, .ref (g 0)), (1, .int (nI (k))), (2, .int (av)), (3, .int (bv))]) hx hb dX0_condition_18 hl (by decide) rfl (fun ls hl => ?_)
      refine lv_iload hx hb dX0_condition_20 (lv_at hl 0 rfl) ?_
      refine zn_if_ne (tgt := 28) hx hb dX0_condition_22 (by decide) (zb_lt _) (fun c_22 => ?_) (fun c_22 => ?_)
      · have c_22 : (zgn k av bv) = true := zb_t c_22
        refine lv_aload_n hx hb dX0_condition_28 rfl (lv_at hl 1 rfl) ?_
        refine va_get (D := (dC, dI)) (ci := 0) (v := .int (nI (N))) (C := RX0) (T := TX0) (N := 10) hx hb hts in_X0 hown hK hP 0 rfl rfl 0 (by decide) (hts _ q35) (fun _ h9 => h9) rfl dX0_condition_29 ?_
        refine lv_iconst (v := nI (3)) hx hb dX0_condition_32 (by decide +kernel) ?_
        refine zn_icmp_lt (tgt := 39) hx hb dX0_condition_33 (by decide) (by omega) (by omega) (fun c_33 => ?_) (fun c_33 => ?_)
        · refine lv_aload_n hx hb dX0_condition_39 rfl (lv_at hl 1 rfl) ?_
          refine va_get (D := (dC, dI)) (ci := 0) (v := .ref (g 1)) (C := RX0) (T := TX0) (N := 10) hx hb hts in_X0 hown hK hP 0 rfl rfl 1 (by decide) (hts _ q36) (fun _ h9 => h9) rfl dX0_condition_40 ?_
          refine lv_aload_n hx hb dX0_condition_43 rfl (lv_at hl 1 rfl) ?_
          refine va_get (D := (dC, dI)) (ci := 0) (v := .int (nI (N))) (C := RX0) (T := TX0) (N := 10) hx hb hts in_X0 hown hK hP 0 rfl rfl 0 (by decide) (hts _ q35) (fun _ h9 => h9) rfl dX0_condition_44 ?_
          refine lv_iload_n hx hb dX0_condition_47 rfl (lv_at hl 2 rfl) ?_
          refine zn_iast (f := ks) (i := N) (x := nI (k)) hx hb hK hP hD hS 1 0 rfl rfl (by omega) (by decide) dX0_condition_48 (fun H locs hP hD hS => ?_)
          have hP : va_P (dC, dI) zCl (wX g dA (nI (N)) (upd ks N (nI (k))) as_ bs st sg fl fd rd wy) H := hP
          have hD : va_D A (wX g dA (nI (N)) (upd ks N (nI (k))) as_ bs st sg fl fd rd wy) := hD
          refine lv_aload_n hx hb dX0_condition_49 rfl (lv_at hl 1 rfl) ?_
          refine va_get (D := (dC, dI)) (ci := 0) (v := .ref (g 2)) (C := RX0) (T := TX0) (N := 10) hx hb hts in_X0 hown hK hP 0 rfl rfl 2 (by decide) (hts _ q37) (fun _ h9 => h9) rfl dX0_condition_50 ?_
          refine lv_aload_n hx hb dX0_condition_53 rfl (lv_at hl 1 rfl) ?_
          refine va_get (D := (dC, dI)) (ci := 0) (v := .int (nI (N))) (C := RX0) (T := TX0) (N := 10) hx hb hts in_X0 hown hK hP 0 rfl rfl 0 (by decide) (hts _ q35) (fun _ h9 => h9) rfl dX0_condition_54 ?_
          refine lv_iload_n hx hb dX0_condition_57 rfl (lv_at hl 3 rfl) ?_
          refine zn_iast (f := as_) (i := N) (x := av) hx hb hK hP hD hS 2 0 rfl rfl (by omega) (by decide) dX0_condition_58 (fun H locs hP hD hS => ?_)
          have hP : va_P (dC, dI) zCl (wX g dA (nI (N)) (upd ks N (nI (k))) (upd as_ N av) bs st sg fl fd rd wy) H := hP
          have hD : va_D A (wX g dA (nI (N)) (upd ks N (nI (k))) (upd as_ N av) bs st sg fl fd rd wy) := hD
          refine lv_aload_n hx hb dX0_condition_59 rfl (lv_at hl 1 rfl) ?_
          refine va_get (D := (dC, dI)) (ci := 0) (v := .ref (g 3)) (C := RX0) (T := TX0) (N := 10) hx hb hts in_X0 hown hK hP 0 rfl rfl 3 (by decide) (hts _ q38) (fun _ h9 => h9) rfl dX0_condition_60 ?_
          refine lv_aload_n hx hb dX0_condition_63 rfl (lv_at hl 1 rfl) ?_
          refine va_get (D := (dC, dI)) (ci := 0) (v := .int (nI (N))) (C := RX0) (T := TX0) (N := 10) hx hb hts in_X0 hown hK hP 0 rfl rfl 0 (by decide) (hts _ q35) (fun _ h9 => h9) rfl dX0_condition_64 ?_
          refine lv_iload_n hx hb dX0_condition_67 rfl (lv_at hl 4 rfl) ?_
          refine zn_iast (f := bs) (i := N) (x := bv) hx hb hK hP hD hS 3 0 rfl rfl (by omega) (by decide) dX0_condition_68 (fun H locs hP hD hS => ?_)
          have hP : va_P (dC, dI) zCl (wX g dA (nI (N)) (upd ks N (nI (k))) (upd as_ N av) (upd bs N bv) st sg fl fd rd wy) H := hP
          have hD : va_D A (wX g dA (nI (N)) (upd ks N (nI (k))) (upd as_ N av) (upd bs N bv) st sg fl fd rd wy) := hD
          refine lv_aload_n hx hb dX0_condition_69 rfl (lv_at hl 1 rfl) ?_
          refine lv_dup hx hb dX0_condition_70 rfl ?_
          refine va_get (D := (dC, dI)) (ci := 0) (v := .int (nI (N))) (C := RX0) (T := TX0) (N := 10) hx hb hts in_X0 hown hK hP 0 rfl rfl 0 (by decide) (hts _ q35) (fun _ h9 => h9) rfl dX0_condition_71 ?_
          refine lv_iconst (v := nI (1)) hx hb dX0_condition_74 (by decide +kernel) ?_
          refine zn_iadd hx hb dX0_condition_75 ?_
          refine va_put (D := (dC, dI)) (ci := 0) (v := .int (nI (N + 1))) (ty := .int) (C := RX0) (T := TX0) (N := 10) hx hb hts in_X0 tyX0 tyX0_ok nmX0 hown hK hP hD hS 0 rfl rfl 0 (by decide) (hts _ q35) (fun _ h9 => h9) rfl (by decide +kernel) rfl rfl (Nat.le_of_ble_eq_true rfl) dX0_condition_76 (fun H locs hP hD hS => ?_)
          have hP : va_P (dC, dI) zCl (wX g dA (nI (N + 1)) (upd ks N (nI (k))) (upd as_ N av) (upd bs N bv) st sg fl fd rd wy) H := hP
          have hD : va_D A (wX g dA (nI (N + 1)) (upd ks N (nI (k))) (upd as_ N av) (upd bs N bv) st sg fl fd rd wy) := hD
          refine lv_aload_n hx hb dX0_condition_79 rfl (lv_at hl 1 rfl) ?_
          refine lv_iconst (v := nI (0)) hx hb dX0_condition_80 (by decide +kernel) ?_
          refine va_put (D := (dC, dI)) (ci := 0) (v := .int (nI (0))) (ty := .boolean) (C := RX0) (T := TX0) (N := 10) hx hb hts in_X0 tyX0 tyX0_ok nmX0 hown hK hP hD hS 0 rfl rfl 8 (by decide) (hts _ q43) (fun _ h9 => h9) rfl (by decide +kernel) rfl rfl (Nat.le_of_ble_eq_true rfl) dX0_condition_81 (fun H locs hP hD hS => ?_)
          have hP : va_P (dC, dI) zCl (wX g dA (nI (N + 1)) (upd ks N (nI (k))) (upd as_ N av) (upd bs N bv) st sg fl fd (nI (0)) wy) H := hP
          have hD : va_D A (wX g dA (nI (N + 1)) (upd ks N (nI (k))) (upd as_ N av) (upd bs N bv) st sg fl fd (nI (0)) wy) := hD
          refine lv_aload_n hx hb dX0_condition_84 rfl (lv_at hl 1 rfl) ?_
          refine va_get (D := (dC, dI)) (ci := 0) (v := .int (nI (N + 1))) (C := RX0) (T := TX0) (N := 10) hx hb hts in_X0 hown hK hP 0 rfl rfl 0 (by decide) (hts _ q35) (fun _ h9 => h9) rfl dX0_condition_85 ?_
          exact W.iret (v := nI (N + 1)) hx hb hr (fun t9 ht9 hW9 => ⟨⟨nI (N + 1), (nI (N + 1), upd ks N (nI k), upd as_ N av, upd bs N bv, nI 0), rfl, ⟨by simp [zcr, c_1, c_7, hcl, c_22, Nat.not_le.mpr c_33], fun _ => rfl, fun h => absurd ⟨c_1, c_7, by rw [hcl]; exact c_22, c_33⟩ h⟩, by rw [ht9]; exact hP, va_K.moved hW9.alike hK, hD⟩, hS.F ht9⟩) hS.2.2 dX0_condition_88
        · refine lv_bipush (v := (-3)) hx hb dX0_condition_36 (by decide +kernel) ?_
          exact W.iret (v := (-3)) hx hb hr (fun t9 ht9 hW9 => ⟨⟨(-3), (nI N, ks, as_, bs, rd), rfl, ⟨by simp [zcr, c_1, c_7, hcl, c_22, c_33], fun h => absurd h.2.2.2 (Nat.not_lt.mpr c_33), fun _ => rfl⟩, by rw [ht9]; exact hP, va_K.moved hW9.alike hK, hD⟩, hS.F ht9⟩) hS.2.2 dX0_condition_38
      · have c_22 : (zgn k av bv) = false := zb_f c_22
        refine lv_bipush (v := (-2)) hx hb dX0_condition_25 (by decide +kernel) ?_
        exact W.iret (v := (-2)) hx hb hr (fun t9 ht9 hW9 => ⟨⟨(-2), (nI N, ks, as_, bs, rd), rfl, ⟨by simp [zcr, c_1, c_7, hcl, c_22], (fun h => by have z := h.2.2.1; rw [hcl, c_22] at z; cases z), fun _ => rfl⟩, by rw [ht9]; exact hP, va_K.moved hW9.alike hK, hD⟩, hS.F ht9⟩) hS.2.2 dX0_condition_27
    · refine lv_iconst (v := (-1)) hx hb dX0_condition_10 (by decide +kernel) ?_
      exact W.iret (v := (-1)) hx hb hr (fun t9 ht9 hW9 => ⟨⟨(-1), (nI N, ks, as_, bs, rd), rfl, ⟨by simp [zcr, c_1, c_7], fun h => absurd h.2.1 c_7, fun _ => rfl⟩, by rw [ht9]; exact hP, va_K.moved hW9.alike hK, hD⟩, hS.F ht9⟩) hS.2.2 dX0_condition_11
set_option maxHeartbeats 8000000 in
set_option maxRecDepth 100000 in
theorem met_X0_drop (l : Launch) (dC : Nat → ClassId) (dI : Nat → Nat → Nat) (g : Nat → Nat) (dA : ClassId) (sz : Nat) (N : Nat) (C : zC) (ks as_ bs : Nat → Int32) (st : Int32) (sg : Nat → Int32) (fl : Int32) (fd : Nat → Int32) (rd : Int32) (wy : Nat → Int32) (hN : N ≤ 3) (hC : zReps N C ks as_ bs) : zMetI (S := Int32 × Int32) l yX0_drop (ws_ yX0_drop cX0_drop 1 (some .int)) ({ frames := 0, cells := 0, slots := 0, locals := 0 }) (dC, dI) dA (wX g dA (nI (N)) ks as_ bs st sg fl fd rd wy) sz [.ref (g 0)] (fun r u => r = (if N = 0 then -4 else nI (N - 1)) ∧ u = (if N = 0 then (nI N, rd) else (nI (N - 1), nI 0))) (fun u => wX g dA u.1 ks as_ bs st sg fl fd u.2 wy) := by
  refine Met.ofW (cc := cX0_drop) (maxL := 1) (ret := (some .int)) (by decide) rfl ?_
  intro p e s m args below meth c s₁ B hml hv
  obtain ⟨rfl, hsz, hP, hK, hD0⟩ := hv
  have hx := B.exec
  have hb := B.bytes
  have hr := B.returns
  have hts := atoms_spec (ws := ws_ yX0_drop cX0_drop 1 (some .int)) B.pre
  have hts : ∀ w ∈ lw_all, w.before _ s = true := fun w h => hts w (List.mem_cons_of_mem _ h)
  have hown : s.vm.findClass RX0 = some m.cls := findClass_of_methodNamed B.named
  have hlocks := B.notSynchronized
  subst hsz
  have hD := hD0.self (sz := s.heap.size)
  generalize hAe : va_A (wX g dA (nI (N)) ks as_ bs st sg fl fd rd wy) s.heap.size = A at hD ⊢
  have hA : ∀ q : Nat, s.heap.size ≤ q → A q := fun q h => by rw [← hAe]; exact Or.inr h
  have hS : va_S A s.heap s.heap [] := va_S.rf
  clear hD0 hAe
  have hl := lv_entry ([.ref (g 0)]) (n := 1) (Nat.le_of_ble_eq_true rfl)
  rw [lg_entry_eq]
  generalize (lg_sl ([.ref (g 0)]) ++ List.replicate (1 - (lg_sl ([.ref (g 0)])).length) Slot.unset).toArray = ls at hl ⊢
  have hl : lv_has ls 1 [(0, .ref (g 0))] := hl
  refine lv_aload_n hx hb dX0_drop_0 rfl (lv_at hl 0 rfl) ?_
  refine va_get (D := (dC, dI)) (ci := 0) (v := .int (nI (N))) (C := RX0) (T := TX0) (N := 10) hx hb hts in_X0 hown hK hP 0 rfl rfl 0 (by decide) (hts _ q35) (fun _ h9 => h9) rfl dX0_drop_1 ?_
  refine zn_if_ne (tgt := 10) hx hb dX0_drop_4 (by decide) (by omega) (fun c_4 => ?_) (fun c_4 => ?_)
  · refine lv_aload_n hx hb dX0_drop_10 rfl (lv_at hl 0 rfl) ?_
    refine lv_dup hx hb dX0_drop_11 rfl ?_
    refine va_get (D := (dC, dI)) (ci := 0) (v := .int (nI (N))) (C := RX0) (T := TX0) (N := 10) hx hb hts in_X0 hown hK hP 0 rfl rfl 0 (by decide) (hts _ q35) (fun _ h9 => h9) rfl dX0_drop_12 ?_
    refine lv_iconst (v := nI (1)) hx hb dX0_drop_15 (by decide +kernel) ?_
    refine zn_isub hx hb dX0_drop_16 (by omega) ?_
    refine va_put (D := (dC, dI)) (ci := 0) (v := .int (nI (N - 1))) (ty := .int) (C := RX0) (T := TX0) (N := 10) hx hb hts in_X0 tyX0 tyX0_ok nmX0 hown hK hP hD hS 0 rfl rfl 0 (by decide) (hts _ q35) (fun _ h9 => h9) rfl (by decide +kernel) rfl rfl (Nat.le_of_ble_eq_true rfl) dX0_drop_17 (fun H locs hP hD hS => ?_)
    have hP : va_P (dC, dI) zCl (wX g dA (nI (N - 1)) ks as_ bs st sg fl fd rd wy) H := hP
    have hD : va_D A (wX g dA (nI (N - 1)) ks as_ bs st sg fl fd rd wy) := hD
    refine lv_aload_n hx hb dX0_drop_20 rfl (lv_at hl 0 rfl) ?_
    refine lv_iconst (v := nI (0)) hx hb dX0_drop_21 (by decide +kernel) ?_
    refine va_put (D := (dC, dI)) (ci := 0) (v := .int (nI (0))) (ty := .boolean) (C := RX0) (T := TX0) (N := 10) hx hb hts in_X0 tyX0 tyX0_ok nmX0 hown hK hP hD hS 0 rfl rfl 8 (by decide) (hts _ q43) (fun _ h9 => h9) rfl (by decide +kernel) rfl rfl (Nat.le_of_ble_eq_true rfl) dX0_drop_22 (fun H locs hP hD hS => ?_)
    have hP : va_P (dC, dI) zCl (wX g dA (nI (N - 1)) ks as_ bs st sg fl fd (nI (0)) wy) H := hP
    have hD : va_D A (wX g dA (nI (N - 1)) ks as_ bs st sg fl fd (nI (0)) wy) := hD
    refine lv_aload_n hx hb dX0_drop_25 rfl (lv_at hl 0 rfl) ?_
    refine va_get (D := (dC, dI)) (ci := 0) (v := .int (nI (N - 1))) (C := RX0) (T := TX0) (N := 10) hx hb hts in_X0 hown hK hP 0 rfl rfl 0 (by decide) (hts _ q35) (fun _ h9 => h9) rfl dX0_drop_26 ?_
    exact W.iret (v := nI (N - 1)) hx hb hr (fun t9 ht9 hW9 => ⟨⟨nI (N - 1), (nI (N - 1), nI 0), rfl, ⟨by rw [if_neg c_4], by rw [if_neg c_4]⟩, by rw [ht9]; exact hP, va_K.moved hW9.alike hK, hD⟩, hS.F ht9⟩) hS.2.2 dX0_drop_29
  · refine lv_bipush (v := (-4)) hx hb dX0_drop_7 (by decide +kernel) ?_
    exact W.iret (v := (-4)) hx hb hr (fun t9 ht9 hW9 => ⟨⟨(-4), (nI N, rd), rfl, ⟨by rw [if_pos c_4], by rw [if_pos c_4]⟩, by rw [ht9]; exact hP, va_K.moved hW9.alike hK, hD⟩, hS.F ht9⟩) hS.2.2 dX0_drop_9
set_option maxHeartbeats 8000000 in
set_option maxRecDepth 100000 in
theorem met_X0_push (l : Launch) (dC : Nat → ClassId) (dI : Nat → Nat → Nat) (g : Nat → Nat) (dA : ClassId) (sz : Nat) (N : Nat) (C : zC) (ks as_ bs : Nat → Int32) (L : Nat) (sg : Nat → Int32) (fl : Int32) (fd : Nat → Int32) (rd : Int32) (wy : Nat → Int32) (xi : Int32) (hN : N ≤ 3) (hC : zReps N C ks as_ bs) (hL : L ≤ 6) : zMetI (S := Int32 × (Nat → Int32)) l yX0_push (ws_ yX0_push cX0_push 2 (some .int)) ({ frames := 0, cells := 0, slots := 0, locals := 0 }) (dC, dI) dA (wX g dA (nI (N)) ks as_ bs (nI (L)) sg fl fd rd wy) sz [.ref (g 0), .int (xi)] (fun r u => r = zpu L xi ∧ (zpk L xi → u = (nI (L + 1), upd sg L xi)) ∧ (¬ zpk L xi → u = (nI L, sg))) (fun u => wX g dA (nI N) ks as_ bs u.1 u.2 fl fd rd wy) := by
  refine Met.ofW (cc := cX0_push) (maxL := 2) (ret := (some .int)) (by decide) rfl ?_
  intro p e s m args below meth c s₁ B hml hv
  obtain ⟨rfl, hsz, hP, hK, hD0⟩ := hv
  have hx := B.exec
  have hb := B.bytes
  have hr := B.returns
  have hts := atoms_spec (ws := ws_ yX0_push cX0_push 2 (some .int)) B.pre
  have hts : ∀ w ∈ lw_all, w.before _ s = true := fun w h => hts w (List.mem_cons_of_mem _ h)
  have hown : s.vm.findClass RX0 = some m.cls := findClass_of_methodNamed B.named
  have hlocks := B.notSynchronized
  subst hsz
  have hD := hD0.self (sz := s.heap.size)
  generalize hAe : va_A (wX g dA (nI (N)) ks as_ bs (nI (L)) sg fl fd rd wy) s.heap.size = A at hD ⊢
  have hA : ∀ q : Nat, s.heap.size ≤ q → A q := fun q h => by rw [← hAe]; exact Or.inr h
  have hS : va_S A s.heap s.heap [] := va_S.rf
  clear hD0 hAe
  have hl := lv_entry ([.ref (g 0), .int (xi)]) (n := 2) (Nat.le_of_ble_eq_true rfl)
  rw [lg_entry_eq]
  generalize (lg_sl ([.ref (g 0), .int (xi)]) ++ List.replicate (2 - (lg_sl ([.ref (g 0), .int (xi)])).length) Slot.unset).toArray = ls at hl ⊢
  have hl : lv_has ls 2 [(0, .ref (g 0)), (1, .int (xi))] := hl
  refine lv_iload_n hx hb dX0_push_0 rfl (lv_at hl 1 rfl) ?_
  refine lv_if_lt (x := xi) (tgt := 9) hx hb dX0_push_1 (by decide) (fun c_1 => ?_) (fun c_1 => ?_)
  · refine lv_bipush (v := (-2)) hx hb dX0_push_9 (by decide +kernel) ?_
    exact W.iret (v := (-2)) hx hb hr (fun t9 ht9 hW9 => ⟨⟨(-2), (nI L, sg), rfl, ⟨by simp [zpu, c_1], fun h => absurd c_1 h.1, fun _ => rfl⟩, by rw [ht9]; exact hP, va_K.moved hW9.alike hK, hD⟩, hS.F ht9⟩) hS.2.2 dX0_push_11
  · refine lv_iload_n hx hb dX0_push_4 rfl (lv_at hl 1 rfl) ?_
    refine lv_iconst (v := nI (3)) hx hb dX0_push_5 (by decide +kernel) ?_
    refine lv_icmp_le (x := xi) (y := nI (3)) (tgt := 12) hx hb dX0_push_6 (by decide) (fun c_6 => ?_) (fun c_6 => ?_)
    · refine lv_aload_n hx hb dX0_push_12 rfl (lv_at hl 0 rfl) ?_
      refine va_get (D := (dC, dI)) (ci := 0) (v := .int (nI (L))) (C := RX0) (T := TX0) (N := 10) hx hb hts in_X0 hown hK hP 0 rfl rfl 4 (by decide) (hts _ q39) (fun _ h9 => h9) rfl dX0_push_13 ?_
      refine lv_bipush (v := nI (6)) hx hb dX0_push_16 (by decide +kernel) ?_
      refine zn_icmp_lt (tgt := 24) hx hb dX0_push_18 (by decide) (by omega) (by omega) (fun c_18 => ?_) (fun c_18 => ?_)
      · refine lv_aload_n hx hb dX0_push_24 rfl (lv_at hl 0 rfl) ?_
        refine va_get (D := (dC, dI)) (ci := 0) (v := .ref (g 4)) (C := RX0) (T := TX0) (N := 10) hx hb hts in_X0 hown hK hP 0 rfl rfl 5 (by decide) (hts _ q40) (fun _ h9 => h9) rfl dX0_push_25 ?_
        refine lv_aload_n hx hb dX0_push_28 rfl (lv_at hl 0 rfl) ?_
        refine va_get (D := (dC, dI)) (ci := 0) (v := .int (nI (L))) (C := RX0) (T := TX0) (N := 10) hx hb hts in_X0 hown hK hP 0 rfl rfl 4 (by decide) (hts _ q39) (fun _ h9 => h9) rfl dX0_push_29 ?_
        refine lv_iload_n hx hb dX0_push_32 rfl (lv_at hl 1 rfl) ?_
        refine zn_iast (f := sg) (i := L) (x := xi) hx hb hK hP hD hS 4 0 rfl rfl (by omega) (by decide) dX0_push_33 (fun H locs hP hD hS => ?_)
        have hP : va_P (dC, dI) zCl (wX g dA (nI (N)) ks as_ bs (nI (L)) (upd sg L xi) fl fd rd wy) H := hP
        have hD : va_D A (wX g dA (nI (N)) ks as_ bs (nI (L)) (upd sg L xi) fl fd rd wy) := hD
        refine lv_aload_n hx hb dX0_push_34 rfl (lv_at hl 0 rfl) ?_
        refine lv_dup hx hb dX0_push_35 rfl ?_
        refine va_get (D := (dC, dI)) (ci := 0) (v := .int (nI (L))) (C := RX0) (T := TX0) (N := 10) hx hb hts in_X0 hown hK hP 0 rfl rfl 4 (by decide) (hts _ q39) (fun _ h9 => h9) rfl dX0_push_36 ?_
        refine lv_iconst (v := nI (1)) hx hb dX0_push_39 (by decide +kernel) ?_
        refine zn_iadd hx hb dX0_push_40 ?_
        refine va_put (D := (dC, dI)) (ci := 0) (v := .int (nI (L + 1))) (ty := .int) (C := RX0) (T := TX0) (N := 10) hx hb hts in_X0 tyX0 tyX0_ok nmX0 hown hK hP hD hS 0 rfl rfl 4 (by decide) (hts _ q39) (fun _ h9 => h9) rfl (by decide +kernel) rfl rfl (Nat.le_of_ble_eq_true rfl) dX0_push_41 (fun H locs hP hD hS => ?_)
        have hP : va_P (dC, dI) zCl (wX g dA (nI (N)) ks as_ bs (nI (L + 1)) (upd sg L xi) fl fd rd wy) H := hP
        have hD : va_D A (wX g dA (nI (N)) ks as_ bs (nI (L + 1)) (upd sg L xi) fl fd rd wy) := hD
        refine lv_aload_n hx hb dX0_push_44 rfl (lv_at hl 0 rfl) ?_
        refine va_get (D := (dC, dI)) (ci := 0) (v := .int (nI (L + 1))) (C := RX0) (T := TX0) (N := 10) hx hb hts in_X0 hown hK hP 0 rfl rfl 4 (by decide) (hts _ q39) (fun _ h9 => h9) rfl dX0_push_45 ?_
        exact W.iret (v := nI (L + 1)) hx hb hr (fun t9 ht9 hW9 => ⟨⟨nI (L + 1), (nI (L + 1), upd sg L xi), rfl, ⟨by simp [zpu, c_1, c_6, Nat.not_le.mpr c_18], fun _ => rfl, fun h => absurd ⟨c_1, c_6, c_18⟩ h⟩, by rw [ht9]; exact hP, va_K.moved hW9.alike hK, hD⟩, hS.F ht9⟩) hS.2.2 dX0_push_48
      · refine lv_bipush (v := (-3)) hx hb dX0_push_21 (by decide +kernel) ?_
        exact W.iret (v := (-3)) hx hb hr (fun t9 ht9 hW9 => ⟨⟨(-3), (nI L, sg), rfl, ⟨by simp [zpu, c_1, c_6, c_18], fun h => absurd h.2.2 (Nat.not_lt.mpr c_18), fun _ => rfl⟩, by rw [ht9]; exact hP, va_K.moved hW9.alike hK, hD⟩, hS.F ht9⟩) hS.2.2 dX0_push_23
    · refine lv_bipush (v := (-2)) hx hb dX0_push_9 (by decide +kernel) ?_
      exact W.iret (v := (-2)) hx hb hr (fun t9 ht9 hW9 => ⟨⟨(-2), (nI L, sg), rfl, ⟨by simp [zpu, c_1, c_6], fun h => absurd h.2.1 c_6, fun _ => rfl⟩, by rw [ht9]; exact hP, va_K.moved hW9.alike hK, hD⟩, hS.F ht9⟩) hS.2.2 dX0_push_11
set_option maxHeartbeats 8000000 in
set_option maxRecDepth 100000 in
theorem met_X0_empty (l : Launch) (dC : Nat → ClassId) (dI : Nat → Nat → Nat) (g : Nat → Nat) (dA : ClassId) (sz : Nat) (N : Nat) (C : zC) (ks as_ bs : Nat → Int32) (st : Int32) (sg : Nat → Int32) (fl : Int32) (fd : Nat → Int32) (rd : Int32) (wy : Nat → Int32) (hN : N ≤ 3) (hC : zReps N C ks as_ bs) : zMetV (S := Unit) l yX0_empty (ws_ yX0_empty cX0_empty 1 none) ({ frames := 0, cells := 0, slots := 0, locals := 0 }) (dC, dI) dA (wX g dA (nI (N)) ks as_ bs st sg fl fd rd wy) sz [.ref (g 0)] (fun _ => True) (fun _ => wX g dA (nI N) ks as_ bs (nI 0) sg fl fd rd wy) := by
  refine Met.ofW (cc := cX0_empty) (maxL := 1) (ret := none) (by decide) rfl ?_
  intro p e s m args below meth c s₁ B hml hv
  obtain ⟨rfl, hsz, hP, hK, hD0⟩ := hv
  have hx := B.exec
  have hb := B.bytes
  have hr := B.returns
  have hts := atoms_spec (ws := ws_ yX0_empty cX0_empty 1 none) B.pre
  have hts : ∀ w ∈ lw_all, w.before _ s = true := fun w h => hts w (List.mem_cons_of_mem _ h)
  have hown : s.vm.findClass RX0 = some m.cls := findClass_of_methodNamed B.named
  have hlocks := B.notSynchronized
  subst hsz
  have hD := hD0.self (sz := s.heap.size)
  generalize hAe : va_A (wX g dA (nI (N)) ks as_ bs st sg fl fd rd wy) s.heap.size = A at hD ⊢
  have hA : ∀ q : Nat, s.heap.size ≤ q → A q := fun q h => by rw [← hAe]; exact Or.inr h
  have hS : va_S A s.heap s.heap [] := va_S.rf
  clear hD0 hAe
  have hl := lv_entry ([.ref (g 0)]) (n := 1) (Nat.le_of_ble_eq_true rfl)
  rw [lg_entry_eq]
  generalize (lg_sl ([.ref (g 0)]) ++ List.replicate (1 - (lg_sl ([.ref (g 0)])).length) Slot.unset).toArray = ls at hl ⊢
  have hl : lv_has ls 1 [(0, .ref (g 0))] := hl
  refine lv_aload_n hx hb dX0_empty_0 rfl (lv_at hl 0 rfl) ?_
  refine lv_iconst (v := nI (0)) hx hb dX0_empty_1 (by decide +kernel) ?_
  refine va_put (D := (dC, dI)) (ci := 0) (v := .int (nI (0))) (ty := .int) (C := RX0) (T := TX0) (N := 10) hx hb hts in_X0 tyX0 tyX0_ok nmX0 hown hK hP hD hS 0 rfl rfl 4 (by decide) (hts _ q39) (fun _ h9 => h9) rfl (by decide +kernel) rfl rfl (Nat.le_of_ble_eq_true rfl) dX0_empty_2 (fun H locs hP hD hS => ?_)
  have hP : va_P (dC, dI) zCl (wX g dA (nI (N)) ks as_ bs (nI (0)) sg fl fd rd wy) H := hP
  have hD : va_D A (wX g dA (nI (N)) ks as_ bs (nI (0)) sg fl fd rd wy) := hD
  exact W.vret hx hb hr (fun t9 ht9 hW9 => ⟨⟨(), rfl, trivial, by rw [ht9]; exact hP, va_K.moved hW9.alike hK, hD⟩, hS.F ht9⟩) hS.2.2 dX0_empty_5
set_option maxHeartbeats 8000000 in
set_option maxRecDepth 100000 in
theorem met_X0_load (l : Launch) (dC : Nat → ClassId) (dI : Nat → Nat → Nat) (g : Nat → Nat) (dA : ClassId) (sz : Nat) (N : Nat) (C : zC) (ks as_ bs : Nat → Int32) (st : Int32) (sg : Nat → Int32) (fl : Int32) (fd : Nat → Int32) (rd : Int32) (wy : Nat → Int32) (xi : Int32) (hN : N ≤ 3) (hC : zReps N C ks as_ bs) (h_r : zRdy N C rd wy) : zMetI (S := Int32 × (Nat → Int32) × Int32 × (Nat → Int32) × (Nat → Int32)) l yX0_load (ws_ yX0_load cX0_load 4 (some .int)) ({ frames := 6, cells := 0, slots := 0, locals := 150 }) (dC, dI) dA (wX g dA (nI (N)) ks as_ bs st sg fl fd rd wy) sz [.ref (g 0), .int (xi)] (fun r u => zTab N C u.2.2.2.2 ∧ ((r = -4 ∧ u.1 = st ∧ u.2.1 = sg ∧ zNo N C xi) ∨ (∃ (L : Nat) (f : Nat → Nat), zFf N C xi L f ∧ r = nI L ∧ u.1 = nI L ∧ ∀ j, j < L → u.2.1 j = nI (f j)))) (fun u => wX g dA (nI N) ks as_ bs u.1 u.2.1 u.2.2.1 u.2.2.2.1 (nI 1) u.2.2.2.2) := by
  refine Met.ofW (cc := cX0_load) (maxL := 4) (ret := (some .int)) (by decide) rfl ?_
  intro p e s m args below meth c s₁ B hml hv
  obtain ⟨rfl, hsz, hP, hK, hD0⟩ := hv
  have hx := B.exec
  have hb := B.bytes
  have hr := B.returns
  have hts := atoms_spec (ws := ws_ yX0_load cX0_load 4 (some .int)) B.pre
  have hts : ∀ w ∈ lw_all, w.before _ s = true := fun w h => hts w (List.mem_cons_of_mem _ h)
  have hown : s.vm.findClass RX0 = some m.cls := findClass_of_methodNamed B.named
  have hlocks := B.notSynchronized
  subst hsz
  have hD := hD0.self (sz := s.heap.size)
  generalize hAe : va_A (wX g dA (nI (N)) ks as_ bs st sg fl fd rd wy) s.heap.size = A at hD ⊢
  have hA : ∀ q : Nat, s.heap.size ≤ q → A q := fun q h => by rw [← hAe]; exact Or.inr h
  have hS : va_S A s.heap s.heap [] := va_S.rf
  clear hD0 hAe
  have hl := lv_entry ([.ref (g 0), .int (xi)]) (n := 4) (Nat.le_of_ble_eq_true rfl)
  rw [lg_entry_eq]
  generalize (lg_sl ([.ref (g 0), .int (xi)]) ++ List.replicate (4 - (lg_sl ([.ref (g 0), .int (xi)])).length) Slot.unset).toArray = ls at hl ⊢
  have hl : lv_has ls 4 [(0, .ref (g 0)), (1, .int (xi))] := hl
  refine lv_aload_n hx hb dX0_load_0 rfl (lv_at hl 0 rfl) ?_
  refine lv_iload_n hx hb dX0_load_1 rfl (lv_at hl 1 rfl) ?_
  refine zcallMi (As := [.int (xi)]) (rest := []) (wr := []) (ci := 0) (q0 := 0) [0, 1, 2, 3, 4, 5, 6] [] ⟨hx, hb, hml, hown, hts⟩ (met_X0_find l dC dI g dA s.heap.size N C ks as_ bs st sg fl fd rd wy xi hN hC h_r) (cwV 1 hts (lw_V q93 q95 qs0 q25 q96) rfl rfl rfl (by decide +kernel) ⟨Nat.le_of_ble_eq_true rfl, Nat.le_of_ble_eq_true rfl⟩) hK hP hD hS hA rfl rfl (by decide) (by decide) (by decide) rfl rfl rfl hl.1 rfl (Nat.le_of_ble_eq_true rfl) dX0_load_2 ⟨Nat.zero_le _, Nat.zero_le _⟩ (fun r_2 u_2 H locs h_2 hP hD hS => ?_)
  obtain ⟨fl2, fd2, wy2⟩ := u_2
  dsimp only at h_2
  obtain ⟨hT, h_2⟩ := h_2
  rcases h_2 with ⟨rfl, -, -, hno⟩ | ⟨rfl, L, f, hff, rfl, hfd⟩
  · have hP : va_P (dC, dI) zCl (wX g dA (nI (N)) ks as_ bs st sg fl2 fd2 (nI (1)) wy2) H := hP
    have hD : va_D A (wX g dA (nI (N)) ks as_ bs st sg fl2 fd2 (nI (1)) wy2) := hD
    refine lv_istore_n (lv' := [(2, .int (nI (0))), (0, .ref (g 0)), (1, .int (xi))]) hx hb dX0_load_5 rfl hl (by decide) rfl (fun ls hl => ?_)
    refine lv_iload_n hx hb dX0_load_6 rfl (lv_at hl 0 rfl) ?_
    refine zn_if_ne (tgt := 13) hx hb dX0_load_7 (by decide) (by omega) (fun c9 => absurd c9 (by decide)) (fun _ => ?_)
    refine lv_bipush (v := (-4)) hx hb dX0_load_10 (by decide +kernel) ?_
    exact W.iret (v := (-4)) hx hb hr (fun t9 ht9 hW9 => ⟨⟨(-4), (st, sg, fl2, fd2, wy2), rfl, ⟨hT, Or.inl ⟨rfl, rfl, rfl, hno⟩⟩, by rw [ht9]; exact hP, va_K.moved hW9.alike hK, hD⟩, hS.F ht9⟩) hS.2.2 dX0_load_12
  · have hP : va_P (dC, dI) zCl (wX g dA (nI (N)) ks as_ bs st sg (nI (L)) fd2 (nI (1)) wy2) H := hP
    have hD : va_D A (wX g dA (nI (N)) ks as_ bs st sg (nI (L)) fd2 (nI (1)) wy2) := hD
    refine lv_istore_n (lv' := [(2, .int (nI (1))), (0, .ref (g 0)), (1, .int (xi))]) hx hb dX0_load_5 rfl hl (by decide) rfl (fun ls hl => ?_)
    refine lv_iload_n hx hb dX0_load_6 rfl (lv_at hl 0 rfl) ?_
    refine zn_if_ne (tgt := 13) hx hb dX0_load_7 (by decide) (by omega) (fun _ => ?_) (fun c9 => absurd c9 (by decide))
    have hL6 := hff.1
    refine lv_aload_n hx hb dX0_load_13 rfl (lv_at hl 1 rfl) ?_
    refine lv_aload_n hx hb dX0_load_14 rfl (lv_at hl 1 rfl) ?_
    refine va_get (D := (dC, dI)) (ci := 0) (v := .int (nI (L))) (C := RX0) (T := TX0) (N := 10) hx hb hts in_X0 hown hK hP 0 rfl rfl 6 (by decide) (hts _ q41) (fun _ h9 => h9) rfl dX0_load_15 ?_
    refine va_put (D := (dC, dI)) (ci := 0) (v := .int (nI (L))) (ty := .int) (C := RX0) (T := TX0) (N := 10) hx hb hts in_X0 tyX0 tyX0_ok nmX0 hown hK hP hD hS 0 rfl rfl 4 (by decide) (hts _ q39) (fun _ h9 => h9) rfl (by decide +kernel) rfl rfl (Nat.le_of_ble_eq_true rfl) dX0_load_18 (fun H locs hP hD hS => ?_)
    have hP : va_P (dC, dI) zCl (wX g dA (nI (N)) ks as_ bs (nI (L)) sg (nI (L)) fd2 (nI (1)) wy2) H := hP
    have hD : va_D A (wX g dA (nI (N)) ks as_ bs (nI (L)) sg (nI (L)) fd2 (nI (1)) wy2) := hD
    refine lv_iconst (v := nI (0)) hx hb dX0_load_21 (by decide +kernel) ?_
    refine lv_istore_n (lv' := [(3, .int (nI (0))), (2, .int (nI (1))), (0, .ref (g 0)), (1, .int (xi))]) hx hb dX0_load_22 rfl hl (by decide) rfl (fun ls hl => ?_)
    have loop23 : ∀ (d23 : Nat) (i : Nat) (sh : Nat → Int32), L - i < d23 → i ≤ L → (∀ j, j < i → sh j = nI (f j)) → ∀ (H : Heap) (locs : List Loc), va_P (dC, dI) zCl (wX g dA (nI (N)) ks as_ bs (nI (L)) sh (nI (L)) fd2 (nI (1)) wy2) H → va_D A (wX g dA (nI (N)) ks as_ bs (nI (L)) sh (nI (L)) fd2 (nI (1)) wy2) → va_S A s.heap H locs → ∀ (ls : Array Slot), lv_has ls 4 [(0, .ref (g 0)), (3, .int (nI (i)))] → W p l e (headSpec (ws_ yX0_load cX0_load 4 (some .int)) ({ frames := 6, cells := 0, slots := 0, locals := 150 })).room s m ([.ref (g 0), .int (xi)] : List Value).toArray below meth c H locs 0 0 (MQ below (va_Qi (S := Int32 × (Nat → Int32) × Int32 × (Nat → Int32) × (Nat → Int32)) (fun r u => zTab N C u.2.2.2.2 ∧ ((r = -4 ∧ u.1 = st ∧ u.2.1 = sg ∧ zNo N C xi) ∨ (∃ (L : Nat) (f : Nat → Nat), zFf N C xi L f ∧ r = nI L ∧ u.1 = nI L ∧ ∀ j, j < L → u.2.1 j = nI (f j)))) (zB (dC, dI) dA A (fun u => wX g dA (nI N) ks as_ bs u.1 u.2.1 u.2.2.1 u.2.2.2.1 (nI 1) u.2.2.2.2)) A) ([.ref (g 0), .int (xi)] : List Value).toArray s 0 0 (A)) (F0 m 23 ls []) := by
      intro d23
      induction d23 with
      | zero =>
        intro i sh hd23
        exact absurd hd23 (Nat.not_lt_zero _)
      | succ d23 ih23 =>
        intro i sh hd23 hi hs H locs hP hD hS ls hl
        refine lv_iload_n hx hb dX0_load_23 rfl (lv_at hl 1 rfl) ?_
        refine lv_aload_n hx hb dX0_load_24 rfl (lv_at hl 0 rfl) ?_
        refine va_get (D := (dC, dI)) (ci := 0) (v := .int (nI (L))) (C := RX0) (T := TX0) (N := 10) hx hb hts in_X0 hown hK hP 0 rfl rfl 4 (by decide) (hts _ q39) (fun _ h9 => h9) rfl dX0_load_25 ?_
        refine zn_icmp_ge (tgt := 49) hx hb dX0_load_28 (by decide) (by omega) (by omega) (fun c_28 => ?_) (fun c_28 => ?_)
        · refine lv_aload_n hx hb dX0_load_49 rfl (lv_at hl 0 rfl) ?_
          refine va_get (D := (dC, dI)) (ci := 0) (v := .int (nI (L))) (C := RX0) (T := TX0) (N := 10) hx hb hts in_X0 hown hK hP 0 rfl rfl 4 (by decide) (hts _ q39) (fun _ h9 => h9) rfl dX0_load_50 ?_
          exact W.iret (v := nI (L)) hx hb hr (fun t9 ht9 hW9 => ⟨⟨nI (L), (nI L, sh, nI L, fd2, wy2), rfl, ⟨hT, Or.inr ⟨L, f, hff, rfl, rfl, fun j hj => hs j (by omega)⟩⟩, by rw [ht9]; exact hP, va_K.moved hW9.alike hK, hD⟩, hS.F ht9⟩) hS.2.2 dX0_load_53
        · refine lv_aload_n hx hb dX0_load_31 rfl (lv_at hl 0 rfl) ?_
          refine va_get (D := (dC, dI)) (ci := 0) (v := .ref (g 4)) (C := RX0) (T := TX0) (N := 10) hx hb hts in_X0 hown hK hP 0 rfl rfl 5 (by decide) (hts _ q40) (fun _ h9 => h9) rfl dX0_load_32 ?_
          refine lv_iload_n hx hb dX0_load_35 rfl (lv_at hl 1 rfl) ?_
          refine lv_aload_n hx hb dX0_load_36 rfl (lv_at hl 0 rfl) ?_
          refine va_get (D := (dC, dI)) (ci := 0) (v := .ref (g 5)) (C := RX0) (T := TX0) (N := 10) hx hb hts in_X0 hown hK hP 0 rfl rfl 7 (by decide) (hts _ q42) (fun _ h9 => h9) rfl dX0_load_37 ?_
          refine lv_iload_n hx hb dX0_load_40 rfl (lv_at hl 1 rfl) ?_
          refine zn_iald (f := fd2) (i := i) (v := nI (f i)) hx hb hK hP 5 0 rfl rfl (by omega) (by decide) (hfd i (by omega)) dX0_load_41 ?_
          refine zn_iast (f := sh) (i := i) (x := nI (f i)) hx hb hK hP hD hS 4 0 rfl rfl (by omega) (by decide) dX0_load_42 (fun H locs hP hD hS => ?_)
          have hP : va_P (dC, dI) zCl (wX g dA (nI (N)) ks as_ bs (nI (L)) (upd sh i (nI (f i))) (nI (L)) fd2 (nI (1)) wy2) H := hP
          have hD : va_D A (wX g dA (nI (N)) ks as_ bs (nI (L)) (upd sh i (nI (f i))) (nI (L)) fd2 (nI (1)) wy2) := hD
          refine zn_iinc (a := i) (b := 1) (k := 1) (lv' := [(3, .int (nI (i + 1))), (0, .ref (g 0))]) hx hb dX0_load_43 hl rfl (by decide) rfl (fun ls hl => ?_)
          refine lv_goto (tgt := 23) hx hb dX0_load_46 (by decide) ?_
          exact ih23  (i + 1) (upd sh i (nI (f i))) (by omega) (by omega) (zfill (P := fun j => nI (f j)) hs rfl) _ _ hP hD hS _ (lv_sub hl [1, 0] rfl)
    exact loop23 (_ + 1) 0 sg (Nat.lt_succ_self _) (by omega) (fun j hj => absurd hj (Nat.not_lt_zero _)) _ _ hP hD hS _ (lv_sub hl [2, 0] rfl)
set_option maxHeartbeats 8000000 in
set_option maxRecDepth 100000 in
theorem met_X0_failing (l : Launch) (dC : Nat → ClassId) (dI : Nat → Nat → Nat) (g : Nat → Nat) (dA : ClassId) (sz : Nat) (N : Nat) (C : zC) (ks as_ bs : Nat → Int32) (st : Int32) (sg : Nat → Int32) (fl : Int32) (fd : Nat → Int32) (rd : Int32) (wy : Nat → Int32) (hN : N ≤ 3) (hC : zReps N C ks as_ bs) (h_r : zRdy N C rd wy) : zMetI (S := (Nat → Int32)) l yX0_failing (ws_ yX0_failing cX0_failing 1 (some .int)) ({ frames := 5, cells := 0, slots := 0, locals := 122 }) (dC, dI) dA (wX g dA (nI (N)) ks as_ bs st sg fl fd rd wy) sz [.ref (g 0)] (fun r w => r = nI (zex N C 256 7) ∧ zTab N C w) (fun w => wX g dA (nI N) ks as_ bs st sg fl fd (nI 1) w) := by
  refine Met.ofW (cc := cX0_failing) (maxL := 1) (ret := (some .int)) (by decide) rfl ?_
  intro p e s m args below meth c s₁ B hml hv
  obtain ⟨rfl, hsz, hP, hK, hD0⟩ := hv
  have hx := B.exec
  have hb := B.bytes
  have hr := B.returns
  have hts := atoms_spec (ws := ws_ yX0_failing cX0_failing 1 (some .int)) B.pre
  have hts : ∀ w ∈ lw_all, w.before _ s = true := fun w h => hts w (List.mem_cons_of_mem _ h)
  have hown : s.vm.findClass RX0 = some m.cls := findClass_of_methodNamed B.named
  have hlocks := B.notSynchronized
  subst hsz
  have hD := hD0.self (sz := s.heap.size)
  generalize hAe : va_A (wX g dA (nI (N)) ks as_ bs st sg fl fd rd wy) s.heap.size = A at hD ⊢
  have hA : ∀ q : Nat, s.heap.size ≤ q → A q := fun q h => by rw [← hAe]; exact Or.inr h
  have hS : va_S A s.heap s.heap [] := va_S.rf
  clear hD0 hAe
  have hl := lv_entry ([.ref (g 0)]) (n := 1) (Nat.le_of_ble_eq_true rfl)
  rw [lg_entry_eq]
  generalize (lg_sl ([.ref (g 0)]) ++ List.replicate (1 - (lg_sl ([.ref (g 0)])).length) Slot.unset).toArray = ls at hl ⊢
  have hl : lv_has ls 1 [(0, .ref (g 0))] := hl
  refine lv_aload_n hx hb dX0_failing_0 rfl (lv_at hl 0 rfl) ?_
  refine zcallMi (As := []) (rest := []) (wr := []) (ci := 0) (q0 := 0) [0, 1, 2, 3, 4, 5, 6] [] ⟨hx, hb, hml, hown, hts⟩ (met_X0_total l dC dI g dA s.heap.size N C ks as_ bs st sg fl fd rd wy  hN hC h_r) (cwV 0 hts (lw_V q97 q99 qs1 q25 q100) rfl rfl rfl (by decide +kernel) ⟨Nat.le_of_ble_eq_true rfl, Nat.le_of_ble_eq_true rfl⟩) hK hP hD hS hA rfl rfl (by decide) (by decide) (by decide) rfl rfl rfl hl.1 rfl (Nat.le_of_ble_eq_true rfl) dX0_failing_1 ⟨Nat.zero_le _, Nat.zero_le _⟩ (fun r_1 u_1 H locs h_1 hP hD hS => ?_)
  obtain ⟨h_1, hT⟩ := h_1
  subst h_1
  have hP : va_P (dC, dI) zCl (wX g dA (nI (N)) ks as_ bs st sg fl fd (nI (1)) u_1) H := hP
  have hD : va_D A (wX g dA (nI (N)) ks as_ bs st sg fl fd (nI (1)) u_1) := hD
  exact W.iret (v := nI (zex N C 256 7)) hx hb hr (fun t9 ht9 hW9 => ⟨⟨nI (zex N C 256 7), u_1, rfl, ⟨rfl, hT⟩, by rw [ht9]; exact hP, va_K.moved hW9.alike hK, hD⟩, hS.F ht9⟩) hS.2.2 dX0_failing_4
set_option maxHeartbeats 8000000 in
set_option maxRecDepth 100000 in
theorem met_X0_failingOf (l : Launch) (dC : Nat → ClassId) (dI : Nat → Nat → Nat) (g : Nat → Nat) (dA : ClassId) (sz : Nat) (N : Nat) (C : zC) (ks as_ bs : Nat → Int32) (st : Int32) (sg : Nat → Int32) (fl : Int32) (fd : Nat → Int32) (rd : Int32) (wy : Nat → Int32) (xi : Int32) (hN : N ≤ 3) (hC : zReps N C ks as_ bs) (h_r : zRdy N C rd wy) : zMetI (S := Int32 × (Nat → Int32)) l yX0_failingOf (ws_ yX0_failingOf cX0_failingOf 2 (some .int)) ({ frames := 4, cells := 0, slots := 0, locals := 100 }) (dC, dI) dA (wX g dA (nI (N)) ks as_ bs st sg fl fd rd wy) sz [.ref (g 0), .int (xi)] (fun r u => r = zfo N C xi ∧ zRdy N C u.1 u.2) (fun u => wX g dA (nI N) ks as_ bs st sg fl fd u.1 u.2) := by
  refine Met.ofW (cc := cX0_failingOf) (maxL := 2) (ret := (some .int)) (by decide) rfl ?_
  intro p e s m args below meth c s₁ B hml hv
  obtain ⟨rfl, hsz, hP, hK, hD0⟩ := hv
  have hx := B.exec
  have hb := B.bytes
  have hr := B.returns
  have hts := atoms_spec (ws := ws_ yX0_failingOf cX0_failingOf 2 (some .int)) B.pre
  have hts : ∀ w ∈ lw_all, w.before _ s = true := fun w h => hts w (List.mem_cons_of_mem _ h)
  have hown : s.vm.findClass RX0 = some m.cls := findClass_of_methodNamed B.named
  have hlocks := B.notSynchronized
  subst hsz
  have hD := hD0.self (sz := s.heap.size)
  generalize hAe : va_A (wX g dA (nI (N)) ks as_ bs st sg fl fd rd wy) s.heap.size = A at hD ⊢
  have hA : ∀ q : Nat, s.heap.size ≤ q → A q := fun q h => by rw [← hAe]; exact Or.inr h
  have hS : va_S A s.heap s.heap [] := va_S.rf
  clear hD0 hAe
  have hl := lv_entry ([.ref (g 0), .int (xi)]) (n := 2) (Nat.le_of_ble_eq_true rfl)
  rw [lg_entry_eq]
  generalize (lg_sl ([.ref (g 0), .int (xi)]) ++ List.replicate (2 - (lg_sl ([.ref (g 0), .int (xi)])).length) Slot.unset).toArray = ls at hl ⊢
  have hl : lv_has ls 2 [(0, .ref (g 0)), (1, .int (xi))] := hl
  refine lv_iload_n hx hb dX0_failingOf_0 rfl (lv_at hl 1 rfl) ?_
  refine lv_if_lt (x := xi) (tgt := 10) hx hb dX0_failingOf_1 (by decide) (fun c_1 => ?_) (fun c_1 => ?_)
  · refine lv_iconst (v := nI (0)) hx hb dX0_failingOf_10 (by decide +kernel) ?_
    exact W.iret (v := nI (0)) hx hb hr (fun t9 ht9 hW9 => ⟨⟨nI (0), (rd, wy), rfl, ⟨by simp [zfo, c_1], h_r⟩, by rw [ht9]; exact hP, va_K.moved hW9.alike hK, hD⟩, hS.F ht9⟩) hS.2.2 dX0_failingOf_11
  · refine lv_iload_n hx hb dX0_failingOf_4 rfl (lv_at hl 1 rfl) ?_
    refine lv_bipush (v := nI (6)) hx hb dX0_failingOf_5 (by decide +kernel) ?_
    refine lv_icmp_le (x := xi) (y := nI (6)) (tgt := 12) hx hb dX0_failingOf_7 (by decide) (fun c_7 => ?_) (fun c_7 => ?_)
    · obtain ⟨k, hk6, rfl⟩ := nI_of2 (M := nI 6) (n := 6) (by decide +kernel) c_1 c_7
      refine lv_aload_n hx hb dX0_failingOf_12 rfl (lv_at hl 0 rfl) ?_
      refine zcallMv (As := []) (rest := []) (wr := []) (ci := 0) (q0 := 0) [0, 1, 2, 3, 4, 5, 6] [] ⟨hx, hb, hml, hown, hts⟩ (met_X0_prepare l dC dI g dA s.heap.size N C ks as_ bs st sg fl fd rd wy  hN hC h_r) (cwV 0 hts (lw_V q101 q103 qs2 q25 q104) rfl rfl rfl (by decide +kernel) ⟨Nat.le_of_ble_eq_true rfl, Nat.le_of_ble_eq_true rfl⟩) hK hP hD hS hA rfl rfl (by decide) (by decide) (by decide) rfl rfl rfl hl.1 rfl (Nat.le_of_ble_eq_true rfl) dX0_failingOf_13 ⟨Nat.zero_le _, Nat.zero_le _⟩ (fun u_13 H locs h_13 hP hD hS => ?_)
      have hP : va_P (dC, dI) zCl (wX g dA (nI (N)) ks as_ bs st sg fl fd (nI (1)) u_13) H := hP
      have hD : va_D A (wX g dA (nI (N)) ks as_ bs st sg fl fd (nI (1)) u_13) := hD
      have hT : zTab N C u_13 := h_13
      refine lv_aload_n hx hb dX0_failingOf_16 rfl (lv_at hl 0 rfl) ?_
      refine va_get (D := (dC, dI)) (ci := 0) (v := .ref (g 6)) (C := RX0) (T := TX0) (N := 10) hx hb hts in_X0 hown hK hP 0 rfl rfl 9 (by decide) (hts _ q44) (fun _ h9 => h9) rfl dX0_failingOf_17 ?_
      refine lv_iload_n hx hb dX0_failingOf_20 rfl (lv_at hl 1 rfl) ?_
      refine lv_sipush (v := nI (320)) hx hb dX0_failingOf_21 (by decide +kernel) ?_
      refine zn_imul hx hb dX0_failingOf_24 ?_
      refine lv_sipush (v := nI (256)) hx hb dX0_failingOf_25 (by decide +kernel) ?_
      refine zn_iadd hx hb dX0_failingOf_28 ?_
      refine zn_iald (f := u_13) (i := (k * 320) + 256) (v := nI (zwy N C k 256)) hx hb hK hP 6 0 rfl rfl (by omega) (by decide) (hT k (by omega) _ (by omega)) dX0_failingOf_29 ?_
      exact W.iret (v := nI (zwy N C k 256)) hx hb hr (fun t9 ht9 hW9 => ⟨⟨nI (zwy N C k 256), (nI 1, u_13), rfl, ⟨zfo_in c_1 c_7 hk6, Or.inr ⟨rfl, hT⟩⟩, by rw [ht9]; exact hP, va_K.moved hW9.alike hK, hD⟩, hS.F ht9⟩) hS.2.2 dX0_failingOf_30
    · refine lv_iconst (v := nI (0)) hx hb dX0_failingOf_10 (by decide +kernel) ?_
      exact W.iret (v := nI (0)) hx hb hr (fun t9 ht9 hW9 => ⟨⟨nI (0), (rd, wy), rfl, ⟨by simp [zfo, c_1, c_7], h_r⟩, by rw [ht9]; exact hP, va_K.moved hW9.alike hK, hD⟩, hS.F ht9⟩) hS.2.2 dX0_failingOf_11
set_option maxHeartbeats 8000000 in
set_option maxRecDepth 100000 in
theorem met_X0_rank (l : Launch) (dC : Nat → ClassId) (dI : Nat → Nat → Nat) (g : Nat → Nat) (dA : ClassId) (sz : Nat) (N : Nat) (C : zC) (ks as_ bs : Nat → Int32) (L : Nat) (sg : Nat → Int32) (fl : Int32) (fd : Nat → Int32) (rd : Int32) (wy : Nat → Int32) (f : Nat → Nat) (hN : N ≤ 3) (hC : zReps N C ks as_ bs) (h_r : zRdy N C rd wy) (hL : L ≤ 6) (h_f : ∀ j, j < L → sg j = nI (f j) ∧ f j < 4) : zMetI (S := (Nat → Int32)) l yX0_rank (ws_ yX0_rank cX0_rank 4 (some .int)) ({ frames := 4, cells := 0, slots := 0, locals := 100 }) (dC, dI) dA (wX g dA (nI (N)) ks as_ bs (nI (L)) sg fl fd rd wy) sz [.ref (g 0)] (fun r w => r = nI (zrk N C f L L) ∧ zTab N C w) (fun w => wX g dA (nI N) ks as_ bs (nI L) sg fl fd (nI 1) w) := by
  refine Met.ofW (cc := cX0_rank) (maxL := 4) (ret := (some .int)) (by decide) rfl ?_
  intro p e s m args below meth c s₁ B hml hv
  obtain ⟨rfl, hsz, hP, hK, hD0⟩ := hv
  have hx := B.exec
  have hb := B.bytes
  have hr := B.returns
  have hts := atoms_spec (ws := ws_ yX0_rank cX0_rank 4 (some .int)) B.pre
  have hts : ∀ w ∈ lw_all, w.before _ s = true := fun w h => hts w (List.mem_cons_of_mem _ h)
  have hown : s.vm.findClass RX0 = some m.cls := findClass_of_methodNamed B.named
  have hlocks := B.notSynchronized
  subst hsz
  have hD := hD0.self (sz := s.heap.size)
  generalize hAe : va_A (wX g dA (nI (N)) ks as_ bs (nI (L)) sg fl fd rd wy) s.heap.size = A at hD ⊢
  have hA : ∀ q : Nat, s.heap.size ≤ q → A q := fun q h => by rw [← hAe]; exact Or.inr h
  have hS : va_S A s.heap s.heap [] := va_S.rf
  clear hD0 hAe
  have hl := lv_entry ([.ref (g 0)]) (n := 4) (Nat.le_of_ble_eq_true rfl)
  rw [lg_entry_eq]
  generalize (lg_sl ([.ref (g 0)]) ++ List.replicate (4 - (lg_sl ([.ref (g 0)])).length) Slot.unset).toArray = ls at hl ⊢
  have hl : lv_has ls 4 [(0, .ref (g 0))] := hl
  refine lv_aload_n hx hb dX0_rank_0 rfl (lv_at hl 0 rfl) ?_
  refine zcallMv (As := []) (rest := []) (wr := []) (ci := 0) (q0 := 0) [0, 1, 2, 3, 4, 5, 6] [] ⟨hx, hb, hml, hown, hts⟩ (met_X0_prepare l dC dI g dA s.heap.size N C ks as_ bs (nI (L)) sg fl fd rd wy  hN hC h_r) (cwV 0 hts (lw_V q101 q103 qs2 q25 q104) rfl rfl rfl (by decide +kernel) ⟨Nat.le_of_ble_eq_true rfl, Nat.le_of_ble_eq_true rfl⟩) hK hP hD hS hA rfl rfl (by decide) (by decide) (by decide) rfl rfl rfl hl.1 rfl (Nat.le_of_ble_eq_true rfl) dX0_rank_1 ⟨Nat.zero_le _, Nat.zero_le _⟩ (fun u_1 H locs h_1 hP hD hS => ?_)
  have hP : va_P (dC, dI) zCl (wX g dA (nI (N)) ks as_ bs (nI (L)) sg fl fd (nI (1)) u_1) H := hP
  have hD : va_D A (wX g dA (nI (N)) ks as_ bs (nI (L)) sg fl fd (nI (1)) u_1) := hD
  have hT : zTab N C u_1 := h_1
  refine lv_iconst (v := nI (0)) hx hb dX0_rank_4 (by decide +kernel) ?_
  refine lv_istore_n (lv' := [(1, .int (nI (0))), (0, .ref (g 0))]) hx hb dX0_rank_5 rfl hl (by decide) rfl (fun ls hl => ?_)
  refine lv_iconst (v := nI (0)) hx hb dX0_rank_6 (by decide +kernel) ?_
  refine lv_istore_n (lv' := [(2, .int (nI (0))), (1, .int (nI (0))), (0, .ref (g 0))]) hx hb dX0_rank_7 rfl hl (by decide) rfl (fun ls hl => ?_)
  have loop8 : ∀ (d8 : Nat) (k : Nat) (t : Nat), L - k < d8 → k ≤ L → t = zex N C 256 k → ∀ (ls : Array Slot), lv_has ls 4 [(0, .ref (g 0)), (1, .int (nI (t))), (2, .int (nI (k)))] → W p l e (headSpec (ws_ yX0_rank cX0_rank 4 (some .int)) ({ frames := 4, cells := 0, slots := 0, locals := 100 })).room s m ([.ref (g 0)] : List Value).toArray below meth c H locs 0 0 (MQ below (va_Qi (S := (Nat → Int32)) (fun r w => r = nI (zrk N C f L L) ∧ zTab N C w) (zB (dC, dI) dA A (fun w => wX g dA (nI N) ks as_ bs (nI L) sg fl fd (nI 1) w)) A) ([.ref (g 0)] : List Value).toArray s 0 0 (A)) (F0 m 8 ls []) := by
    intro d8
    induction d8 with
    | zero =>
      intro k t hd8
      exact absurd hd8 (Nat.not_lt_zero _)
    | succ d8 ih8 =>
      intro k t hd8 hk ht ls hl
      refine lv_iload_n hx hb dX0_rank_8 rfl (lv_at hl 2 rfl) ?_
      refine lv_aload_n hx hb dX0_rank_9 rfl (lv_at hl 0 rfl) ?_
      refine va_get (D := (dC, dI)) (ci := 0) (v := .int (nI (L))) (C := RX0) (T := TX0) (N := 10) hx hb hts in_X0 hown hK hP 0 rfl rfl 4 (by decide) (hts _ q39) (fun _ h9 => h9) rfl dX0_rank_10 ?_
      refine zn_icmp_ge (tgt := 39) hx hb dX0_rank_13 (by decide) (by omega) (by omega) (fun c_13 => ?_) (fun c_13 => ?_)
      · refine lv_sipush (v := nI (256)) hx hb dX0_rank_39 (by decide +kernel) ?_
        refine lv_istore_n (lv' := [(2, .int (nI (256))), (0, .ref (g 0)), (1, .int (nI (t)))]) hx hb dX0_rank_42 rfl hl (by decide) rfl (fun ls hl => ?_)
        refine lv_iconst (v := nI (0)) hx hb dX0_rank_43 (by decide +kernel) ?_
        refine lv_istore_n (lv' := [(3, .int (nI (0))), (2, .int (nI (256))), (0, .ref (g 0)), (1, .int (nI (t)))]) hx hb dX0_rank_44 rfl hl (by decide) rfl (fun ls hl => ?_)
        have loop45 : ∀ (d45 : Nat) (i : Nat) (t : Nat) (q : Nat), L - i < d45 → i ≤ L → t = zrk N C f L i → q = zrs N C f i → q < 320 → ∀ (ls : Array Slot), lv_has ls 4 [(0, .ref (g 0)), (1, .int (nI (t))), (2, .int (nI (q))), (3, .int (nI (i)))] → W p l e (headSpec (ws_ yX0_rank cX0_rank 4 (some .int)) ({ frames := 4, cells := 0, slots := 0, locals := 100 })).room s m ([.ref (g 0)] : List Value).toArray below meth c H locs 0 0 (MQ below (va_Qi (S := (Nat → Int32)) (fun r w => r = nI (zrk N C f L L) ∧ zTab N C w) (zB (dC, dI) dA A (fun w => wX g dA (nI N) ks as_ bs (nI L) sg fl fd (nI 1) w)) A) ([.ref (g 0)] : List Value).toArray s 0 0 (A)) (F0 m 45 ls []) := by
          intro d45
          induction d45 with
          | zero =>
            intro i t q hd45
            exact absurd hd45 (Nat.not_lt_zero _)
          | succ d45 ih45 =>
            intro i t q hd45 hi ht hq hqb ls hl
            refine lv_iload_n hx hb dX0_rank_45 rfl (lv_at hl 3 rfl) ?_
            refine lv_aload_n hx hb dX0_rank_46 rfl (lv_at hl 0 rfl) ?_
            refine va_get (D := (dC, dI)) (ci := 0) (v := .int (nI (L))) (C := RX0) (T := TX0) (N := 10) hx hb hts in_X0 hown hK hP 0 rfl rfl 4 (by decide) (hts _ q39) (fun _ h9 => h9) rfl dX0_rank_47 ?_
            refine zn_icmp_ge (tgt := 93) hx hb dX0_rank_50 (by decide) (by omega) (by omega) (fun c_50 => ?_) (fun c_50 => ?_)
            · refine lv_iload_n hx hb dX0_rank_93 rfl (lv_at hl 1 rfl) ?_
              exact W.iret (v := nI (t)) hx hb hr (fun t9 ht9 hW9 => ⟨⟨nI (t), u_1, rfl, ⟨congrArg nI (by rw [ht, show i = L by omega]), hT⟩, by rw [ht9]; exact hP, va_K.moved hW9.alike hK, hD⟩, hS.F ht9⟩) hS.2.2 dX0_rank_94
            · refine lv_iload_n hx hb dX0_rank_53 rfl (lv_at hl 1 rfl) ?_
              refine lv_aload_n hx hb dX0_rank_54 rfl (lv_at hl 0 rfl) ?_
              refine lv_aload_n hx hb dX0_rank_55 rfl (lv_at hl 0 rfl) ?_
              refine va_get (D := (dC, dI)) (ci := 0) (v := .int (nI (L))) (C := RX0) (T := TX0) (N := 10) hx hb hts in_X0 hown hK hP 0 rfl rfl 4 (by decide) (hts _ q39) (fun _ h9 => h9) rfl dX0_rank_56 ?_
              refine lv_iload_n hx hb dX0_rank_59 rfl (lv_at hl 3 rfl) ?_
              refine zn_isub hx hb dX0_rank_60 (by omega) ?_
              refine lv_iconst (v := nI (1)) hx hb dX0_rank_61 (by decide +kernel) ?_
              refine zn_isub hx hb dX0_rank_62 (by omega) ?_
              refine lv_iload_n hx hb dX0_rank_63 rfl (lv_at hl 2 rfl) ?_
              refine lv_aload_n hx hb dX0_rank_64 rfl (lv_at hl 0 rfl) ?_
              refine va_get (D := (dC, dI)) (ci := 0) (v := .ref (g 4)) (C := RX0) (T := TX0) (N := 10) hx hb hts in_X0 hown hK hP 0 rfl rfl 5 (by decide) (hts _ q40) (fun _ h9 => h9) rfl dX0_rank_65 ?_
              refine lv_iload_n hx hb dX0_rank_68 rfl (lv_at hl 3 rfl) ?_
              refine zn_iald (f := sg) (i := i) (v := nI (f i)) hx hb hK hP 4 0 rfl rfl (by omega) (by decide) (h_f i (by omega)).1 dX0_rank_69 ?_
              refine zcallR (As := [.int (nI ((L - i) - 1)), .int (nI (q)), .int (nI (f i))]) (rest := [.int (nI (t))]) (ci := 0) (q0 := 0) ⟨hx, hb, hml, hown, hts⟩ (met_X0_sumOver l dC dI g dA N C ks as_ bs (nI (L)) sg fl fd (nI (1)) u_1 ((L - i) - 1) q (f i) hN hC (by omega) hqb (Nat.le_of_lt (h_f i (by omega)).2) (ztab_row hT (by omega))) (cwV 3 hts (lw_V q113 q115 qs5 q25 q116) rfl rfl rfl (by decide +kernel) ⟨Nat.le_of_ble_eq_true rfl, Nat.le_of_ble_eq_true rfl⟩) hK hP rfl rfl rfl hl.1 rfl (Nat.le_of_ble_eq_true rfl) dX0_rank_70 ⟨Nat.zero_le _, Nat.zero_le _⟩ (fun r_70 h_70 => ?_)
              subst h_70
              refine zn_iadd hx hb dX0_rank_73 ?_
              refine lv_istore_n (lv' := [(1, .int (nI (t + (zso N C ((L - i) - 1) q (f i))))), (0, .ref (g 0)), (2, .int (nI (q))), (3, .int (nI (i)))]) hx hb dX0_rank_74 rfl hl (by decide) rfl (fun ls hl => ?_)
              refine lv_aload_n hx hb dX0_rank_75 rfl (lv_at hl 1 rfl) ?_
              refine lv_iload_n hx hb dX0_rank_76 rfl (lv_at hl 2 rfl) ?_
              refine lv_aload_n hx hb dX0_rank_77 rfl (lv_at hl 1 rfl) ?_
              refine va_get (D := (dC, dI)) (ci := 0) (v := .ref (g 4)) (C := RX0) (T := TX0) (N := 10) hx hb hts in_X0 hown hK hP 0 rfl rfl 5 (by decide) (hts _ q40) (fun _ h9 => h9) rfl dX0_rank_78 ?_
              refine lv_iload_n hx hb dX0_rank_81 rfl (lv_at hl 3 rfl) ?_
              refine zn_iald (f := sg) (i := i) (v := nI (f i)) hx hb hK hP 4 0 rfl rfl (by omega) (by decide) (h_f i (by omega)).1 dX0_rank_82 ?_
              refine zcallR (As := [.int (nI (q)), .int (nI (f i))]) (rest := []) (ci := 0) (q0 := 0) ⟨hx, hb, hml, hown, hts⟩ (met_X0_next l dC dI g dA N C ks as_ bs (nI (L)) sg fl fd (nI (1)) u_1 q (f i) hN hC hqb (h_f i (by omega)).2) (cwV 2 hts (lw_V q117 q119 qs6 q25 q120) rfl rfl rfl (by decide +kernel) ⟨Nat.le_of_ble_eq_true rfl, Nat.le_of_ble_eq_true rfl⟩) hK hP rfl rfl rfl hl.1 rfl (Nat.le_of_ble_eq_true rfl) dX0_rank_83 ⟨Nat.zero_le _, Nat.zero_le _⟩ (fun r_83 h_83 => ?_)
              subst h_83
              refine lv_istore_n (lv' := [(2, .int (nI (znx C q (f i) N))), (1, .int (nI (t + (zso N C ((L - i) - 1) q (f i))))), (0, .ref (g 0)), (3, .int (nI (i)))]) hx hb dX0_rank_86 rfl hl (by decide) rfl (fun ls hl => ?_)
              refine zn_iinc (a := i) (b := 1) (k := 3) (lv' := [(3, .int (nI (i + 1))), (2, .int (nI (znx C q (f i) N))), (1, .int (nI (t + (zso N C ((L - i) - 1) q (f i))))), (0, .ref (g 0))]) hx hb dX0_rank_87 hl rfl (by decide) rfl (fun ls hl => ?_)
              refine lv_goto (tgt := 45) hx hb dX0_rank_90 (by decide) ?_
              exact ih45  (i + 1) (t + (zso N C ((L - i) - 1) q (f i))) (znx C q (f i) N) (by omega) (by omega) (by rw [ht, hq]; rfl) (by rw [hq]; rfl) (znx_lt hN (h_f i (by omega)).2 (zreps_G hC (Nat.le_refl _))) _ (lv_sub hl [3, 2, 1, 0] rfl)
        exact loop45 (_ + 1) 0 t 256 (Nat.lt_succ_self _) (by omega) (by rw [ht, show k = L by omega]; rfl) rfl (by decide) _ (lv_sub hl [2, 3, 1, 0] rfl)
      · refine lv_iload_n hx hb dX0_rank_16 rfl (lv_at hl 1 rfl) ?_
        refine lv_aload_n hx hb dX0_rank_17 rfl (lv_at hl 0 rfl) ?_
        refine va_get (D := (dC, dI)) (ci := 0) (v := .ref (g 6)) (C := RX0) (T := TX0) (N := 10) hx hb hts in_X0 hown hK hP 0 rfl rfl 9 (by decide) (hts _ q44) (fun _ h9 => h9) rfl dX0_rank_18 ?_
        refine lv_iload_n hx hb dX0_rank_21 rfl (lv_at hl 2 rfl) ?_
        refine lv_sipush (v := nI (320)) hx hb dX0_rank_22 (by decide +kernel) ?_
        refine zn_imul hx hb dX0_rank_25 ?_
        refine lv_sipush (v := nI (256)) hx hb dX0_rank_26 (by decide +kernel) ?_
        refine zn_iadd hx hb dX0_rank_29 ?_
        refine zn_iald (f := u_1) (i := (k * 320) + 256) (v := nI (zwy N C k 256)) hx hb hK hP 6 0 rfl rfl (by omega) (by decide) (hT k (by omega) _ (by omega)) dX0_rank_30 ?_
        refine zn_iadd hx hb dX0_rank_31 ?_
        refine lv_istore_n (lv' := [(1, .int (nI (t + (zwy N C k 256)))), (0, .ref (g 0)), (2, .int (nI (k)))]) hx hb dX0_rank_32 rfl hl (by decide) rfl (fun ls hl => ?_)
        refine zn_iinc (a := k) (b := 1) (k := 2) (lv' := [(2, .int (nI (k + 1))), (1, .int (nI (t + (zwy N C k 256)))), (0, .ref (g 0))]) hx hb dX0_rank_33 hl rfl (by decide) rfl (fun ls hl => ?_)
        refine lv_goto (tgt := 8) hx hb dX0_rank_36 (by decide) ?_
        exact ih8  (k + 1) (t + (zwy N C k 256)) (by omega) (by omega) (by rw [ht]; rfl) _ (lv_sub hl [2, 1, 0] rfl)
  exact loop8 (_ + 1) 0 0 (Nat.lt_succ_self _) (by omega) rfl _ (lv_sub hl [2, 1, 0] rfl)
set_option maxHeartbeats 8000000 in
set_option maxRecDepth 100000 in
theorem met_X0_extending (l : Launch) (dC : Nat → ClassId) (dI : Nat → Nat → Nat) (g : Nat → Nat) (dA : ClassId) (sz : Nat) (N : Nat) (C : zC) (ks as_ bs : Nat → Int32) (L : Nat) (sg : Nat → Int32) (fl : Int32) (fd : Nat → Int32) (rd : Int32) (wy : Nat → Int32) (f : Nat → Nat) (hN : N ≤ 3) (hC : zReps N C ks as_ bs) (h_r : zRdy N C rd wy) (hL : L ≤ 6) (h_f : ∀ j, j < L → sg j = nI (f j) ∧ f j < 4) : zMetI (S := (Nat → Int32)) l yX0_extending (ws_ yX0_extending cX0_extending 4 (some .int)) ({ frames := 4, cells := 0, slots := 0, locals := 100 }) (dC, dI) dA (wX g dA (nI (N)) ks as_ bs (nI (L)) sg fl fd rd wy) sz [.ref (g 0)] (fun r w => r = nI (zex N C (zrs N C f L) (7 - L)) ∧ zTab N C w) (fun w => wX g dA (nI N) ks as_ bs (nI L) sg fl fd (nI 1) w) := by
  refine Met.ofW (cc := cX0_extending) (maxL := 4) (ret := (some .int)) (by decide) rfl ?_
  intro p e s m args below meth c s₁ B hml hv
  obtain ⟨rfl, hsz, hP, hK, hD0⟩ := hv
  have hx := B.exec
  have hb := B.bytes
  have hr := B.returns
  have hts := atoms_spec (ws := ws_ yX0_extending cX0_extending 4 (some .int)) B.pre
  have hts : ∀ w ∈ lw_all, w.before _ s = true := fun w h => hts w (List.mem_cons_of_mem _ h)
  have hown : s.vm.findClass RX0 = some m.cls := findClass_of_methodNamed B.named
  have hlocks := B.notSynchronized
  subst hsz
  have hD := hD0.self (sz := s.heap.size)
  generalize hAe : va_A (wX g dA (nI (N)) ks as_ bs (nI (L)) sg fl fd rd wy) s.heap.size = A at hD ⊢
  have hA : ∀ q : Nat, s.heap.size ≤ q → A q := fun q h => by rw [← hAe]; exact Or.inr h
  have hS : va_S A s.heap s.heap [] := va_S.rf
  clear hD0 hAe
  have hl := lv_entry ([.ref (g 0)]) (n := 4) (Nat.le_of_ble_eq_true rfl)
  rw [lg_entry_eq]
  generalize (lg_sl ([.ref (g 0)]) ++ List.replicate (4 - (lg_sl ([.ref (g 0)])).length) Slot.unset).toArray = ls at hl ⊢
  have hl : lv_has ls 4 [(0, .ref (g 0))] := hl
  refine lv_aload_n hx hb dX0_extending_0 rfl (lv_at hl 0 rfl) ?_
  refine zcallMv (As := []) (rest := []) (wr := []) (ci := 0) (q0 := 0) [0, 1, 2, 3, 4, 5, 6] [] ⟨hx, hb, hml, hown, hts⟩ (met_X0_prepare l dC dI g dA s.heap.size N C ks as_ bs (nI (L)) sg fl fd rd wy  hN hC h_r) (cwV 0 hts (lw_V q101 q103 qs2 q25 q104) rfl rfl rfl (by decide +kernel) ⟨Nat.le_of_ble_eq_true rfl, Nat.le_of_ble_eq_true rfl⟩) hK hP hD hS hA rfl rfl (by decide) (by decide) (by decide) rfl rfl rfl hl.1 rfl (Nat.le_of_ble_eq_true rfl) dX0_extending_1 ⟨Nat.zero_le _, Nat.zero_le _⟩ (fun u_1 H locs h_1 hP hD hS => ?_)
  have hP : va_P (dC, dI) zCl (wX g dA (nI (N)) ks as_ bs (nI (L)) sg fl fd (nI (1)) u_1) H := hP
  have hD : va_D A (wX g dA (nI (N)) ks as_ bs (nI (L)) sg fl fd (nI (1)) u_1) := hD
  have hT : zTab N C u_1 := h_1
  refine lv_aload_n hx hb dX0_extending_4 rfl (lv_at hl 0 rfl) ?_
  refine lv_aload_n hx hb dX0_extending_5 rfl (lv_at hl 0 rfl) ?_
  refine va_get (D := (dC, dI)) (ci := 0) (v := .int (nI (L))) (C := RX0) (T := TX0) (N := 10) hx hb hts in_X0 hown hK hP 0 rfl rfl 4 (by decide) (hts _ q39) (fun _ h9 => h9) rfl dX0_extending_6 ?_
  refine zcallR (As := [.int (nI (L))]) (rest := []) (ci := 0) (q0 := 0) ⟨hx, hb, hml, hown, hts⟩ (met_X0_stageState l dC dI g dA N C ks as_ bs (nI (L)) sg fl fd (nI (1)) u_1 f L hN hC hL h_f) (cwV 1 hts (lw_V q137 q139 qs8 q25 q140) rfl rfl rfl (by decide +kernel) ⟨Nat.le_of_ble_eq_true rfl, Nat.le_of_ble_eq_true rfl⟩) hK hP rfl rfl rfl hl.1 rfl (Nat.le_of_ble_eq_true rfl) dX0_extending_9 ⟨Nat.zero_le _, Nat.zero_le _⟩ (fun r_9 h_9 => ?_)
  subst h_9
  have hqb : zrs N C f L < 320 := zrs_lt hN (zreps_G hC (Nat.le_refl _)) L (fun j hj => (h_f j hj).2)
  refine lv_istore_n (lv' := [(1, .int (nI (zrs N C f L))), (0, .ref (g 0))]) hx hb dX0_extending_12 rfl hl (by decide) rfl (fun ls hl => ?_)
  refine lv_iconst (v := nI (0)) hx hb dX0_extending_13 (by decide +kernel) ?_
  refine lv_istore_n (lv' := [(2, .int (nI (0))), (1, .int (nI (zrs N C f L))), (0, .ref (g 0))]) hx hb dX0_extending_14 rfl hl (by decide) rfl (fun ls hl => ?_)
  refine lv_iconst (v := nI (0)) hx hb dX0_extending_15 (by decide +kernel) ?_
  refine lv_istore_n (lv' := [(3, .int (nI (0))), (2, .int (nI (0))), (1, .int (nI (zrs N C f L))), (0, .ref (g 0))]) hx hb dX0_extending_16 rfl hl (by decide) rfl (fun ls hl => ?_)
  have loop17 : ∀ (d17 : Nat) (k : Nat) (t : Nat), 7 - L - k < d17 → k ≤ 7 - L → t = zex N C (zrs N C f L) k → ∀ (ls : Array Slot), lv_has ls 4 [(0, .ref (g 0)), (1, .int (nI (zrs N C f L))), (2, .int (nI (t))), (3, .int (nI (k)))] → W p l e (headSpec (ws_ yX0_extending cX0_extending 4 (some .int)) ({ frames := 4, cells := 0, slots := 0, locals := 100 })).room s m ([.ref (g 0)] : List Value).toArray below meth c H locs 0 0 (MQ below (va_Qi (S := (Nat → Int32)) (fun r w => r = nI (zex N C (zrs N C f L) (7 - L)) ∧ zTab N C w) (zB (dC, dI) dA A (fun w => wX g dA (nI N) ks as_ bs (nI L) sg fl fd (nI 1) w)) A) ([.ref (g 0)] : List Value).toArray s 0 0 (A)) (F0 m 17 ls []) := by
    intro d17
    induction d17 with
    | zero =>
      intro k t hd17
      exact absurd hd17 (Nat.not_lt_zero _)
    | succ d17 ih17 =>
      intro k t hd17 hk ht ls hl
      refine lv_iload_n hx hb dX0_extending_17 rfl (lv_at hl 3 rfl) ?_
      refine lv_bipush (v := nI (6)) hx hb dX0_extending_18 (by decide +kernel) ?_
      refine lv_aload_n hx hb dX0_extending_20 rfl (lv_at hl 0 rfl) ?_
      refine va_get (D := (dC, dI)) (ci := 0) (v := .int (nI (L))) (C := RX0) (T := TX0) (N := 10) hx hb hts in_X0 hown hK hP 0 rfl rfl 4 (by decide) (hts _ q39) (fun _ h9 => h9) rfl dX0_extending_21 ?_
      refine zn_isub hx hb dX0_extending_24 (by omega) ?_
      refine zn_icmp_gt (tgt := 49) hx hb dX0_extending_25 (by decide) (by omega) (by omega) (fun c_25 => ?_) (fun c_25 => ?_)
      · refine lv_iload_n hx hb dX0_extending_49 rfl (lv_at hl 2 rfl) ?_
        exact W.iret (v := nI (t)) hx hb hr (fun t9 ht9 hW9 => ⟨⟨nI (t), u_1, rfl, ⟨congrArg nI (by rw [ht, show k = 7 - L by omega]), hT⟩, by rw [ht9]; exact hP, va_K.moved hW9.alike hK, hD⟩, hS.F ht9⟩) hS.2.2 dX0_extending_50
      · refine lv_iload_n hx hb dX0_extending_28 rfl (lv_at hl 2 rfl) ?_
        refine lv_aload_n hx hb dX0_extending_29 rfl (lv_at hl 0 rfl) ?_
        refine va_get (D := (dC, dI)) (ci := 0) (v := .ref (g 6)) (C := RX0) (T := TX0) (N := 10) hx hb hts in_X0 hown hK hP 0 rfl rfl 9 (by decide) (hts _ q44) (fun _ h9 => h9) rfl dX0_extending_30 ?_
        refine lv_iload_n hx hb dX0_extending_33 rfl (lv_at hl 3 rfl) ?_
        refine lv_sipush (v := nI (320)) hx hb dX0_extending_34 (by decide +kernel) ?_
        refine zn_imul hx hb dX0_extending_37 ?_
        refine lv_iload_n hx hb dX0_extending_38 rfl (lv_at hl 1 rfl) ?_
        refine zn_iadd hx hb dX0_extending_39 ?_
        refine zn_iald (f := u_1) (i := (k * 320) + (zrs N C f L)) (v := nI (zwy N C k (zrs N C f L))) hx hb hK hP 6 0 rfl rfl (by omega) (by decide) (hT k (by omega) _ hqb) dX0_extending_40 ?_
        refine zn_iadd hx hb dX0_extending_41 ?_
        refine lv_istore_n (lv' := [(2, .int (nI (t + (zwy N C k (zrs N C f L))))), (0, .ref (g 0)), (1, .int (nI (zrs N C f L))), (3, .int (nI (k)))]) hx hb dX0_extending_42 rfl hl (by decide) rfl (fun ls hl => ?_)
        refine zn_iinc (a := k) (b := 1) (k := 3) (lv' := [(3, .int (nI (k + 1))), (2, .int (nI (t + (zwy N C k (zrs N C f L))))), (0, .ref (g 0)), (1, .int (nI (zrs N C f L)))]) hx hb dX0_extending_43 hl rfl (by decide) rfl (fun ls hl => ?_)
        refine lv_goto (tgt := 17) hx hb dX0_extending_46 (by decide) ?_
        exact ih17  (k + 1) (t + (zwy N C k (zrs N C f L))) (by omega) (by omega) (by rw [ht]; rfl) _ (lv_sub hl [2, 3, 1, 0] rfl)
  exact loop17 (_ + 1) 0 0 (Nat.lt_succ_self _) (by omega) rfl _ (lv_sub hl [3, 2, 1, 0] rfl)
set_option maxHeartbeats 8000000 in
set_option maxRecDepth 100000 in
theorem met_X0_leastLength (l : Launch) (dC : Nat → ClassId) (dI : Nat → Nat → Nat) (g : Nat → Nat) (dA : ClassId) (sz : Nat) (N : Nat) (C : zC) (ks as_ bs : Nat → Int32) (st : Int32) (sg : Nat → Int32) (fl : Int32) (fd : Nat → Int32) (rd : Int32) (wy : Nat → Int32) (hN : N ≤ 3) (hC : zReps N C ks as_ bs) (h_r : zRdy N C rd wy) : zMetI (S := Int32 × (Nat → Int32) × (Nat → Int32)) l yX0_leastLength (ws_ yX0_leastLength cX0_leastLength 2 (some .int)) ({ frames := 6, cells := 0, slots := 0, locals := 150 }) (dC, dI) dA (wX g dA (nI (N)) ks as_ bs st sg fl fd rd wy) sz [.ref (g 0)] (fun r u => zTab N C u.2.2 ∧ ((r = -4 ∧ zNo N C (nI 0)) ∨ (∃ (L : Nat) (f : Nat → Nat), zFf N C (nI 0) L f ∧ r = nI L))) (fun u => wX g dA (nI N) ks as_ bs st sg u.1 u.2.1 (nI 1) u.2.2) := by
  refine Met.ofW (cc := cX0_leastLength) (maxL := 2) (ret := (some .int)) (by decide) rfl ?_
  intro p e s m args below meth c s₁ B hml hv
  obtain ⟨rfl, hsz, hP, hK, hD0⟩ := hv
  have hx := B.exec
  have hb := B.bytes
  have hr := B.returns
  have hts := atoms_spec (ws := ws_ yX0_leastLength cX0_leastLength 2 (some .int)) B.pre
  have hts : ∀ w ∈ lw_all, w.before _ s = true := fun w h => hts w (List.mem_cons_of_mem _ h)
  have hown : s.vm.findClass RX0 = some m.cls := findClass_of_methodNamed B.named
  have hlocks := B.notSynchronized
  subst hsz
  have hD := hD0.self (sz := s.heap.size)
  generalize hAe : va_A (wX g dA (nI (N)) ks as_ bs st sg fl fd rd wy) s.heap.size = A at hD ⊢
  have hA : ∀ q : Nat, s.heap.size ≤ q → A q := fun q h => by rw [← hAe]; exact Or.inr h
  have hS : va_S A s.heap s.heap [] := va_S.rf
  clear hD0 hAe
  have hl := lv_entry ([.ref (g 0)]) (n := 2) (Nat.le_of_ble_eq_true rfl)
  rw [lg_entry_eq]
  generalize (lg_sl ([.ref (g 0)]) ++ List.replicate (2 - (lg_sl ([.ref (g 0)])).length) Slot.unset).toArray = ls at hl ⊢
  have hl : lv_has ls 2 [(0, .ref (g 0))] := hl
  refine lv_aload_n hx hb dX0_leastLength_0 rfl (lv_at hl 0 rfl) ?_
  refine lv_iconst (v := nI (0)) hx hb dX0_leastLength_1 (by decide +kernel) ?_
  refine zcallMi (As := [.int (nI (0))]) (rest := []) (wr := []) (ci := 0) (q0 := 0) [0, 1, 2, 3, 4, 5, 6] [] ⟨hx, hb, hml, hown, hts⟩ (met_X0_find l dC dI g dA s.heap.size N C ks as_ bs st sg fl fd rd wy (nI (0)) hN hC h_r) (cwV 1 hts (lw_V q93 q95 qs0 q25 q96) rfl rfl rfl (by decide +kernel) ⟨Nat.le_of_ble_eq_true rfl, Nat.le_of_ble_eq_true rfl⟩) hK hP hD hS hA rfl rfl (by decide) (by decide) (by decide) rfl rfl rfl hl.1 rfl (Nat.le_of_ble_eq_true rfl) dX0_leastLength_2 ⟨Nat.zero_le _, Nat.zero_le _⟩ (fun r_2 u_2 H locs h_2 hP hD hS => ?_)
  obtain ⟨fl2, fd2, wy2⟩ := u_2
  dsimp only at h_2
  obtain ⟨hT, h_2⟩ := h_2
  rcases h_2 with ⟨rfl, -, -, hno⟩ | ⟨rfl, L, f, hff, rfl, hfd⟩
  · have hP : va_P (dC, dI) zCl (wX g dA (nI (N)) ks as_ bs st sg fl2 fd2 (nI (1)) wy2) H := hP
    have hD : va_D A (wX g dA (nI (N)) ks as_ bs st sg fl2 fd2 (nI (1)) wy2) := hD
    refine lv_istore_n (lv' := [(1, .int (nI (0))), (0, .ref (g 0))]) hx hb dX0_leastLength_5 rfl hl (by decide) rfl (fun ls hl => ?_)
    refine lv_iload_n hx hb dX0_leastLength_6 rfl (lv_at hl 0 rfl) ?_
    refine zn_if_eq (tgt := 17) hx hb dX0_leastLength_7 (by decide) (by omega) (fun _ => ?_) (fun c9 => absurd c9 (by decide))
    refine lv_bipush (v := (-4)) hx hb dX0_leastLength_17 (by decide +kernel) ?_
    exact W.iret (v := (-4)) hx hb hr (fun t9 ht9 hW9 => ⟨⟨(-4), (fl2, fd2, wy2), rfl, ⟨hT, Or.inl ⟨rfl, hno⟩⟩, by rw [ht9]; exact hP, va_K.moved hW9.alike hK, hD⟩, hS.F ht9⟩) hS.2.2 dX0_leastLength_19
  · have hP : va_P (dC, dI) zCl (wX g dA (nI (N)) ks as_ bs st sg (nI (L)) fd2 (nI (1)) wy2) H := hP
    have hD : va_D A (wX g dA (nI (N)) ks as_ bs st sg (nI (L)) fd2 (nI (1)) wy2) := hD
    refine lv_istore_n (lv' := [(1, .int (nI (1))), (0, .ref (g 0))]) hx hb dX0_leastLength_5 rfl hl (by decide) rfl (fun ls hl => ?_)
    refine lv_iload_n hx hb dX0_leastLength_6 rfl (lv_at hl 0 rfl) ?_
    refine zn_if_eq (tgt := 17) hx hb dX0_leastLength_7 (by decide) (by omega) (fun c9 => absurd c9 (by decide)) (fun _ => ?_)
    refine lv_aload_n hx hb dX0_leastLength_10 rfl (lv_at hl 1 rfl) ?_
    refine va_get (D := (dC, dI)) (ci := 0) (v := .int (nI (L))) (C := RX0) (T := TX0) (N := 10) hx hb hts in_X0 hown hK hP 0 rfl rfl 6 (by decide) (hts _ q41) (fun _ h9 => h9) rfl dX0_leastLength_11 ?_
    refine lv_goto (tgt := 19) hx hb dX0_leastLength_14 (by decide) ?_
    exact W.iret (v := nI (L)) hx hb hr (fun t9 ht9 hW9 => ⟨⟨nI (L), (nI L, fd2, wy2), rfl, ⟨hT, Or.inr ⟨L, f, hff, rfl⟩⟩, by rw [ht9]; exact hP, va_K.moved hW9.alike hK, hD⟩, hS.F ht9⟩) hS.2.2 dX0_leastLength_19
set_option maxHeartbeats 8000000 in
set_option maxRecDepth 100000 in
theorem met_X0_least (l : Launch) (dC : Nat → ClassId) (dI : Nat → Nat → Nat) (g : Nat → Nat) (dA : ClassId) (sz : Nat) (N : Nat) (C : zC) (ks as_ bs : Nat → Int32) (st : Int32) (sg : Nat → Int32) (fl : Int32) (fd : Nat → Int32) (rd : Int32) (wy : Nat → Int32) (xi : Int32) (hN : N ≤ 3) (hC : zReps N C ks as_ bs) (h_r : zRdy N C rd wy) : zMetI (S := Int32 × (Nat → Int32) × (Nat → Int32)) l yX0_least (ws_ yX0_least cX0_least 3 (some .int)) ({ frames := 6, cells := 0, slots := 0, locals := 150 }) (dC, dI) dA (wX g dA (nI (N)) ks as_ bs st sg fl fd rd wy) sz [.ref (g 0), .int (xi)] (fun r u => zTab N C u.2.2 ∧ ((r = -4 ∧ zNo N C (nI 0)) ∨ (∃ (L : Nat) (f : Nat → Nat), zFf N C (nI 0) L f ∧ r = zel f L xi))) (fun u => wX g dA (nI N) ks as_ bs st sg u.1 u.2.1 (nI 1) u.2.2) := by
  refine Met.ofW (cc := cX0_least) (maxL := 3) (ret := (some .int)) (by decide) rfl ?_
  intro p e s m args below meth c s₁ B hml hv
  obtain ⟨rfl, hsz, hP, hK, hD0⟩ := hv
  have hx := B.exec
  have hb := B.bytes
  have hr := B.returns
  have hts := atoms_spec (ws := ws_ yX0_least cX0_least 3 (some .int)) B.pre
  have hts : ∀ w ∈ lw_all, w.before _ s = true := fun w h => hts w (List.mem_cons_of_mem _ h)
  have hown : s.vm.findClass RX0 = some m.cls := findClass_of_methodNamed B.named
  have hlocks := B.notSynchronized
  subst hsz
  have hD := hD0.self (sz := s.heap.size)
  generalize hAe : va_A (wX g dA (nI (N)) ks as_ bs st sg fl fd rd wy) s.heap.size = A at hD ⊢
  have hA : ∀ q : Nat, s.heap.size ≤ q → A q := fun q h => by rw [← hAe]; exact Or.inr h
  have hS : va_S A s.heap s.heap [] := va_S.rf
  clear hD0 hAe
  have hl := lv_entry ([.ref (g 0), .int (xi)]) (n := 3) (Nat.le_of_ble_eq_true rfl)
  rw [lg_entry_eq]
  generalize (lg_sl ([.ref (g 0), .int (xi)]) ++ List.replicate (3 - (lg_sl ([.ref (g 0), .int (xi)])).length) Slot.unset).toArray = ls at hl ⊢
  have hl : lv_has ls 3 [(0, .ref (g 0)), (1, .int (xi))] := hl
  refine lv_aload_n hx hb dX0_least_0 rfl (lv_at hl 0 rfl) ?_
  refine lv_iconst (v := nI (0)) hx hb dX0_least_1 (by decide +kernel) ?_
  refine zcallMi (As := [.int (nI (0))]) (rest := []) (wr := []) (ci := 0) (q0 := 0) [0, 1, 2, 3, 4, 5, 6] [] ⟨hx, hb, hml, hown, hts⟩ (met_X0_find l dC dI g dA s.heap.size N C ks as_ bs st sg fl fd rd wy (nI (0)) hN hC h_r) (cwV 1 hts (lw_V q93 q95 qs0 q25 q96) rfl rfl rfl (by decide +kernel) ⟨Nat.le_of_ble_eq_true rfl, Nat.le_of_ble_eq_true rfl⟩) hK hP hD hS hA rfl rfl (by decide) (by decide) (by decide) rfl rfl rfl hl.1 rfl (Nat.le_of_ble_eq_true rfl) dX0_least_2 ⟨Nat.zero_le _, Nat.zero_le _⟩ (fun r_2 u_2 H locs h_2 hP hD hS => ?_)
  obtain ⟨fl2, fd2, wy2⟩ := u_2
  dsimp only at h_2
  obtain ⟨hT, h_2⟩ := h_2
  rcases h_2 with ⟨rfl, -, -, hno⟩ | ⟨rfl, L, f, hff, rfl, hfd⟩
  · have hP : va_P (dC, dI) zCl (wX g dA (nI (N)) ks as_ bs st sg fl2 fd2 (nI (1)) wy2) H := hP
    have hD : va_D A (wX g dA (nI (N)) ks as_ bs st sg fl2 fd2 (nI (1)) wy2) := hD
    refine lv_istore_n (lv' := [(2, .int (nI (0))), (0, .ref (g 0)), (1, .int (xi))]) hx hb dX0_least_5 rfl hl (by decide) rfl (fun ls hl => ?_)
    refine lv_iload_n hx hb dX0_least_6 rfl (lv_at hl 0 rfl) ?_
    refine zn_if_eq (tgt := 22) hx hb dX0_least_7 (by decide) (by omega) (fun _ => ?_) (fun c9 => absurd c9 (by decide))
    refine lv_bipush (v := (-4)) hx hb dX0_least_22 (by decide +kernel) ?_
    exact W.iret (v := (-4)) hx hb hr (fun t9 ht9 hW9 => ⟨⟨(-4), (fl2, fd2, wy2), rfl, ⟨hT, Or.inl ⟨rfl, hno⟩⟩, by rw [ht9]; exact hP, va_K.moved hW9.alike hK, hD⟩, hS.F ht9⟩) hS.2.2 dX0_least_24
  · have hP : va_P (dC, dI) zCl (wX g dA (nI (N)) ks as_ bs st sg (nI (L)) fd2 (nI (1)) wy2) H := hP
    have hD : va_D A (wX g dA (nI (N)) ks as_ bs st sg (nI (L)) fd2 (nI (1)) wy2) := hD
    refine lv_istore_n (lv' := [(2, .int (nI (1))), (0, .ref (g 0)), (1, .int (xi))]) hx hb dX0_least_5 rfl hl (by decide) rfl (fun ls hl => ?_)
    refine lv_iload_n hx hb dX0_least_6 rfl (lv_at hl 0 rfl) ?_
    refine zn_if_eq (tgt := 22) hx hb dX0_least_7 (by decide) (by omega) (fun c9 => absurd c9 (by decide)) (fun _ => ?_)
    have hL6 := hff.1
    refine lv_iload_n hx hb dX0_least_10 rfl (lv_at hl 2 rfl) ?_
    refine lv_if_lt (x := xi) (tgt := 22) hx hb dX0_least_11 (by decide) (fun c_11 => ?_) (fun c_11 => ?_)
    · refine lv_bipush (v := (-4)) hx hb dX0_least_22 (by decide +kernel) ?_
      exact W.iret (v := (-4)) hx hb hr (fun t9 ht9 hW9 => ⟨⟨(-4), (nI L, fd2, wy2), rfl, ⟨hT, Or.inr ⟨L, f, hff, by simp [zel, c_11]⟩⟩, by rw [ht9]; exact hP, va_K.moved hW9.alike hK, hD⟩, hS.F ht9⟩) hS.2.2 dX0_least_24
    · refine lv_iload_n hx hb dX0_least_14 rfl (lv_at hl 2 rfl) ?_
      refine lv_aload_n hx hb dX0_least_15 rfl (lv_at hl 1 rfl) ?_
      refine va_get (D := (dC, dI)) (ci := 0) (v := .int (nI (L))) (C := RX0) (T := TX0) (N := 10) hx hb hts in_X0 hown hK hP 0 rfl rfl 6 (by decide) (hts _ q41) (fun _ h9 => h9) rfl dX0_least_16 ?_
      refine lv_icmp_lt (x := xi) (y := nI (L)) (tgt := 25) hx hb dX0_least_19 (by decide) (fun c_19 => ?_) (fun c_19 => ?_)
      · obtain ⟨j, hj, rfl⟩ := zix c_11 c_19 (by omega)
        refine lv_aload_n hx hb dX0_least_25 rfl (lv_at hl 1 rfl) ?_
        refine va_get (D := (dC, dI)) (ci := 0) (v := .ref (g 5)) (C := RX0) (T := TX0) (N := 10) hx hb hts in_X0 hown hK hP 0 rfl rfl 7 (by decide) (hts _ q42) (fun _ h9 => h9) rfl dX0_least_26 ?_
        refine lv_iload_n hx hb dX0_least_29 rfl (lv_at hl 2 rfl) ?_
        refine zn_iald (f := fd2) (i := j) (v := nI (f j)) hx hb hK hP 5 0 rfl rfl (by omega) (by decide) (hfd j hj) dX0_least_30 ?_
        exact W.iret (v := nI (f j)) hx hb hr (fun t9 ht9 hW9 => ⟨⟨nI (f j), (nI L, fd2, wy2), rfl, ⟨hT, Or.inr ⟨L, f, hff, zel_in hj (by omega)⟩⟩, by rw [ht9]; exact hP, va_K.moved hW9.alike hK, hD⟩, hS.F ht9⟩) hS.2.2 dX0_least_31
      · refine lv_bipush (v := (-4)) hx hb dX0_least_22 (by decide +kernel) ?_
        exact W.iret (v := (-4)) hx hb hr (fun t9 ht9 hW9 => ⟨⟨(-4), (nI L, fd2, wy2), rfl, ⟨hT, Or.inr ⟨L, f, hff, by simp [zel, c_11, c_19]⟩⟩, by rw [ht9]; exact hP, va_K.moved hW9.alike hK, hD⟩, hS.F ht9⟩) hS.2.2 dX0_least_24
end
section
/-! ShrinkRankerModel: methods that only read (written by gen/x1.py) -/
set_option maxHeartbeats 8000000 in
set_option maxRecDepth 100000 in
theorem met_X1_within (l : Launch) (dC : Nat → ClassId) (dI : Nat → Nat → Nat) (h : Nat → Nat) (dA : ClassId) (N : Nat) (C : zC) (ks as_ bs : Nat → Int32) (ln dg kn : Int32) (mk : Nat → Int32) (xi lo hi : Int32) (hN : N ≤ 3) (hC : zReps N C ks as_ bs) : zMetR l yX1_within (ws_ yX1_within cX1_within 4 (some .boolean)) ({ frames := 0, cells := 0, slots := 0, locals := 0 }) (dC, dI) dA (wM h dA (nI (N)) ks as_ bs ln dg kn mk) [.ref (h 0), .int (xi), .int (lo), .int (hi)] (fun r => r = nI (zin xi lo hi).toNat) := by
  refine Met.ofW (cc := cX1_within) (maxL := 4) (ret := (some .boolean)) (by decide) rfl ?_
  intro p e s m args below meth c s₁ B hml hv
  obtain ⟨rfl, hP, hK⟩ := hv
  have hx := B.exec
  have hb := B.bytes
  have hr := B.returns
  have hts := atoms_spec (ws := ws_ yX1_within cX1_within 4 (some .boolean)) B.pre
  have hts : ∀ w ∈ lw_all, w.before _ s = true := fun w h => hts w (List.mem_cons_of_mem _ h)
  have hown : s.vm.findClass RX1 = some m.cls := findClass_of_methodNamed B.named
  have hlocks := B.notSynchronized
  have hl := lv_entry ([.ref (h 0), .int (xi), .int (lo), .int (hi)]) (n := 4) (Nat.le_of_ble_eq_true rfl)
  rw [lg_entry_eq]
  generalize (lg_sl ([.ref (h 0), .int (xi), .int (lo), .int (hi)]) ++ List.replicate (4 - (lg_sl ([.ref (h 0), .int (xi), .int (lo), .int (hi)])).length) Slot.unset).toArray = ls at hl ⊢
  have hl : lv_has ls 4 [(0, .ref (h 0)), (1, .int (xi)), (2, .int (lo)), (3, .int (hi))] := hl
  refine lv_iload_n hx hb dX1_within_0 rfl (lv_at hl 1 rfl) ?_
  refine lv_iload_n hx hb dX1_within_1 rfl (lv_at hl 2 rfl) ?_
  refine lv_icmp_lt (x := xi) (y := lo) (tgt := 14) hx hb dX1_within_2 (by decide) (fun c_2 => ?_) (fun c_2 => ?_)
  · refine lv_iconst (v := nI (0)) hx hb dX1_within_14 (by decide +kernel) ?_
    exact W.zret (v := nI (0)) hx hb hr rfl (fun t9 ht9 hW9 => ⟨_, rfl, (by simp [zin, c_2]), ht9⟩) (fun _ h => by cases h) dX1_within_15
  · refine lv_iload_n hx hb dX1_within_5 rfl (lv_at hl 1 rfl) ?_
    refine lv_iload_n hx hb dX1_within_6 rfl (lv_at hl 3 rfl) ?_
    refine lv_icmp_gt (x := xi) (y := hi) (tgt := 14) hx hb dX1_within_7 (by decide) (fun c_7 => ?_) (fun c_7 => ?_)
    · refine lv_iconst (v := nI (0)) hx hb dX1_within_14 (by decide +kernel) ?_
      exact W.zret (v := nI (0)) hx hb hr rfl (fun t9 ht9 hW9 => ⟨_, rfl, (by simp [zin, c_2, c_7]), ht9⟩) (fun _ h => by cases h) dX1_within_15
    · refine lv_iconst (v := nI (1)) hx hb dX1_within_10 (by decide +kernel) ?_
      refine lv_goto (tgt := 15) hx hb dX1_within_11 (by decide) ?_
      exact W.zret (v := nI (1)) hx hb hr rfl (fun t9 ht9 hW9 => ⟨_, rfl, (by simp [zin, c_2, c_7]), ht9⟩) (fun _ h => by cases h) dX1_within_15
set_option maxHeartbeats 8000000 in
set_option maxRecDepth 100000 in
theorem met_X1_goodNumbers (l : Launch) (dC : Nat → ClassId) (dI : Nat → Nat → Nat) (h : Nat → Nat) (dA : ClassId) (N : Nat) (C : zC) (ks as_ bs : Nat → Int32) (ln dg kn : Int32) (mk : Nat → Int32) (k : Nat) (a b : Int32) (hN : N ≤ 3) (hC : zReps N C ks as_ bs) (h_k : k ≤ 9) : zMetR l yX1_goodNumbers (ws_ yX1_goodNumbers cX1_goodNumbers 4 (some .boolean)) ({ frames := 1, cells := 0, slots := 0, locals := 23 }) (dC, dI) dA (wM h dA (nI (N)) ks as_ bs ln dg kn mk) [.ref (h 0), .int (nI (k)), .int (a), .int (b)] (fun r => r = nI (zgn k a b).toNat) := by
  refine Met.ofW (cc := cX1_goodNumbers) (maxL := 4) (ret := (some .boolean)) (by decide) rfl ?_
  intro p e s m args below meth c s₁ B hml hv
  obtain ⟨rfl, hP, hK⟩ := hv
  have hx := B.exec
  have hb := B.bytes
  have hr := B.returns
  have hts := atoms_spec (ws := ws_ yX1_goodNumbers cX1_goodNumbers 4 (some .boolean)) B.pre
  have hts : ∀ w ∈ lw_all, w.before _ s = true := fun w h => hts w (List.mem_cons_of_mem _ h)
  have hown : s.vm.findClass RX1 = some m.cls := findClass_of_methodNamed B.named
  have hlocks := B.notSynchronized
  have hl := lv_entry ([.ref (h 0), .int (nI (k)), .int (a), .int (b)]) (n := 4) (Nat.le_of_ble_eq_true rfl)
  rw [lg_entry_eq]
  generalize (lg_sl ([.ref (h 0), .int (nI (k)), .int (a), .int (b)]) ++ List.replicate (4 - (lg_sl ([.ref (h 0), .int (nI (k)), .int (a), .int (b)])).length) Slot.unset).toArray = ls at hl ⊢
  have hl : lv_has ls 4 [(0, .ref (h 0)), (1, .int (nI (k))), (2, .int (a)), (3, .int (b))] := hl
  rcases (show k = 0 ∨ k = 1 ∨ k = 2 ∨ k = 3 ∨ k = 4 ∨ k = 5 ∨ k = 6 ∨ k = 7 ∨ k = 8 ∨ k = 9 by omega) with rfl | rfl | rfl | rfl | rfl | rfl | rfl | rfl | rfl | rfl
  · refine lv_iload_n hx hb dX1_goodNumbers_0 rfl (lv_at hl 1 rfl) ?_
    refine zn_if_ne (tgt := 32) hx hb dX1_goodNumbers_1 (by decide) (by omega) (fun c9 => absurd c9 (by decide)) (fun _ => ?_)
    refine lv_aload_n hx hb dX1_goodNumbers_4 rfl (lv_at hl 0 rfl) ?_
    refine lv_iload_n hx hb dX1_goodNumbers_5 rfl (lv_at hl 2 rfl) ?_
    refine lv_iconst (v := nI (2)) hx hb dX1_goodNumbers_6 (by decide +kernel) ?_
    refine lv_iconst (v := nI (4)) hx hb dX1_goodNumbers_7 (by decide +kernel) ?_
    refine zcallR (As := [.int (a), .int (nI (2)), .int (nI (4))]) (rest := []) (ci := 1) (q0 := 0) ⟨hx, hb, hml, hown, hts⟩ (met_X1_within l dC dI h dA N C ks as_ bs ln dg kn mk a (nI (2)) (nI (4)) hN hC ) (cwV 3 hts (lw_V q200 q202 qs10 q26 q203) rfl rfl rfl (by decide +kernel) ⟨Nat.le_of_ble_eq_true rfl, Nat.le_of_ble_eq_true rfl⟩) hK hP rfl rfl rfl hl.1 rfl (Nat.le_of_ble_eq_true rfl) dX1_goodNumbers_8 ⟨Nat.zero_le _, Nat.zero_le _⟩ (fun r_8 h_8 => ?_)
    subst h_8
    refine zn_if_eq (tgt := 30) hx hb dX1_goodNumbers_11 (by decide) (zb_lt _) (fun c_11 => ?_) (fun c_11 => ?_)
    · have c_11 : (zin a (nI (2)) (nI (4))) = false := zb_f c_11
      refine lv_iconst (v := nI (0)) hx hb dX1_goodNumbers_30 (by decide +kernel) ?_
      exact W.zret (v := nI (0)) hx hb hr rfl (fun t9 ht9 hW9 => ⟨_, rfl, (congrArg nI (by simp [zgn, c_11])), ht9⟩) (fun _ h => by cases h) dX1_goodNumbers_31
    · have c_11 : (zin a (nI (2)) (nI (4))) = true := zb_t c_11
      refine lv_aload_n hx hb dX1_goodNumbers_14 rfl (lv_at hl 0 rfl) ?_
      refine lv_iload_n hx hb dX1_goodNumbers_15 rfl (lv_at hl 3 rfl) ?_
      refine lv_iconst (v := nI (0)) hx hb dX1_goodNumbers_16 (by decide +kernel) ?_
      refine lv_iload_n hx hb dX1_goodNumbers_17 rfl (lv_at hl 2 rfl) ?_
      refine lv_iconst (v := nI (1)) hx hb dX1_goodNumbers_18 (by decide +kernel) ?_
      refine lv_isub hx hb dX1_goodNumbers_19 ?_
      refine zcallR (As := [.int (b), .int (nI (0)), .int ((a - nI (1)))]) (rest := []) (ci := 1) (q0 := 0) ⟨hx, hb, hml, hown, hts⟩ (met_X1_within l dC dI h dA N C ks as_ bs ln dg kn mk b (nI (0)) ((a - nI (1))) hN hC ) (cwV 3 hts (lw_V q200 q202 qs10 q26 q203) rfl rfl rfl (by decide +kernel) ⟨Nat.le_of_ble_eq_true rfl, Nat.le_of_ble_eq_true rfl⟩) hK hP rfl rfl rfl hl.1 rfl (Nat.le_of_ble_eq_true rfl) dX1_goodNumbers_20 ⟨Nat.zero_le _, Nat.zero_le _⟩ (fun r_20 h_20 => ?_)
      subst h_20
      refine zn_if_eq (tgt := 30) hx hb dX1_goodNumbers_23 (by decide) (zb_lt _) (fun c_23 => ?_) (fun c_23 => ?_)
      · have c_23 : (zin b (nI (0)) ((a - nI (1)))) = false := zb_f c_23
        refine lv_iconst (v := nI (0)) hx hb dX1_goodNumbers_30 (by decide +kernel) ?_
        exact W.zret (v := nI (0)) hx hb hr rfl (fun t9 ht9 hW9 => ⟨_, rfl, (congrArg nI (by simp [zgn, c_11, c_23])), ht9⟩) (fun _ h => by cases h) dX1_goodNumbers_31
      · have c_23 : (zin b (nI (0)) ((a - nI (1)))) = true := zb_t c_23
        refine lv_iconst (v := nI (1)) hx hb dX1_goodNumbers_26 (by decide +kernel) ?_
        refine lv_goto (tgt := 31) hx hb dX1_goodNumbers_27 (by decide) ?_
        exact W.zret (v := nI (1)) hx hb hr rfl (fun t9 ht9 hW9 => ⟨_, rfl, (congrArg nI (by simp [zgn, c_11, c_23])), ht9⟩) (fun _ h => by cases h) dX1_goodNumbers_31
  · refine lv_iload_n hx hb dX1_goodNumbers_0 rfl (lv_at hl 1 rfl) ?_
    refine zn_if_ne (tgt := 32) hx hb dX1_goodNumbers_1 (by decide) (by omega) (fun _ => ?_) (fun c9 => absurd c9 (by decide))
    refine lv_iload_n hx hb dX1_goodNumbers_32 rfl (lv_at hl 1 rfl) ?_
    refine lv_bipush (v := nI (8)) hx hb dX1_goodNumbers_33 (by decide +kernel) ?_
    refine zn_icmp_ne (tgt := 40) hx hb dX1_goodNumbers_35 (by decide) (by omega) (by omega) (fun _ => ?_) (fun c9 => absurd c9 (by decide))
    refine lv_aload_n hx hb dX1_goodNumbers_40 rfl (lv_at hl 0 rfl) ?_
    refine lv_iload_n hx hb dX1_goodNumbers_41 rfl (lv_at hl 2 rfl) ?_
    refine lv_iconst (v := nI (0)) hx hb dX1_goodNumbers_42 (by decide +kernel) ?_
    refine lv_iconst (v := nI (3)) hx hb dX1_goodNumbers_43 (by decide +kernel) ?_
    refine zcallR (As := [.int (a), .int (nI (0)), .int (nI (3))]) (rest := []) (ci := 1) (q0 := 0) ⟨hx, hb, hml, hown, hts⟩ (met_X1_within l dC dI h dA N C ks as_ bs ln dg kn mk a (nI (0)) (nI (3)) hN hC ) (cwV 3 hts (lw_V q200 q202 qs10 q26 q203) rfl rfl rfl (by decide +kernel) ⟨Nat.le_of_ble_eq_true rfl, Nat.le_of_ble_eq_true rfl⟩) hK hP rfl rfl rfl hl.1 rfl (Nat.le_of_ble_eq_true rfl) dX1_goodNumbers_44 ⟨Nat.zero_le _, Nat.zero_le _⟩ (fun r_44 h_44 => ?_)
    subst h_44
    refine zn_if_ne (tgt := 52) hx hb dX1_goodNumbers_47 (by decide) (zb_lt _) (fun c_47 => ?_) (fun c_47 => ?_)
    · have c_47 : (zin a (nI (0)) (nI (3))) = true := zb_t c_47
      refine lv_iload_n hx hb dX1_goodNumbers_52 rfl (lv_at hl 1 rfl) ?_
      refine lv_iconst (v := nI (1)) hx hb dX1_goodNumbers_53 (by decide +kernel) ?_
      refine zn_icmp_ne (tgt := 65) hx hb dX1_goodNumbers_54 (by decide) (by omega) (by omega) (fun c9 => absurd c9 (by decide)) (fun _ => ?_)
      refine lv_aload_n hx hb dX1_goodNumbers_57 rfl (lv_at hl 0 rfl) ?_
      refine lv_iload_n hx hb dX1_goodNumbers_58 rfl (lv_at hl 3 rfl) ?_
      refine lv_iconst (v := nI (1)) hx hb dX1_goodNumbers_59 (by decide +kernel) ?_
      refine lv_iconst (v := nI (3)) hx hb dX1_goodNumbers_60 (by decide +kernel) ?_
      refine zcallR (As := [.int (b), .int (nI (1)), .int (nI (3))]) (rest := []) (ci := 1) (q0 := 0) ⟨hx, hb, hml, hown, hts⟩ (met_X1_within l dC dI h dA N C ks as_ bs ln dg kn mk b (nI (1)) (nI (3)) hN hC ) (cwV 3 hts (lw_V q200 q202 qs10 q26 q203) rfl rfl rfl (by decide +kernel) ⟨Nat.le_of_ble_eq_true rfl, Nat.le_of_ble_eq_true rfl⟩) hK hP rfl rfl rfl hl.1 rfl (Nat.le_of_ble_eq_true rfl) dX1_goodNumbers_61 ⟨Nat.zero_le _, Nat.zero_le _⟩ (fun r_61 h_61 => ?_)
      subst h_61
      exact W.zret (v := nI ((zin b (nI (1)) (nI (3))).toNat)) hx hb hr (zn_nb _) (fun t9 ht9 hW9 => ⟨_, rfl, (congrArg nI (by simp [zgn, c_47])), ht9⟩) (fun _ h => by cases h) dX1_goodNumbers_64
    · have c_47 : (zin a (nI (0)) (nI (3))) = false := zb_f c_47
      refine lv_iconst (v := nI (0)) hx hb dX1_goodNumbers_50 (by decide +kernel) ?_
      exact W.zret (v := nI (0)) hx hb hr rfl (fun t9 ht9 hW9 => ⟨_, rfl, (congrArg nI (by simp [zgn, c_47])), ht9⟩) (fun _ h => by cases h) dX1_goodNumbers_51
  · refine lv_iload_n hx hb dX1_goodNumbers_0 rfl (lv_at hl 1 rfl) ?_
    refine zn_if_ne (tgt := 32) hx hb dX1_goodNumbers_1 (by decide) (by omega) (fun _ => ?_) (fun c9 => absurd c9 (by decide))
    refine lv_iload_n hx hb dX1_goodNumbers_32 rfl (lv_at hl 1 rfl) ?_
    refine lv_bipush (v := nI (8)) hx hb dX1_goodNumbers_33 (by decide +kernel) ?_
    refine zn_icmp_ne (tgt := 40) hx hb dX1_goodNumbers_35 (by decide) (by omega) (by omega) (fun _ => ?_) (fun c9 => absurd c9 (by decide))
    refine lv_aload_n hx hb dX1_goodNumbers_40 rfl (lv_at hl 0 rfl) ?_
    refine lv_iload_n hx hb dX1_goodNumbers_41 rfl (lv_at hl 2 rfl) ?_
    refine lv_iconst (v := nI (0)) hx hb dX1_goodNumbers_42 (by decide +kernel) ?_
    refine lv_iconst (v := nI (3)) hx hb dX1_goodNumbers_43 (by decide +kernel) ?_
    refine zcallR (As := [.int (a), .int (nI (0)), .int (nI (3))]) (rest := []) (ci := 1) (q0 := 0) ⟨hx, hb, hml, hown, hts⟩ (met_X1_within l dC dI h dA N C ks as_ bs ln dg kn mk a (nI (0)) (nI (3)) hN hC ) (cwV 3 hts (lw_V q200 q202 qs10 q26 q203) rfl rfl rfl (by decide +kernel) ⟨Nat.le_of_ble_eq_true rfl, Nat.le_of_ble_eq_true rfl⟩) hK hP rfl rfl rfl hl.1 rfl (Nat.le_of_ble_eq_true rfl) dX1_goodNumbers_44 ⟨Nat.zero_le _, Nat.zero_le _⟩ (fun r_44 h_44 => ?_)
    subst h_44
    refine zn_if_ne (tgt := 52) hx hb dX1_goodNumbers_47 (by decide) (zb_lt _) (fun c_47 => ?_) (fun c_47 => ?_)
    · have c_47 : (zin a (nI (0)) (nI (3))) = true := zb_t c_47
      refine lv_iload_n hx hb dX1_goodNumbers_52 rfl (lv_at hl 1 rfl) ?_
      refine lv_iconst (v := nI (1)) hx hb dX1_goodNumbers_53 (by decide +kernel) ?_
      refine zn_icmp_ne (tgt := 65) hx hb dX1_goodNumbers_54 (by decide) (by omega) (by omega) (fun _ => ?_) (fun c9 => absurd c9 (by decide))
      refine lv_iload_n hx hb dX1_goodNumbers_65 rfl (lv_at hl 1 rfl) ?_
      refine lv_iconst (v := nI (2)) hx hb dX1_goodNumbers_66 (by decide +kernel) ?_
      refine zn_icmp_ne (tgt := 78) hx hb dX1_goodNumbers_67 (by decide) (by omega) (by omega) (fun c9 => absurd c9 (by decide)) (fun _ => ?_)
      refine lv_aload_n hx hb dX1_goodNumbers_70 rfl (lv_at hl 0 rfl) ?_
      refine lv_iload_n hx hb dX1_goodNumbers_71 rfl (lv_at hl 3 rfl) ?_
      refine lv_iconst (v := nI (0)) hx hb dX1_goodNumbers_72 (by decide +kernel) ?_
      refine lv_iconst (v := nI (2)) hx hb dX1_goodNumbers_73 (by decide +kernel) ?_
      refine zcallR (As := [.int (b), .int (nI (0)), .int (nI (2))]) (rest := []) (ci := 1) (q0 := 0) ⟨hx, hb, hml, hown, hts⟩ (met_X1_within l dC dI h dA N C ks as_ bs ln dg kn mk b (nI (0)) (nI (2)) hN hC ) (cwV 3 hts (lw_V q200 q202 qs10 q26 q203) rfl rfl rfl (by decide +kernel) ⟨Nat.le_of_ble_eq_true rfl, Nat.le_of_ble_eq_true rfl⟩) hK hP rfl rfl rfl hl.1 rfl (Nat.le_of_ble_eq_true rfl) dX1_goodNumbers_74 ⟨Nat.zero_le _, Nat.zero_le _⟩ (fun r_74 h_74 => ?_)
      subst h_74
      exact W.zret (v := nI ((zin b (nI (0)) (nI (2))).toNat)) hx hb hr (zn_nb _) (fun t9 ht9 hW9 => ⟨_, rfl, (congrArg nI (by simp [zgn, c_47])), ht9⟩) (fun _ h => by cases h) dX1_goodNumbers_77
    · have c_47 : (zin a (nI (0)) (nI (3))) = false := zb_f c_47
      refine lv_iconst (v := nI (0)) hx hb dX1_goodNumbers_50 (by decide +kernel) ?_
      exact W.zret (v := nI (0)) hx hb hr rfl (fun t9 ht9 hW9 => ⟨_, rfl, (congrArg nI (by simp [zgn, c_47])), ht9⟩) (fun _ h => by cases h) dX1_goodNumbers_51
  · refine lv_iload_n hx hb dX1_goodNumbers_0 rfl (lv_at hl 1 rfl) ?_
    refine zn_if_ne (tgt := 32) hx hb dX1_goodNumbers_1 (by decide) (by omega) (fun _ => ?_) (fun c9 => absurd c9 (by decide))
    refine lv_iload_n hx hb dX1_goodNumbers_32 rfl (lv_at hl 1 rfl) ?_
    refine lv_bipush (v := nI (8)) hx hb dX1_goodNumbers_33 (by decide +kernel) ?_
    refine zn_icmp_ne (tgt := 40) hx hb dX1_goodNumbers_35 (by decide) (by omega) (by omega) (fun _ => ?_) (fun c9 => absurd c9 (by decide))
    refine lv_aload_n hx hb dX1_goodNumbers_40 rfl (lv_at hl 0 rfl) ?_
    refine lv_iload_n hx hb dX1_goodNumbers_41 rfl (lv_at hl 2 rfl) ?_
    refine lv_iconst (v := nI (0)) hx hb dX1_goodNumbers_42 (by decide +kernel) ?_
    refine lv_iconst (v := nI (3)) hx hb dX1_goodNumbers_43 (by decide +kernel) ?_
    refine zcallR (As := [.int (a), .int (nI (0)), .int (nI (3))]) (rest := []) (ci := 1) (q0 := 0) ⟨hx, hb, hml, hown, hts⟩ (met_X1_within l dC dI h dA N C ks as_ bs ln dg kn mk a (nI (0)) (nI (3)) hN hC ) (cwV 3 hts (lw_V q200 q202 qs10 q26 q203) rfl rfl rfl (by decide +kernel) ⟨Nat.le_of_ble_eq_true rfl, Nat.le_of_ble_eq_true rfl⟩) hK hP rfl rfl rfl hl.1 rfl (Nat.le_of_ble_eq_true rfl) dX1_goodNumbers_44 ⟨Nat.zero_le _, Nat.zero_le _⟩ (fun r_44 h_44 => ?_)
    subst h_44
    refine zn_if_ne (tgt := 52) hx hb dX1_goodNumbers_47 (by decide) (zb_lt _) (fun c_47 => ?_) (fun c_47 => ?_)
    · have c_47 : (zin a (nI (0)) (nI (3))) = true := zb_t c_47
      refine lv_iload_n hx hb dX1_goodNumbers_52 rfl (lv_at hl 1 rfl) ?_
      refine lv_iconst (v := nI (1)) hx hb dX1_goodNumbers_53 (by decide +kernel) ?_
      refine zn_icmp_ne (tgt := 65) hx hb dX1_goodNumbers_54 (by decide) (by omega) (by omega) (fun _ => ?_) (fun c9 => absurd c9 (by decide))
      refine lv_iload_n hx hb dX1_goodNumbers_65 rfl (lv_at hl 1 rfl) ?_
      refine lv_iconst (v := nI (2)) hx hb dX1_goodNumbers_66 (by decide +kernel) ?_
      refine zn_icmp_ne (tgt := 78) hx hb dX1_goodNumbers_67 (by decide) (by omega) (by omega) (fun _ => ?_) (fun c9 => absurd c9 (by decide))
      refine lv_iload_n hx hb dX1_goodNumbers_78 rfl (lv_at hl 1 rfl) ?_
      refine lv_iconst (v := nI (3)) hx hb dX1_goodNumbers_79 (by decide +kernel) ?_
      refine zn_icmp_eq (tgt := 88) hx hb dX1_goodNumbers_80 (by decide) (by omega) (by omega) (fun _ => ?_) (fun c9 => absurd c9 (by decide))
      refine lv_aload_n hx hb dX1_goodNumbers_88 rfl (lv_at hl 0 rfl) ?_
      refine lv_iload_n hx hb dX1_goodNumbers_89 rfl (lv_at hl 3 rfl) ?_
      refine lv_iconst (v := nI (0)) hx hb dX1_goodNumbers_90 (by decide +kernel) ?_
      refine lv_iconst (v := nI (3)) hx hb dX1_goodNumbers_91 (by decide +kernel) ?_
      refine zcallR (As := [.int (b), .int (nI (0)), .int (nI (3))]) (rest := []) (ci := 1) (q0 := 0) ⟨hx, hb, hml, hown, hts⟩ (met_X1_within l dC dI h dA N C ks as_ bs ln dg kn mk b (nI (0)) (nI (3)) hN hC ) (cwV 3 hts (lw_V q200 q202 qs10 q26 q203) rfl rfl rfl (by decide +kernel) ⟨Nat.le_of_ble_eq_true rfl, Nat.le_of_ble_eq_true rfl⟩) hK hP rfl rfl rfl hl.1 rfl (Nat.le_of_ble_eq_true rfl) dX1_goodNumbers_92 ⟨Nat.zero_le _, Nat.zero_le _⟩ (fun r_92 h_92 => ?_)
      subst h_92
      exact W.zret (v := nI ((zin b (nI (0)) (nI (3))).toNat)) hx hb hr (zn_nb _) (fun t9 ht9 hW9 => ⟨_, rfl, (congrArg nI (by simp [zgn, c_47])), ht9⟩) (fun _ h => by cases h) dX1_goodNumbers_95
    · have c_47 : (zin a (nI (0)) (nI (3))) = false := zb_f c_47
      refine lv_iconst (v := nI (0)) hx hb dX1_goodNumbers_50 (by decide +kernel) ?_
      exact W.zret (v := nI (0)) hx hb hr rfl (fun t9 ht9 hW9 => ⟨_, rfl, (congrArg nI (by simp [zgn, c_47])), ht9⟩) (fun _ h => by cases h) dX1_goodNumbers_51
  · refine lv_iload_n hx hb dX1_goodNumbers_0 rfl (lv_at hl 1 rfl) ?_
    refine zn_if_ne (tgt := 32) hx hb dX1_goodNumbers_1 (by decide) (by omega) (fun _ => ?_) (fun c9 => absurd c9 (by decide))
    refine lv_iload_n hx hb dX1_goodNumbers_32 rfl (lv_at hl 1 rfl) ?_
    refine lv_bipush (v := nI (8)) hx hb dX1_goodNumbers_33 (by decide +kernel) ?_
    refine zn_icmp_ne (tgt := 40) hx hb dX1_goodNumbers_35 (by decide) (by omega) (by omega) (fun _ => ?_) (fun c9 => absurd c9 (by decide))
    refine lv_aload_n hx hb dX1_goodNumbers_40 rfl (lv_at hl 0 rfl) ?_
    refine lv_iload_n hx hb dX1_goodNumbers_41 rfl (lv_at hl 2 rfl) ?_
    refine lv_iconst (v := nI (0)) hx hb dX1_goodNumbers_42 (by decide +kernel) ?_
    refine lv_iconst (v := nI (3)) hx hb dX1_goodNumbers_43 (by decide +kernel) ?_
    refine zcallR (As := [.int (a), .int (nI (0)), .int (nI (3))]) (rest := []) (ci := 1) (q0 := 0) ⟨hx, hb, hml, hown, hts⟩ (met_X1_within l dC dI h dA N C ks as_ bs ln dg kn mk a (nI (0)) (nI (3)) hN hC ) (cwV 3 hts (lw_V q200 q202 qs10 q26 q203) rfl rfl rfl (by decide +kernel) ⟨Nat.le_of_ble_eq_true rfl, Nat.le_of_ble_eq_true rfl⟩) hK hP rfl rfl rfl hl.1 rfl (Nat.le_of_ble_eq_true rfl) dX1_goodNumbers_44 ⟨Nat.zero_le _, Nat.zero_le _⟩ (fun r_44 h_44 => ?_)
    subst h_44
    refine zn_if_ne (tgt := 52) hx hb dX1_goodNumbers_47 (by decide) (zb_lt _) (fun c_47 => ?_) (fun c_47 => ?_)
    · have c_47 : (zin a (nI (0)) (nI (3))) = true := zb_t c_47
      refine lv_iload_n hx hb dX1_goodNumbers_52 rfl (lv_at hl 1 rfl) ?_
      refine lv_iconst (v := nI (1)) hx hb dX1_goodNumbers_53 (by decide +kernel) ?_
      refine zn_icmp_ne (tgt := 65) hx hb dX1_goodNumbers_54 (by decide) (by omega) (by omega) (fun _ => ?_) (fun c9 => absurd c9 (by decide))
      refine lv_iload_n hx hb dX1_goodNumbers_65 rfl (lv_at hl 1 rfl) ?_
      refine lv_iconst (v := nI (2)) hx hb dX1_goodNumbers_66 (by decide +kernel) ?_
      refine zn_icmp_ne (tgt := 78) hx hb dX1_goodNumbers_67 (by decide) (by omega) (by omega) (fun _ => ?_) (fun c9 => absurd c9 (by decide))
      refine lv_iload_n hx hb dX1_goodNumbers_78 rfl (lv_at hl 1 rfl) ?_
      refine lv_iconst (v := nI (3)) hx hb dX1_goodNumbers_79 (by decide +kernel) ?_
      refine zn_icmp_eq (tgt := 88) hx hb dX1_goodNumbers_80 (by decide) (by omega) (by omega) (fun c9 => absurd c9 (by decide)) (fun _ => ?_)
      refine lv_iload_n hx hb dX1_goodNumbers_83 rfl (lv_at hl 1 rfl) ?_
      refine lv_iconst (v := nI (4)) hx hb dX1_goodNumbers_84 (by decide +kernel) ?_
      refine zn_icmp_ne (tgt := 96) hx hb dX1_goodNumbers_85 (by decide) (by omega) (by omega) (fun c9 => absurd c9 (by decide)) (fun _ => ?_)
      refine lv_aload_n hx hb dX1_goodNumbers_88 rfl (lv_at hl 0 rfl) ?_
      refine lv_iload_n hx hb dX1_goodNumbers_89 rfl (lv_at hl 3 rfl) ?_
      refine lv_iconst (v := nI (0)) hx hb dX1_goodNumbers_90 (by decide +kernel) ?_
      refine lv_iconst (v := nI (3)) hx hb dX1_goodNumbers_91 (by decide +kernel) ?_
      refine zcallR (As := [.int (b), .int (nI (0)), .int (nI (3))]) (rest := []) (ci := 1) (q0 := 0) ⟨hx, hb, hml, hown, hts⟩ (met_X1_within l dC dI h dA N C ks as_ bs ln dg kn mk b (nI (0)) (nI (3)) hN hC ) (cwV 3 hts (lw_V q200 q202 qs10 q26 q203) rfl rfl rfl (by decide +kernel) ⟨Nat.le_of_ble_eq_true rfl, Nat.le_of_ble_eq_true rfl⟩) hK hP rfl rfl rfl hl.1 rfl (Nat.le_of_ble_eq_true rfl) dX1_goodNumbers_92 ⟨Nat.zero_le _, Nat.zero_le _⟩ (fun r_92 h_92 => ?_)
      subst h_92
      exact W.zret (v := nI ((zin b (nI (0)) (nI (3))).toNat)) hx hb hr (zn_nb _) (fun t9 ht9 hW9 => ⟨_, rfl, (congrArg nI (by simp [zgn, c_47])), ht9⟩) (fun _ h => by cases h) dX1_goodNumbers_95
    · have c_47 : (zin a (nI (0)) (nI (3))) = false := zb_f c_47
      refine lv_iconst (v := nI (0)) hx hb dX1_goodNumbers_50 (by decide +kernel) ?_
      exact W.zret (v := nI (0)) hx hb hr rfl (fun t9 ht9 hW9 => ⟨_, rfl, (congrArg nI (by simp [zgn, c_47])), ht9⟩) (fun _ h => by cases h) dX1_goodNumbers_51
  · refine lv_iload_n hx hb dX1_goodNumbers_0 rfl (lv_at hl 1 rfl) ?_
    refine zn_if_ne (tgt := 32) hx hb dX1_goodNumbers_1 (by decide) (by omega) (fun _ => ?_) (fun c9 => absurd c9 (by decide))
    refine lv_iload_n hx hb dX1_goodNumbers_32 rfl (lv_at hl 1 rfl) ?_
    refine lv_bipush (v := nI (8)) hx hb dX1_goodNumbers_33 (by decide +kernel) ?_
    refine zn_icmp_ne (tgt := 40) hx hb dX1_goodNumbers_35 (by decide) (by omega) (by omega) (fun _ => ?_) (fun c9 => absurd c9 (by decide))
    refine lv_aload_n hx hb dX1_goodNumbers_40 rfl (lv_at hl 0 rfl) ?_
    refine lv_iload_n hx hb dX1_goodNumbers_41 rfl (lv_at hl 2 rfl) ?_
    refine lv_iconst (v := nI (0)) hx hb dX1_goodNumbers_42 (by decide +kernel) ?_
    refine lv_iconst (v := nI (3)) hx hb dX1_goodNumbers_43 (by decide +kernel) ?_
    refine zcallR (As := [.int (a), .int (nI (0)), .int (nI (3))]) (rest := []) (ci := 1) (q0 := 0) ⟨hx, hb, hml, hown, hts⟩ (met_X1_within l dC dI h dA N C ks as_ bs ln dg kn mk a (nI (0)) (nI (3)) hN hC ) (cwV 3 hts (lw_V q200 q202 qs10 q26 q203) rfl rfl rfl (by decide +kernel) ⟨Nat.le_of_ble_eq_true rfl, Nat.le_of_ble_eq_true rfl⟩) hK hP rfl rfl rfl hl.1 rfl (Nat.le_of_ble_eq_true rfl) dX1_goodNumbers_44 ⟨Nat.zero_le _, Nat.zero_le _⟩ (fun r_44 h_44 => ?_)
    subst h_44
    refine zn_if_ne (tgt := 52) hx hb dX1_goodNumbers_47 (by decide) (zb_lt _) (fun c_47 => ?_) (fun c_47 => ?_)
    · have c_47 : (zin a (nI (0)) (nI (3))) = true := zb_t c_47
      refine lv_iload_n hx hb dX1_goodNumbers_52 rfl (lv_at hl 1 rfl) ?_
      refine lv_iconst (v := nI (1)) hx hb dX1_goodNumbers_53 (by decide +kernel) ?_
      refine zn_icmp_ne (tgt := 65) hx hb dX1_goodNumbers_54 (by decide) (by omega) (by omega) (fun _ => ?_) (fun c9 => absurd c9 (by decide))
      refine lv_iload_n hx hb dX1_goodNumbers_65 rfl (lv_at hl 1 rfl) ?_
      refine lv_iconst (v := nI (2)) hx hb dX1_goodNumbers_66 (by decide +kernel) ?_
      refine zn_icmp_ne (tgt := 78) hx hb dX1_goodNumbers_67 (by decide) (by omega) (by omega) (fun _ => ?_) (fun c9 => absurd c9 (by decide))
      refine lv_iload_n hx hb dX1_goodNumbers_78 rfl (lv_at hl 1 rfl) ?_
      refine lv_iconst (v := nI (3)) hx hb dX1_goodNumbers_79 (by decide +kernel) ?_
      refine zn_icmp_eq (tgt := 88) hx hb dX1_goodNumbers_80 (by decide) (by omega) (by omega) (fun c9 => absurd c9 (by decide)) (fun _ => ?_)
      refine lv_iload_n hx hb dX1_goodNumbers_83 rfl (lv_at hl 1 rfl) ?_
      refine lv_iconst (v := nI (4)) hx hb dX1_goodNumbers_84 (by decide +kernel) ?_
      refine zn_icmp_ne (tgt := 96) hx hb dX1_goodNumbers_85 (by decide) (by omega) (by omega) (fun _ => ?_) (fun c9 => absurd c9 (by decide))
      refine lv_iload_n hx hb dX1_goodNumbers_96 rfl (lv_at hl 1 rfl) ?_
      refine lv_bipush (v := nI (9)) hx hb dX1_goodNumbers_97 (by decide +kernel) ?_
      refine zn_icmp_ne (tgt := 112) hx hb dX1_goodNumbers_99 (by decide) (by omega) (by omega) (fun _ => ?_) (fun c9 => absurd c9 (by decide))
      refine lv_iconst (v := nI (1)) hx hb dX1_goodNumbers_112 (by decide +kernel) ?_
      refine lv_goto (tgt := 117) hx hb dX1_goodNumbers_113 (by decide) ?_
      exact W.zret (v := nI (1)) hx hb hr rfl (fun t9 ht9 hW9 => ⟨_, rfl, (congrArg nI (by simp [zgn, c_47])), ht9⟩) (fun _ h => by cases h) dX1_goodNumbers_117
    · have c_47 : (zin a (nI (0)) (nI (3))) = false := zb_f c_47
      refine lv_iconst (v := nI (0)) hx hb dX1_goodNumbers_50 (by decide +kernel) ?_
      exact W.zret (v := nI (0)) hx hb hr rfl (fun t9 ht9 hW9 => ⟨_, rfl, (congrArg nI (by simp [zgn, c_47])), ht9⟩) (fun _ h => by cases h) dX1_goodNumbers_51
  · refine lv_iload_n hx hb dX1_goodNumbers_0 rfl (lv_at hl 1 rfl) ?_
    refine zn_if_ne (tgt := 32) hx hb dX1_goodNumbers_1 (by decide) (by omega) (fun _ => ?_) (fun c9 => absurd c9 (by decide))
    refine lv_iload_n hx hb dX1_goodNumbers_32 rfl (lv_at hl 1 rfl) ?_
    refine lv_bipush (v := nI (8)) hx hb dX1_goodNumbers_33 (by decide +kernel) ?_
    refine zn_icmp_ne (tgt := 40) hx hb dX1_goodNumbers_35 (by decide) (by omega) (by omega) (fun _ => ?_) (fun c9 => absurd c9 (by decide))
    refine lv_aload_n hx hb dX1_goodNumbers_40 rfl (lv_at hl 0 rfl) ?_
    refine lv_iload_n hx hb dX1_goodNumbers_41 rfl (lv_at hl 2 rfl) ?_
    refine lv_iconst (v := nI (0)) hx hb dX1_goodNumbers_42 (by decide +kernel) ?_
    refine lv_iconst (v := nI (3)) hx hb dX1_goodNumbers_43 (by decide +kernel) ?_
    refine zcallR (As := [.int (a), .int (nI (0)), .int (nI (3))]) (rest := []) (ci := 1) (q0 := 0) ⟨hx, hb, hml, hown, hts⟩ (met_X1_within l dC dI h dA N C ks as_ bs ln dg kn mk a (nI (0)) (nI (3)) hN hC ) (cwV 3 hts (lw_V q200 q202 qs10 q26 q203) rfl rfl rfl (by decide +kernel) ⟨Nat.le_of_ble_eq_true rfl, Nat.le_of_ble_eq_true rfl⟩) hK hP rfl rfl rfl hl.1 rfl (Nat.le_of_ble_eq_true rfl) dX1_goodNumbers_44 ⟨Nat.zero_le _, Nat.zero_le _⟩ (fun r_44 h_44 => ?_)
    subst h_44
    refine zn_if_ne (tgt := 52) hx hb dX1_goodNumbers_47 (by decide) (zb_lt _) (fun c_47 => ?_) (fun c_47 => ?_)
    · have c_47 : (zin a (nI (0)) (nI (3))) = true := zb_t c_47
      refine lv_iload_n hx hb dX1_goodNumbers_52 rfl (lv_at hl 1 rfl) ?_
      refine lv_iconst (v := nI (1)) hx hb dX1_goodNumbers_53 (by decide +kernel) ?_
      refine zn_icmp_ne (tgt := 65) hx hb dX1_goodNumbers_54 (by decide) (by omega) (by omega) (fun _ => ?_) (fun c9 => absurd c9 (by decide))
      refine lv_iload_n hx hb dX1_goodNumbers_65 rfl (lv_at hl 1 rfl) ?_
      refine lv_iconst (v := nI (2)) hx hb dX1_goodNumbers_66 (by decide +kernel) ?_
      refine zn_icmp_ne (tgt := 78) hx hb dX1_goodNumbers_67 (by decide) (by omega) (by omega) (fun _ => ?_) (fun c9 => absurd c9 (by decide))
      refine lv_iload_n hx hb dX1_goodNumbers_78 rfl (lv_at hl 1 rfl) ?_
      refine lv_iconst (v := nI (3)) hx hb dX1_goodNumbers_79 (by decide +kernel) ?_
      refine zn_icmp_eq (tgt := 88) hx hb dX1_goodNumbers_80 (by decide) (by omega) (by omega) (fun c9 => absurd c9 (by decide)) (fun _ => ?_)
      refine lv_iload_n hx hb dX1_goodNumbers_83 rfl (lv_at hl 1 rfl) ?_
      refine lv_iconst (v := nI (4)) hx hb dX1_goodNumbers_84 (by decide +kernel) ?_
      refine zn_icmp_ne (tgt := 96) hx hb dX1_goodNumbers_85 (by decide) (by omega) (by omega) (fun _ => ?_) (fun c9 => absurd c9 (by decide))
      refine lv_iload_n hx hb dX1_goodNumbers_96 rfl (lv_at hl 1 rfl) ?_
      refine lv_bipush (v := nI (9)) hx hb dX1_goodNumbers_97 (by decide +kernel) ?_
      refine zn_icmp_ne (tgt := 112) hx hb dX1_goodNumbers_99 (by decide) (by omega) (by omega) (fun _ => ?_) (fun c9 => absurd c9 (by decide))
      refine lv_iconst (v := nI (1)) hx hb dX1_goodNumbers_112 (by decide +kernel) ?_
      refine lv_goto (tgt := 117) hx hb dX1_goodNumbers_113 (by decide) ?_
      exact W.zret (v := nI (1)) hx hb hr rfl (fun t9 ht9 hW9 => ⟨_, rfl, (congrArg nI (by simp [zgn, c_47])), ht9⟩) (fun _ h => by cases h) dX1_goodNumbers_117
    · have c_47 : (zin a (nI (0)) (nI (3))) = false := zb_f c_47
      refine lv_iconst (v := nI (0)) hx hb dX1_goodNumbers_50 (by decide +kernel) ?_
      exact W.zret (v := nI (0)) hx hb hr rfl (fun t9 ht9 hW9 => ⟨_, rfl, (congrArg nI (by simp [zgn, c_47])), ht9⟩) (fun _ h => by cases h) dX1_goodNumbers_51
  · refine lv_iload_n hx hb dX1_goodNumbers_0 rfl (lv_at hl 1 rfl) ?_
    refine zn_if_ne (tgt := 32) hx hb dX1_goodNumbers_1 (by decide) (by omega) (fun _ => ?_) (fun c9 => absurd c9 (by decide))
    refine lv_iload_n hx hb dX1_goodNumbers_32 rfl (lv_at hl 1 rfl) ?_
    refine lv_bipush (v := nI (8)) hx hb dX1_goodNumbers_33 (by decide +kernel) ?_
    refine zn_icmp_ne (tgt := 40) hx hb dX1_goodNumbers_35 (by decide) (by omega) (by omega) (fun _ => ?_) (fun c9 => absurd c9 (by decide))
    refine lv_aload_n hx hb dX1_goodNumbers_40 rfl (lv_at hl 0 rfl) ?_
    refine lv_iload_n hx hb dX1_goodNumbers_41 rfl (lv_at hl 2 rfl) ?_
    refine lv_iconst (v := nI (0)) hx hb dX1_goodNumbers_42 (by decide +kernel) ?_
    refine lv_iconst (v := nI (3)) hx hb dX1_goodNumbers_43 (by decide +kernel) ?_
    refine zcallR (As := [.int (a), .int (nI (0)), .int (nI (3))]) (rest := []) (ci := 1) (q0 := 0) ⟨hx, hb, hml, hown, hts⟩ (met_X1_within l dC dI h dA N C ks as_ bs ln dg kn mk a (nI (0)) (nI (3)) hN hC ) (cwV 3 hts (lw_V q200 q202 qs10 q26 q203) rfl rfl rfl (by decide +kernel) ⟨Nat.le_of_ble_eq_true rfl, Nat.le_of_ble_eq_true rfl⟩) hK hP rfl rfl rfl hl.1 rfl (Nat.le_of_ble_eq_true rfl) dX1_goodNumbers_44 ⟨Nat.zero_le _, Nat.zero_le _⟩ (fun r_44 h_44 => ?_)
    subst h_44
    refine zn_if_ne (tgt := 52) hx hb dX1_goodNumbers_47 (by decide) (zb_lt _) (fun c_47 => ?_) (fun c_47 => ?_)
    · have c_47 : (zin a (nI (0)) (nI (3))) = true := zb_t c_47
      refine lv_iload_n hx hb dX1_goodNumbers_52 rfl (lv_at hl 1 rfl) ?_
      refine lv_iconst (v := nI (1)) hx hb dX1_goodNumbers_53 (by decide +kernel) ?_
      refine zn_icmp_ne (tgt := 65) hx hb dX1_goodNumbers_54 (by decide) (by omega) (by omega) (fun _ => ?_) (fun c9 => absurd c9 (by decide))
      refine lv_iload_n hx hb dX1_goodNumbers_65 rfl (lv_at hl 1 rfl) ?_
      refine lv_iconst (v := nI (2)) hx hb dX1_goodNumbers_66 (by decide +kernel) ?_
      refine zn_icmp_ne (tgt := 78) hx hb dX1_goodNumbers_67 (by decide) (by omega) (by omega) (fun _ => ?_) (fun c9 => absurd c9 (by decide))
      refine lv_iload_n hx hb dX1_goodNumbers_78 rfl (lv_at hl 1 rfl) ?_
      refine lv_iconst (v := nI (3)) hx hb dX1_goodNumbers_79 (by decide +kernel) ?_
      refine zn_icmp_eq (tgt := 88) hx hb dX1_goodNumbers_80 (by decide) (by omega) (by omega) (fun c9 => absurd c9 (by decide)) (fun _ => ?_)
      refine lv_iload_n hx hb dX1_goodNumbers_83 rfl (lv_at hl 1 rfl) ?_
      refine lv_iconst (v := nI (4)) hx hb dX1_goodNumbers_84 (by decide +kernel) ?_
      refine zn_icmp_ne (tgt := 96) hx hb dX1_goodNumbers_85 (by decide) (by omega) (by omega) (fun _ => ?_) (fun c9 => absurd c9 (by decide))
      refine lv_iload_n hx hb dX1_goodNumbers_96 rfl (lv_at hl 1 rfl) ?_
      refine lv_bipush (v := nI (9)) hx hb dX1_goodNumbers_97 (by decide +kernel) ?_
      refine zn_icmp_ne (tgt := 112) hx hb dX1_goodNumbers_99 (by decide) (by omega) (by omega) (fun _ => ?_) (fun c9 => absurd c9 (by decide))
      refine lv_iconst (v := nI (1)) hx hb dX1_goodNumbers_112 (by decide +kernel) ?_
      refine lv_goto (tgt := 117) hx hb dX1_goodNumbers_113 (by decide) ?_
      exact W.zret (v := nI (1)) hx hb hr rfl (fun t9 ht9 hW9 => ⟨_, rfl, (congrArg nI (by simp [zgn, c_47])), ht9⟩) (fun _ h => by cases h) dX1_goodNumbers_117
    · have c_47 : (zin a (nI (0)) (nI (3))) = false := zb_f c_47
      refine lv_iconst (v := nI (0)) hx hb dX1_goodNumbers_50 (by decide +kernel) ?_
      exact W.zret (v := nI (0)) hx hb hr rfl (fun t9 ht9 hW9 => ⟨_, rfl, (congrArg nI (by simp [zgn, c_47])), ht9⟩) (fun _ h => by cases h) dX1_goodNumbers_51
  · refine lv_iload_n hx hb dX1_goodNumbers_0 rfl (lv_at hl 1 rfl) ?_
    refine zn_if_ne (tgt := 32) hx hb dX1_goodNumbers_1 (by decide) (by omega) (fun _ => ?_) (fun c9 => absurd c9 (by decide))
    refine lv_iload_n hx hb dX1_goodNumbers_32 rfl (lv_at hl 1 rfl) ?_
    refine lv_bipush (v := nI (8)) hx hb dX1_goodNumbers_33 (by decide +kernel) ?_
    refine zn_icmp_ne (tgt := 40) hx hb dX1_goodNumbers_35 (by decide) (by omega) (by omega) (fun c9 => absurd c9 (by decide)) (fun _ => ?_)
    refine lv_iconst (v := nI (1)) hx hb dX1_goodNumbers_38 (by decide +kernel) ?_
    exact W.zret (v := nI (1)) hx hb hr rfl (fun t9 ht9 hW9 => ⟨_, rfl, (congrArg nI (by simp [zgn])), ht9⟩) (fun _ h => by cases h) dX1_goodNumbers_39
  · refine lv_iload_n hx hb dX1_goodNumbers_0 rfl (lv_at hl 1 rfl) ?_
    refine zn_if_ne (tgt := 32) hx hb dX1_goodNumbers_1 (by decide) (by omega) (fun _ => ?_) (fun c9 => absurd c9 (by decide))
    refine lv_iload_n hx hb dX1_goodNumbers_32 rfl (lv_at hl 1 rfl) ?_
    refine lv_bipush (v := nI (8)) hx hb dX1_goodNumbers_33 (by decide +kernel) ?_
    refine zn_icmp_ne (tgt := 40) hx hb dX1_goodNumbers_35 (by decide) (by omega) (by omega) (fun _ => ?_) (fun c9 => absurd c9 (by decide))
    refine lv_aload_n hx hb dX1_goodNumbers_40 rfl (lv_at hl 0 rfl) ?_
    refine lv_iload_n hx hb dX1_goodNumbers_41 rfl (lv_at hl 2 rfl) ?_
    refine lv_iconst (v := nI (0)) hx hb dX1_goodNumbers_42 (by decide +kernel) ?_
    refine lv_iconst (v := nI (3)) hx hb dX1_goodNumbers_43 (by decide +kernel) ?_
    refine zcallR (As := [.int (a), .int (nI (0)), .int (nI (3))]) (rest := []) (ci := 1) (q0 := 0) ⟨hx, hb, hml, hown, hts⟩ (met_X1_within l dC dI h dA N C ks as_ bs ln dg kn mk a (nI (0)) (nI (3)) hN hC ) (cwV 3 hts (lw_V q200 q202 qs10 q26 q203) rfl rfl rfl (by decide +kernel) ⟨Nat.le_of_ble_eq_true rfl, Nat.le_of_ble_eq_true rfl⟩) hK hP rfl rfl rfl hl.1 rfl (Nat.le_of_ble_eq_true rfl) dX1_goodNumbers_44 ⟨Nat.zero_le _, Nat.zero_le _⟩ (fun r_44 h_44 => ?_)
    subst h_44
    refine zn_if_ne (tgt := 52) hx hb dX1_goodNumbers_47 (by decide) (zb_lt _) (fun c_47 => ?_) (fun c_47 => ?_)
    · have c_47 : (zin a (nI (0)) (nI (3))) = true := zb_t c_47
      refine lv_iload_n hx hb dX1_goodNumbers_52 rfl (lv_at hl 1 rfl) ?_
      refine lv_iconst (v := nI (1)) hx hb dX1_goodNumbers_53 (by decide +kernel) ?_
      refine zn_icmp_ne (tgt := 65) hx hb dX1_goodNumbers_54 (by decide) (by omega) (by omega) (fun _ => ?_) (fun c9 => absurd c9 (by decide))
      refine lv_iload_n hx hb dX1_goodNumbers_65 rfl (lv_at hl 1 rfl) ?_
      refine lv_iconst (v := nI (2)) hx hb dX1_goodNumbers_66 (by decide +kernel) ?_
      refine zn_icmp_ne (tgt := 78) hx hb dX1_goodNumbers_67 (by decide) (by omega) (by omega) (fun _ => ?_) (fun c9 => absurd c9 (by decide))
      refine lv_iload_n hx hb dX1_goodNumbers_78 rfl (lv_at hl 1 rfl) ?_
      refine lv_iconst (v := nI (3)) hx hb dX1_goodNumbers_79 (by decide +kernel) ?_
      refine zn_icmp_eq (tgt := 88) hx hb dX1_goodNumbers_80 (by decide) (by omega) (by omega) (fun c9 => absurd c9 (by decide)) (fun _ => ?_)
      refine lv_iload_n hx hb dX1_goodNumbers_83 rfl (lv_at hl 1 rfl) ?_
      refine lv_iconst (v := nI (4)) hx hb dX1_goodNumbers_84 (by decide +kernel) ?_
      refine zn_icmp_ne (tgt := 96) hx hb dX1_goodNumbers_85 (by decide) (by omega) (by omega) (fun _ => ?_) (fun c9 => absurd c9 (by decide))
      refine lv_iload_n hx hb dX1_goodNumbers_96 rfl (lv_at hl 1 rfl) ?_
      refine lv_bipush (v := nI (9)) hx hb dX1_goodNumbers_97 (by decide +kernel) ?_
      refine zn_icmp_ne (tgt := 112) hx hb dX1_goodNumbers_99 (by decide) (by omega) (by omega) (fun c9 => absurd c9 (by decide)) (fun _ => ?_)
      refine lv_aload_n hx hb dX1_goodNumbers_102 rfl (lv_at hl 0 rfl) ?_
      refine lv_iload_n hx hb dX1_goodNumbers_103 rfl (lv_at hl 3 rfl) ?_
      refine lv_iconst (v := nI (0)) hx hb dX1_goodNumbers_104 (by decide +kernel) ?_
      refine lv_iconst (v := nI (1)) hx hb dX1_goodNumbers_105 (by decide +kernel) ?_
      refine zcallR (As := [.int (b), .int (nI (0)), .int (nI (1))]) (rest := []) (ci := 1) (q0 := 0) ⟨hx, hb, hml, hown, hts⟩ (met_X1_within l dC dI h dA N C ks as_ bs ln dg kn mk b (nI (0)) (nI (1)) hN hC ) (cwV 3 hts (lw_V q200 q202 qs10 q26 q203) rfl rfl rfl (by decide +kernel) ⟨Nat.le_of_ble_eq_true rfl, Nat.le_of_ble_eq_true rfl⟩) hK hP rfl rfl rfl hl.1 rfl (Nat.le_of_ble_eq_true rfl) dX1_goodNumbers_106 ⟨Nat.zero_le _, Nat.zero_le _⟩ (fun r_106 h_106 => ?_)
      subst h_106
      refine zn_if_eq (tgt := 116) hx hb dX1_goodNumbers_109 (by decide) (zb_lt _) (fun c_109 => ?_) (fun c_109 => ?_)
      · have c_109 : (zin b (nI (0)) (nI (1))) = false := zb_f c_109
        refine lv_iconst (v := nI (0)) hx hb dX1_goodNumbers_116 (by decide +kernel) ?_
        exact W.zret (v := nI (0)) hx hb hr rfl (fun t9 ht9 hW9 => ⟨_, rfl, (congrArg nI (by simp [zgn, c_47, c_109])), ht9⟩) (fun _ h => by cases h) dX1_goodNumbers_117
      · have c_109 : (zin b (nI (0)) (nI (1))) = true := zb_t c_109
        refine lv_iconst (v := nI (1)) hx hb dX1_goodNumbers_112 (by decide +kernel) ?_
        refine lv_goto (tgt := 117) hx hb dX1_goodNumbers_113 (by decide) ?_
        exact W.zret (v := nI (1)) hx hb hr rfl (fun t9 ht9 hW9 => ⟨_, rfl, (congrArg nI (by simp [zgn, c_47, c_109])), ht9⟩) (fun _ h => by cases h) dX1_goodNumbers_117
    · have c_47 : (zin a (nI (0)) (nI (3))) = false := zb_f c_47
      refine lv_iconst (v := nI (0)) hx hb dX1_goodNumbers_50 (by decide +kernel) ?_
      exact W.zret (v := nI (0)) hx hb hr rfl (fun t9 ht9 hW9 => ⟨_, rfl, (congrArg nI (by simp [zgn, c_47])), ht9⟩) (fun _ h => by cases h) dX1_goodNumbers_51
set_option maxHeartbeats 8000000 in
set_option maxRecDepth 100000 in
theorem met_X1_at (l : Launch) (dC : Nat → ClassId) (dI : Nat → Nat → Nat) (h : Nat → Nat) (dA : ClassId) (N : Nat) (C : zC) (ks as_ bs : Nat → Int32) (ln dg kn : Int32) (mk : Nat → Int32) (nz lz iv : Nat) (hN : N ≤ 3) (hC : zReps N C ks as_ bs) (h_n : nz ≤ 6) (h_l : lz < 4096) (h_i : iv < nz) : zMetR l yX1_at (ws_ yX1_at cX1_at 4 (some .int)) ({ frames := 0, cells := 0, slots := 0, locals := 0 }) (dC, dI) dA (wM h dA (nI (N)) ks as_ bs ln dg kn mk) [.ref (h 0), .int (nI (nz)), .int (nI (lz)), .int (nI (iv))] (fun r => r = nI (zat nz lz iv)) := by
  refine Met.ofW (cc := cX1_at) (maxL := 4) (ret := (some .int)) (by decide) rfl ?_
  intro p e s m args below meth c s₁ B hml hv
  obtain ⟨rfl, hP, hK⟩ := hv
  have hx := B.exec
  have hb := B.bytes
  have hr := B.returns
  have hts := atoms_spec (ws := ws_ yX1_at cX1_at 4 (some .int)) B.pre
  have hts : ∀ w ∈ lw_all, w.before _ s = true := fun w h => hts w (List.mem_cons_of_mem _ h)
  have hown : s.vm.findClass RX1 = some m.cls := findClass_of_methodNamed B.named
  have hlocks := B.notSynchronized
  have hl := lv_entry ([.ref (h 0), .int (nI (nz)), .int (nI (lz)), .int (nI (iv))]) (n := 4) (Nat.le_of_ble_eq_true rfl)
  rw [lg_entry_eq]
  generalize (lg_sl ([.ref (h 0), .int (nI (nz)), .int (nI (lz)), .int (nI (iv))]) ++ List.replicate (4 - (lg_sl ([.ref (h 0), .int (nI (nz)), .int (nI (lz)), .int (nI (iv))])).length) Slot.unset).toArray = ls at hl ⊢
  have hl : lv_has ls 4 [(0, .ref (h 0)), (1, .int (nI (nz))), (2, .int (nI (lz))), (3, .int (nI (iv)))] := hl
  refine lv_iload_n hx hb dX1_at_0 rfl (lv_at hl 2 rfl) ?_
  refine lv_iconst (v := nI (2)) hx hb dX1_at_1 (by decide +kernel) ?_
  refine lv_iload_n hx hb dX1_at_2 rfl (lv_at hl 1 rfl) ?_
  refine lv_iconst (v := nI (1)) hx hb dX1_at_3 (by decide +kernel) ?_
  refine zn_isub hx hb dX1_at_4 (by omega) ?_
  refine lv_iload_n hx hb dX1_at_5 rfl (lv_at hl 3 rfl) ?_
  refine zn_isub hx hb dX1_at_6 (by omega) ?_
  refine zn_imul hx hb dX1_at_7 ?_
  refine zn_ishr (v := lz / 4 ^ (nz - 1 - iv)) hx hb dX1_at_8 (by omega) (by omega) (by rw [z24]) ?_
  refine lv_iconst (v := nI (3)) hx hb dX1_at_9 (by decide +kernel) ?_
  refine zn_iand3 hx hb dX1_at_10 (Nat.lt_of_le_of_lt (Nat.div_le_self _ _) (by omega)) ?_
  exact W.iret (v := nI ((lz / 4 ^ (nz - 1 - iv)) % 4)) hx hb hr (fun t9 ht9 hW9 => ⟨_, rfl, rfl, ht9⟩) (fun _ h => by cases h) dX1_at_11
set_option maxHeartbeats 8000000 in
set_option maxRecDepth 100000 in
theorem met_X1_occurs (l : Launch) (dC : Nat → ClassId) (dI : Nat → Nat → Nat) (h : Nat → Nat) (dA : ClassId) (N : Nat) (C : zC) (ks as_ bs : Nat → Int32) (ln dg kn : Int32) (mk : Nat → Int32) (nz lz av : Nat) (hN : N ≤ 3) (hC : zReps N C ks as_ bs) (h_n : nz ≤ 6) (h_l : lz < 4096) (h_a : av ≤ 4) : zMetR l yX1_occurs (ws_ yX1_occurs cX1_occurs 6 (some .int)) ({ frames := 1, cells := 0, slots := 0, locals := 23 }) (dC, dI) dA (wM h dA (nI (N)) ks as_ bs ln dg kn mk) [.ref (h 0), .int (nI (nz)), .int (nI (lz)), .int (nI (av))] (fun r => r = nI (zoc nz lz av nz)) := by
  refine Met.ofW (cc := cX1_occurs) (maxL := 6) (ret := (some .int)) (by decide) rfl ?_
  intro p e s m args below meth c s₁ B hml hv
  obtain ⟨rfl, hP, hK⟩ := hv
  have hx := B.exec
  have hb := B.bytes
  have hr := B.returns
  have hts := atoms_spec (ws := ws_ yX1_occurs cX1_occurs 6 (some .int)) B.pre
  have hts : ∀ w ∈ lw_all, w.before _ s = true := fun w h => hts w (List.mem_cons_of_mem _ h)
  have hown : s.vm.findClass RX1 = some m.cls := findClass_of_methodNamed B.named
  have hlocks := B.notSynchronized
  have hl := lv_entry ([.ref (h 0), .int (nI (nz)), .int (nI (lz)), .int (nI (av))]) (n := 6) (Nat.le_of_ble_eq_true rfl)
  rw [lg_entry_eq]
  generalize (lg_sl ([.ref (h 0), .int (nI (nz)), .int (nI (lz)), .int (nI (av))]) ++ List.replicate (6 - (lg_sl ([.ref (h 0), .int (nI (nz)), .int (nI (lz)), .int (nI (av))])).length) Slot.unset).toArray = ls at hl ⊢
  have hl : lv_has ls 6 [(0, .ref (h 0)), (1, .int (nI (nz))), (2, .int (nI (lz))), (3, .int (nI (av)))] := hl
  refine lv_iconst (v := nI (0)) hx hb dX1_occurs_0 (by decide +kernel) ?_
  refine lv_istore (lv' := [(4, .int (nI (0))), (0, .ref (h 0)), (1, .int (nI (nz))), (2, .int (nI (lz))), (3, .int (nI (av)))]) hx hb dX1_occurs_1 hl (by decide) rfl (fun ls hl => ?_)
  refine lv_iconst (v := nI (0)) hx hb dX1_occurs_3 (by decide +kernel) ?_
  refine lv_istore (lv' := [(5, .int (nI (0))), (4, .int (nI (0))), (0, .ref (h 0)), (1, .int (nI (nz))), (2, .int (nI (lz))), (3, .int (nI (av)))]) hx hb dX1_occurs_4 hl (by decide) rfl (fun ls hl => ?_)
  have loop6 : ∀ (d6 : Nat) (i : Nat) (t : Nat), nz - i < d6 → i ≤ nz → t = zoc nz lz av i → ∀ (ls : Array Slot), lv_has ls 6 [(0, .ref (h 0)), (1, .int (nI (nz))), (2, .int (nI (lz))), (3, .int (nI (av))), (4, .int (nI (t))), (5, .int (nI (i)))] → W p l e (headSpec (ws_ yX1_occurs cX1_occurs 6 (some .int)) ({ frames := 1, cells := 0, slots := 0, locals := 23 })).room s m ([.ref (h 0), .int (nI (nz)), .int (nI (lz)), .int (nI (av))] : List Value).toArray below meth c s.heap [] 0 0 (MQ below (vp_Si (fun r => r = nI (zoc nz lz av nz))) ([.ref (h 0), .int (nI (nz)), .int (nI (lz)), .int (nI (av))] : List Value).toArray s 0 0 (fun _ => False)) (F0 m 6 ls []) := by
    intro d6
    induction d6 with
    | zero =>
      intro i t hd6
      exact absurd hd6 (Nat.not_lt_zero _)
    | succ d6 ih6 =>
      intro i t hd6 hi ht ls hl
      refine lv_iload hx hb dX1_occurs_6 (lv_at hl 5 rfl) ?_
      refine lv_iload_n hx hb dX1_occurs_8 rfl (lv_at hl 1 rfl) ?_
      refine zn_icmp_ge (tgt := 33) hx hb dX1_occurs_9 (by decide) (by omega) (by omega) (fun c_9 => ?_) (fun c_9 => ?_)
      · refine lv_iload hx hb dX1_occurs_33 (lv_at hl 4 rfl) ?_
        exact W.iret (v := nI (t)) hx hb hr (fun t9 ht9 hW9 => ⟨_, rfl, (congrArg nI (by rw [ht, show i = nz by omega])), ht9⟩) (fun _ h => by cases h) dX1_occurs_35
      · refine lv_aload_n hx hb dX1_occurs_12 rfl (lv_at hl 0 rfl) ?_
        refine lv_iload_n hx hb dX1_occurs_13 rfl (lv_at hl 1 rfl) ?_
        refine lv_iload_n hx hb dX1_occurs_14 rfl (lv_at hl 2 rfl) ?_
        refine lv_iload hx hb dX1_occurs_15 (lv_at hl 5 rfl) ?_
        refine zcallR (As := [.int (nI (nz)), .int (nI (lz)), .int (nI (i))]) (rest := []) (ci := 1) (q0 := 0) ⟨hx, hb, hml, hown, hts⟩ (met_X1_at l dC dI h dA N C ks as_ bs ln dg kn mk nz lz i hN hC (by omega) (by omega) (by omega)) (cwV 3 hts (lw_V q244 q246 qs17 q26 q247) rfl rfl rfl (by decide +kernel) ⟨Nat.le_of_ble_eq_true rfl, Nat.le_of_ble_eq_true rfl⟩) hK hP rfl rfl rfl hl.1 rfl (Nat.le_of_ble_eq_true rfl) dX1_occurs_17 ⟨Nat.zero_le _, Nat.zero_le _⟩ (fun r_17 h_17 => ?_)
        subst h_17
        have hz := zat_lt nz lz i
        refine lv_iload_n hx hb dX1_occurs_20 rfl (lv_at hl 3 rfl) ?_
        refine zn_icmp_ne (tgt := 27) hx hb dX1_occurs_21 (by decide) (by omega) (by omega) (fun c_21 => ?_) (fun c_21 => ?_)
        · refine zn_iinc (a := i) (b := 1) (k := 5) (lv' := [(5, .int (nI (i + 1))), (0, .ref (h 0)), (1, .int (nI (nz))), (2, .int (nI (lz))), (3, .int (nI (av))), (4, .int (nI (t)))]) hx hb dX1_occurs_27 hl rfl (by decide) rfl (fun ls hl => ?_)
          refine lv_goto (tgt := 6) hx hb dX1_occurs_30 (by decide) ?_
          exact ih6  (i + 1) t (by omega) (by omega) (by simp [zoc, ht, c_21]) _ (lv_sub hl [1, 2, 3, 4, 5, 0] rfl)
        · refine zn_iinc (a := t) (b := 1) (k := 4) (lv' := [(4, .int (nI (t + 1))), (0, .ref (h 0)), (1, .int (nI (nz))), (2, .int (nI (lz))), (3, .int (nI (av))), (5, .int (nI (i)))]) hx hb dX1_occurs_24 hl rfl (by decide) rfl (fun ls hl => ?_)
          refine zn_iinc (a := i) (b := 1) (k := 5) (lv' := [(5, .int (nI (i + 1))), (4, .int (nI (t + 1))), (0, .ref (h 0)), (1, .int (nI (nz))), (2, .int (nI (lz))), (3, .int (nI (av)))]) hx hb dX1_occurs_27 hl rfl (by decide) rfl (fun ls hl => ?_)
          refine lv_goto (tgt := 6) hx hb dX1_occurs_30 (by decide) ?_
          exact ih6  (i + 1) (t + 1) (by omega) (by omega) (by simp [zoc, ht, c_21]) _ (lv_sub hl [2, 3, 4, 5, 1, 0] rfl)
  exact loop6 (_ + 1) 0 0 (Nat.lt_succ_self _) (by omega) rfl _ (lv_sub hl [2, 3, 4, 5, 1, 0] rfl)
set_option maxHeartbeats 8000000 in
set_option maxRecDepth 100000 in
theorem met_X1_sum (l : Launch) (dC : Nat → ClassId) (dI : Nat → Nat → Nat) (h : Nat → Nat) (dA : ClassId) (N : Nat) (C : zC) (ks as_ bs : Nat → Int32) (ln dg kn : Int32) (mk : Nat → Int32) (nz lz : Nat) (hN : N ≤ 3) (hC : zReps N C ks as_ bs) (h_n : nz ≤ 6) (h_l : lz < 4096) : zMetR l yX1_sum (ws_ yX1_sum cX1_sum 6 (some .int)) ({ frames := 1, cells := 0, slots := 0, locals := 23 }) (dC, dI) dA (wM h dA (nI (N)) ks as_ bs ln dg kn mk) [.ref (h 0), .int (nI (nz)), .int (nI (lz))] (fun r => r = nI (zsm nz lz nz)) := by
  refine Met.ofW (cc := cX1_sum) (maxL := 6) (ret := (some .int)) (by decide) rfl ?_
  intro p e s m args below meth c s₁ B hml hv
  obtain ⟨rfl, hP, hK⟩ := hv
  have hx := B.exec
  have hb := B.bytes
  have hr := B.returns
  have hts := atoms_spec (ws := ws_ yX1_sum cX1_sum 6 (some .int)) B.pre
  have hts : ∀ w ∈ lw_all, w.before _ s = true := fun w h => hts w (List.mem_cons_of_mem _ h)
  have hown : s.vm.findClass RX1 = some m.cls := findClass_of_methodNamed B.named
  have hlocks := B.notSynchronized
  have hl := lv_entry ([.ref (h 0), .int (nI (nz)), .int (nI (lz))]) (n := 6) (Nat.le_of_ble_eq_true rfl)
  rw [lg_entry_eq]
  generalize (lg_sl ([.ref (h 0), .int (nI (nz)), .int (nI (lz))]) ++ List.replicate (6 - (lg_sl ([.ref (h 0), .int (nI (nz)), .int (nI (lz))])).length) Slot.unset).toArray = ls at hl ⊢
  have hl : lv_has ls 6 [(0, .ref (h 0)), (1, .int (nI (nz))), (2, .int (nI (lz)))] := hl
  refine lv_iconst (v := nI (0)) hx hb dX1_sum_0 (by decide +kernel) ?_
  refine lv_istore_n (lv' := [(3, .int (nI (0))), (0, .ref (h 0)), (1, .int (nI (nz))), (2, .int (nI (lz)))]) hx hb dX1_sum_1 rfl hl (by decide) rfl (fun ls hl => ?_)
  refine lv_iconst (v := nI (0)) hx hb dX1_sum_2 (by decide +kernel) ?_
  refine lv_istore (lv' := [(4, .int (nI (0))), (3, .int (nI (0))), (0, .ref (h 0)), (1, .int (nI (nz))), (2, .int (nI (lz)))]) hx hb dX1_sum_3 hl (by decide) rfl (fun ls hl => ?_)
  have loop5 : ∀ (d5 : Nat) (i : Nat) (t : Nat), nz - i < d5 → i ≤ nz → t = zsm nz lz i → ∀ (ls : Array Slot), lv_has ls 6 [(0, .ref (h 0)), (1, .int (nI (nz))), (2, .int (nI (lz))), (3, .int (nI (t))), (4, .int (nI (i)))] → W p l e (headSpec (ws_ yX1_sum cX1_sum 6 (some .int)) ({ frames := 1, cells := 0, slots := 0, locals := 23 })).room s m ([.ref (h 0), .int (nI (nz)), .int (nI (lz))] : List Value).toArray below meth c s.heap [] 0 0 (MQ below (vp_Si (fun r => r = nI (zsm nz lz nz))) ([.ref (h 0), .int (nI (nz)), .int (nI (lz))] : List Value).toArray s 0 0 (fun _ => False)) (F0 m 5 ls []) := by
    intro d5
    induction d5 with
    | zero =>
      intro i t hd5
      exact absurd hd5 (Nat.not_lt_zero _)
    | succ d5 ih5 =>
      intro i t hd5 hi ht ls hl
      refine lv_iload hx hb dX1_sum_5 (lv_at hl 4 rfl) ?_
      refine lv_iload_n hx hb dX1_sum_7 rfl (lv_at hl 1 rfl) ?_
      refine zn_icmp_ge (tgt := 32) hx hb dX1_sum_8 (by decide) (by omega) (by omega) (fun c_8 => ?_) (fun c_8 => ?_)
      · refine lv_iload_n hx hb dX1_sum_32 rfl (lv_at hl 3 rfl) ?_
        exact W.iret (v := nI (t)) hx hb hr (fun t9 ht9 hW9 => ⟨_, rfl, (congrArg nI (by rw [ht, show i = nz by omega])), ht9⟩) (fun _ h => by cases h) dX1_sum_33
      · refine lv_aload_n hx hb dX1_sum_11 rfl (lv_at hl 0 rfl) ?_
        refine lv_iload_n hx hb dX1_sum_12 rfl (lv_at hl 1 rfl) ?_
        refine lv_iload_n hx hb dX1_sum_13 rfl (lv_at hl 2 rfl) ?_
        refine lv_iload hx hb dX1_sum_14 (lv_at hl 4 rfl) ?_
        refine zcallR (As := [.int (nI (nz)), .int (nI (lz)), .int (nI (i))]) (rest := []) (ci := 1) (q0 := 0) ⟨hx, hb, hml, hown, hts⟩ (met_X1_at l dC dI h dA N C ks as_ bs ln dg kn mk nz lz i hN hC (by omega) (by omega) (by omega)) (cwV 3 hts (lw_V q244 q246 qs17 q26 q247) rfl rfl rfl (by decide +kernel) ⟨Nat.le_of_ble_eq_true rfl, Nat.le_of_ble_eq_true rfl⟩) hK hP rfl rfl rfl hl.1 rfl (Nat.le_of_ble_eq_true rfl) dX1_sum_16 ⟨Nat.zero_le _, Nat.zero_le _⟩ (fun r_16 h_16 => ?_)
        subst h_16
        refine lv_istore (lv' := [(5, .int (nI (zat nz lz i))), (0, .ref (h 0)), (1, .int (nI (nz))), (2, .int (nI (lz))), (3, .int (nI (t))), (4, .int (nI (i)))]) hx hb dX1_sum_19 hl (by decide) rfl (fun ls hl => ?_)
        refine lv_iload_n hx hb dX1_sum_21 rfl (lv_at hl 4 rfl) ?_
        refine lv_iload hx hb dX1_sum_22 (lv_at hl 0 rfl) ?_
        refine zn_iadd hx hb dX1_sum_24 ?_
        refine lv_istore_n (lv' := [(3, .int (nI (t + (zat nz lz i)))), (5, .int (nI (zat nz lz i))), (0, .ref (h 0)), (1, .int (nI (nz))), (2, .int (nI (lz))), (4, .int (nI (i)))]) hx hb dX1_sum_25 rfl hl (by decide) rfl (fun ls hl => ?_)
        refine zn_iinc (a := i) (b := 1) (k := 5) (lv' := [(4, .int (nI (i + 1))), (3, .int (nI (t + (zat nz lz i)))), (5, .int (nI (zat nz lz i))), (0, .ref (h 0)), (1, .int (nI (nz))), (2, .int (nI (lz)))]) hx hb dX1_sum_26 hl rfl (by decide) rfl (fun ls hl => ?_)
        refine lv_goto (tgt := 5) hx hb dX1_sum_29 (by decide) ?_
        exact ih5  (i + 1) (t + (zat nz lz i)) (by omega) (by omega) (by rw [ht]; rfl) _ (lv_sub hl [3, 4, 5, 1, 0] rfl)
  exact loop5 (_ + 1) 0 0 (Nat.lt_succ_self _) (by omega) rfl _ (lv_sub hl [2, 3, 4, 1, 0] rfl)
set_option maxHeartbeats 8000000 in
set_option maxRecDepth 100000 in
theorem met_X1_pair (l : Launch) (dC : Nat → ClassId) (dI : Nat → Nat → Nat) (h : Nat → Nat) (dA : ClassId) (N : Nat) (C : zC) (ks as_ bs : Nat → Int32) (ln dg kn : Int32) (mk : Nat → Int32) (nz lz av bv : Nat) (hN : N ≤ 3) (hC : zReps N C ks as_ bs) (h_n : nz ≤ 6) (h_l : lz < 4096) (h_a : av ≤ 4) (h_b : bv ≤ 4) : zMetR l yX1_pair (ws_ yX1_pair cX1_pair 6 (some .boolean)) ({ frames := 1, cells := 0, slots := 0, locals := 23 }) (dC, dI) dA (wM h dA (nI (N)) ks as_ bs ln dg kn mk) [.ref (h 0), .int (nI (nz)), .int (nI (lz)), .int (nI (av)), .int (nI (bv))] (fun r => r = nI (zpr nz lz av bv (nz - 1)).toNat) := by
  refine Met.ofW (cc := cX1_pair) (maxL := 6) (ret := (some .boolean)) (by decide) rfl ?_
  intro p e s m args below meth c s₁ B hml hv
  obtain ⟨rfl, hP, hK⟩ := hv
  have hx := B.exec
  have hb := B.bytes
  have hr := B.returns
  have hts := atoms_spec (ws := ws_ yX1_pair cX1_pair 6 (some .boolean)) B.pre
  have hts : ∀ w ∈ lw_all, w.before _ s = true := fun w h => hts w (List.mem_cons_of_mem _ h)
  have hown : s.vm.findClass RX1 = some m.cls := findClass_of_methodNamed B.named
  have hlocks := B.notSynchronized
  have hl := lv_entry ([.ref (h 0), .int (nI (nz)), .int (nI (lz)), .int (nI (av)), .int (nI (bv))]) (n := 6) (Nat.le_of_ble_eq_true rfl)
  rw [lg_entry_eq]
  generalize (lg_sl ([.ref (h 0), .int (nI (nz)), .int (nI (lz)), .int (nI (av)), .int (nI (bv))]) ++ List.replicate (6 - (lg_sl ([.ref (h 0), .int (nI (nz)), .int (nI (lz)), .int (nI (av)), .int (nI (bv))])).length) Slot.unset).toArray = ls at hl ⊢
  have hl : lv_has ls 6 [(0, .ref (h 0)), (1, .int (nI (nz))), (2, .int (nI (lz))), (3, .int (nI (av))), (4, .int (nI (bv)))] := hl
  refine lv_iconst (v := nI (0)) hx hb dX1_pair_0 (by decide +kernel) ?_
  refine lv_istore (lv' := [(5, .int (nI (0))), (0, .ref (h 0)), (1, .int (nI (nz))), (2, .int (nI (lz))), (3, .int (nI (av))), (4, .int (nI (bv)))]) hx hb dX1_pair_1 hl (by decide) rfl (fun ls hl => ?_)
  have loop3 : ∀ (d3 : Nat) (i : Nat), nz - i < d3 → i ≤ nz - 1 → zpr nz lz av bv i = false → ∀ (ls : Array Slot), lv_has ls 6 [(0, .ref (h 0)), (1, .int (nI (nz))), (2, .int (nI (lz))), (3, .int (nI (av))), (4, .int (nI (bv))), (5, .int (nI (i)))] → W p l e (headSpec (ws_ yX1_pair cX1_pair 6 (some .boolean)) ({ frames := 1, cells := 0, slots := 0, locals := 23 })).room s m ([.ref (h 0), .int (nI (nz)), .int (nI (lz)), .int (nI (av)), .int (nI (bv))] : List Value).toArray below meth c s.heap [] 0 0 (MQ below (vp_Si (fun r => r = nI (zpr nz lz av bv (nz - 1)).toNat)) ([.ref (h 0), .int (nI (nz)), .int (nI (lz)), .int (nI (av)), .int (nI (bv))] : List Value).toArray s 0 0 (fun _ => False)) (F0 m 3 ls []) := by
    intro d3
    induction d3 with
    | zero =>
      intro i hd3
      exact absurd hd3 (Nat.not_lt_zero _)
    | succ d3 ih3 =>
      intro i hd3 hi hp ls hl
      refine lv_iload hx hb dX1_pair_3 (lv_at hl 5 rfl) ?_
      refine lv_iconst (v := nI (1)) hx hb dX1_pair_5 (by decide +kernel) ?_
      refine zn_iadd hx hb dX1_pair_6 ?_
      refine lv_iload_n hx hb dX1_pair_7 rfl (lv_at hl 1 rfl) ?_
      refine zn_icmp_ge (tgt := 46) hx hb dX1_pair_8 (by decide) (by omega) (by omega) (fun c_8 => ?_) (fun c_8 => ?_)
      · refine lv_iconst (v := nI (0)) hx hb dX1_pair_46 (by decide +kernel) ?_
        exact W.zret (v := nI (0)) hx hb hr rfl (fun t9 ht9 hW9 => ⟨_, rfl, (congrArg nI (by rw [show nz - 1 = i by omega, hp]; rfl)), ht9⟩) (fun _ h => by cases h) dX1_pair_47
      · refine lv_aload_n hx hb dX1_pair_11 rfl (lv_at hl 0 rfl) ?_
        refine lv_iload_n hx hb dX1_pair_12 rfl (lv_at hl 1 rfl) ?_
        refine lv_iload_n hx hb dX1_pair_13 rfl (lv_at hl 2 rfl) ?_
        refine lv_iload hx hb dX1_pair_14 (lv_at hl 5 rfl) ?_
        refine zcallR (As := [.int (nI (nz)), .int (nI (lz)), .int (nI (i))]) (rest := []) (ci := 1) (q0 := 0) ⟨hx, hb, hml, hown, hts⟩ (met_X1_at l dC dI h dA N C ks as_ bs ln dg kn mk nz lz i hN hC (by omega) (by omega) (by omega)) (cwV 3 hts (lw_V q244 q246 qs17 q26 q247) rfl rfl rfl (by decide +kernel) ⟨Nat.le_of_ble_eq_true rfl, Nat.le_of_ble_eq_true rfl⟩) hK hP rfl rfl rfl hl.1 rfl (Nat.le_of_ble_eq_true rfl) dX1_pair_16 ⟨Nat.zero_le _, Nat.zero_le _⟩ (fun r_16 h_16 => ?_)
        subst h_16
        have hz := zat_lt nz lz i
        refine lv_iload_n hx hb dX1_pair_19 rfl (lv_at hl 3 rfl) ?_
        refine zn_icmp_ne (tgt := 40) hx hb dX1_pair_20 (by decide) (by omega) (by omega) (fun c_20 => ?_) (fun c_20 => ?_)
        · refine zn_iinc (a := i) (b := 1) (k := 5) (lv' := [(5, .int (nI (i + 1))), (0, .ref (h 0)), (1, .int (nI (nz))), (2, .int (nI (lz))), (3, .int (nI (av))), (4, .int (nI (bv)))]) hx hb dX1_pair_40 hl rfl (by decide) rfl (fun ls hl => ?_)
          refine lv_goto (tgt := 3) hx hb dX1_pair_43 (by decide) ?_
          exact ih3  (i + 1) (by omega) (by omega) (by simp [zpr, hp, c_20]) _ (lv_sub hl [1, 2, 3, 4, 5, 0] rfl)
        · refine lv_aload_n hx hb dX1_pair_23 rfl (lv_at hl 0 rfl) ?_
          refine lv_iload_n hx hb dX1_pair_24 rfl (lv_at hl 1 rfl) ?_
          refine lv_iload_n hx hb dX1_pair_25 rfl (lv_at hl 2 rfl) ?_
          refine lv_iload hx hb dX1_pair_26 (lv_at hl 5 rfl) ?_
          refine lv_iconst (v := nI (1)) hx hb dX1_pair_28 (by decide +kernel) ?_
          refine zn_iadd hx hb dX1_pair_29 ?_
          refine zcallR (As := [.int (nI (nz)), .int (nI (lz)), .int (nI (i + 1))]) (rest := []) (ci := 1) (q0 := 0) ⟨hx, hb, hml, hown, hts⟩ (met_X1_at l dC dI h dA N C ks as_ bs ln dg kn mk nz lz (i + 1) hN hC (by omega) (by omega) (by omega)) (cwV 3 hts (lw_V q244 q246 qs17 q26 q247) rfl rfl rfl (by decide +kernel) ⟨Nat.le_of_ble_eq_true rfl, Nat.le_of_ble_eq_true rfl⟩) hK hP rfl rfl rfl hl.1 rfl (Nat.le_of_ble_eq_true rfl) dX1_pair_30 ⟨Nat.zero_le _, Nat.zero_le _⟩ (fun r_30 h_30 => ?_)
          subst h_30
          have hz2 := zat_lt nz lz (i + 1)
          refine lv_iload hx hb dX1_pair_33 (lv_at hl 4 rfl) ?_
          refine zn_icmp_ne (tgt := 40) hx hb dX1_pair_35 (by decide) (by omega) (by omega) (fun c_35 => ?_) (fun c_35 => ?_)
          · refine zn_iinc (a := i) (b := 1) (k := 5) (lv' := [(5, .int (nI (i + 1))), (0, .ref (h 0)), (1, .int (nI (nz))), (2, .int (nI (lz))), (3, .int (nI (av))), (4, .int (nI (bv)))]) hx hb dX1_pair_40 hl rfl (by decide) rfl (fun ls hl => ?_)
            refine lv_goto (tgt := 3) hx hb dX1_pair_43 (by decide) ?_
            exact ih3  (i + 1) (by omega) (by omega) (by simp [zpr, hp, c_20, c_35]) _ (lv_sub hl [1, 2, 3, 4, 5, 0] rfl)
          · refine lv_iconst (v := nI (1)) hx hb dX1_pair_38 (by decide +kernel) ?_
            exact W.zret (v := nI (1)) hx hb hr rfl (fun t9 ht9 hW9 => ⟨_, rfl, (congrArg nI (by rw [zpr_t (nz - 1) (show i < nz - 1 by omega) c_20 c_35]; rfl)), ht9⟩) (fun _ h => by cases h) dX1_pair_39
  exact loop3 (_ + 1) 0 (Nat.lt_succ_self _) (by omega) rfl _ (lv_sub hl [1, 2, 3, 4, 5, 0] rfl)
set_option maxHeartbeats 8000000 in
set_option maxRecDepth 100000 in
theorem met_X1_rises (l : Launch) (dC : Nat → ClassId) (dI : Nat → Nat → Nat) (h : Nat → Nat) (dA : ClassId) (N : Nat) (C : zC) (ks as_ bs : Nat → Int32) (ln dg kn : Int32) (mk : Nat → Int32) (nz lz : Nat) (hN : N ≤ 3) (hC : zReps N C ks as_ bs) (h_n : nz ≤ 6) (h_l : lz < 4096) : zMetR l yX1_rises (ws_ yX1_rises cX1_rises 4 (some .boolean)) ({ frames := 1, cells := 0, slots := 0, locals := 23 }) (dC, dI) dA (wM h dA (nI (N)) ks as_ bs ln dg kn mk) [.ref (h 0), .int (nI (nz)), .int (nI (lz))] (fun r => r = nI (zri nz lz (nz - 1)).toNat) := by
  refine Met.ofW (cc := cX1_rises) (maxL := 4) (ret := (some .boolean)) (by decide) rfl ?_
  intro p e s m args below meth c s₁ B hml hv
  obtain ⟨rfl, hP, hK⟩ := hv
  have hx := B.exec
  have hb := B.bytes
  have hr := B.returns
  have hts := atoms_spec (ws := ws_ yX1_rises cX1_rises 4 (some .boolean)) B.pre
  have hts : ∀ w ∈ lw_all, w.before _ s = true := fun w h => hts w (List.mem_cons_of_mem _ h)
  have hown : s.vm.findClass RX1 = some m.cls := findClass_of_methodNamed B.named
  have hlocks := B.notSynchronized
  have hl := lv_entry ([.ref (h 0), .int (nI (nz)), .int (nI (lz))]) (n := 4) (Nat.le_of_ble_eq_true rfl)
  rw [lg_entry_eq]
  generalize (lg_sl ([.ref (h 0), .int (nI (nz)), .int (nI (lz))]) ++ List.replicate (4 - (lg_sl ([.ref (h 0), .int (nI (nz)), .int (nI (lz))])).length) Slot.unset).toArray = ls at hl ⊢
  have hl : lv_has ls 4 [(0, .ref (h 0)), (1, .int (nI (nz))), (2, .int (nI (lz)))] := hl
  refine lv_iconst (v := nI (0)) hx hb dX1_rises_0 (by decide +kernel) ?_
  refine lv_istore_n (lv' := [(3, .int (nI (0))), (0, .ref (h 0)), (1, .int (nI (nz))), (2, .int (nI (lz)))]) hx hb dX1_rises_1 rfl hl (by decide) rfl (fun ls hl => ?_)
  have loop2 : ∀ (d2 : Nat) (i : Nat), nz - i < d2 → i ≤ nz - 1 → zri nz lz i = false → ∀ (ls : Array Slot), lv_has ls 4 [(0, .ref (h 0)), (1, .int (nI (nz))), (2, .int (nI (lz))), (3, .int (nI (i)))] → W p l e (headSpec (ws_ yX1_rises cX1_rises 4 (some .boolean)) ({ frames := 1, cells := 0, slots := 0, locals := 23 })).room s m ([.ref (h 0), .int (nI (nz)), .int (nI (lz))] : List Value).toArray below meth c s.heap [] 0 0 (MQ below (vp_Si (fun r => r = nI (zri nz lz (nz - 1)).toNat)) ([.ref (h 0), .int (nI (nz)), .int (nI (lz))] : List Value).toArray s 0 0 (fun _ => False)) (F0 m 2 ls []) := by
    intro d2
    induction d2 with
    | zero =>
      intro i hd2
      exact absurd hd2 (Nat.not_lt_zero _)
    | succ d2 ih2 =>
      intro i hd2 hi hp ls hl
      refine lv_iload_n hx hb dX1_rises_2 rfl (lv_at hl 3 rfl) ?_
      refine lv_iconst (v := nI (1)) hx hb dX1_rises_3 (by decide +kernel) ?_
      refine zn_iadd hx hb dX1_rises_4 ?_
      refine lv_iload_n hx hb dX1_rises_5 rfl (lv_at hl 1 rfl) ?_
      refine zn_icmp_ge (tgt := 36) hx hb dX1_rises_6 (by decide) (by omega) (by omega) (fun c_6 => ?_) (fun c_6 => ?_)
      · refine lv_iconst (v := nI (0)) hx hb dX1_rises_36 (by decide +kernel) ?_
        exact W.zret (v := nI (0)) hx hb hr rfl (fun t9 ht9 hW9 => ⟨_, rfl, (congrArg nI (by rw [show nz - 1 = i by omega, hp]; rfl)), ht9⟩) (fun _ h => by cases h) dX1_rises_37
      · refine lv_aload_n hx hb dX1_rises_9 rfl (lv_at hl 0 rfl) ?_
        refine lv_iload_n hx hb dX1_rises_10 rfl (lv_at hl 1 rfl) ?_
        refine lv_iload_n hx hb dX1_rises_11 rfl (lv_at hl 2 rfl) ?_
        refine lv_iload_n hx hb dX1_rises_12 rfl (lv_at hl 3 rfl) ?_
        refine zcallR (As := [.int (nI (nz)), .int (nI (lz)), .int (nI (i))]) (rest := []) (ci := 1) (q0 := 0) ⟨hx, hb, hml, hown, hts⟩ (met_X1_at l dC dI h dA N C ks as_ bs ln dg kn mk nz lz i hN hC (by omega) (by omega) (by omega)) (cwV 3 hts (lw_V q244 q246 qs17 q26 q247) rfl rfl rfl (by decide +kernel) ⟨Nat.le_of_ble_eq_true rfl, Nat.le_of_ble_eq_true rfl⟩) hK hP rfl rfl rfl hl.1 rfl (Nat.le_of_ble_eq_true rfl) dX1_rises_13 ⟨Nat.zero_le _, Nat.zero_le _⟩ (fun r_13 h_13 => ?_)
        subst h_13
        have hz := zat_lt nz lz i
        refine lv_aload_n hx hb dX1_rises_16 rfl (lv_at hl 0 rfl) ?_
        refine lv_iload_n hx hb dX1_rises_17 rfl (lv_at hl 1 rfl) ?_
        refine lv_iload_n hx hb dX1_rises_18 rfl (lv_at hl 2 rfl) ?_
        refine lv_iload_n hx hb dX1_rises_19 rfl (lv_at hl 3 rfl) ?_
        refine lv_iconst (v := nI (1)) hx hb dX1_rises_20 (by decide +kernel) ?_
        refine zn_iadd hx hb dX1_rises_21 ?_
        refine zcallR (As := [.int (nI (nz)), .int (nI (lz)), .int (nI (i + 1))]) (rest := [.int (nI (zat nz lz i))]) (ci := 1) (q0 := 0) ⟨hx, hb, hml, hown, hts⟩ (met_X1_at l dC dI h dA N C ks as_ bs ln dg kn mk nz lz (i + 1) hN hC (by omega) (by omega) (by omega)) (cwV 3 hts (lw_V q244 q246 qs17 q26 q247) rfl rfl rfl (by decide +kernel) ⟨Nat.le_of_ble_eq_true rfl, Nat.le_of_ble_eq_true rfl⟩) hK hP rfl rfl rfl hl.1 rfl (Nat.le_of_ble_eq_true rfl) dX1_rises_22 ⟨Nat.zero_le _, Nat.zero_le _⟩ (fun r_22 h_22 => ?_)
        subst h_22
        have hz2 := zat_lt nz lz (i + 1)
        refine zn_icmp_ge (tgt := 30) hx hb dX1_rises_25 (by decide) (by omega) (by omega) (fun c_25 => ?_) (fun c_25 => ?_)
        · refine zn_iinc (a := i) (b := 1) (k := 3) (lv' := [(3, .int (nI (i + 1))), (0, .ref (h 0)), (1, .int (nI (nz))), (2, .int (nI (lz)))]) hx hb dX1_rises_30 hl rfl (by decide) rfl (fun ls hl => ?_)
          refine lv_goto (tgt := 2) hx hb dX1_rises_33 (by decide) ?_
          exact ih2  (i + 1) (by omega) (by omega) (by simp [zri, hp, c_25]) _ (lv_sub hl [1, 2, 3, 0] rfl)
        · refine lv_iconst (v := nI (1)) hx hb dX1_rises_28 (by decide +kernel) ?_
          exact W.zret (v := nI (1)) hx hb hr rfl (fun t9 ht9 hW9 => ⟨_, rfl, (congrArg nI (by rw [zri_t (nz - 1) (show i < nz - 1 by omega) c_25]; rfl)), ht9⟩) (fun _ h => by cases h) dX1_rises_29
  exact loop2 (_ + 1) 0 (Nat.lt_succ_self _) (by omega) rfl _ (lv_sub hl [1, 2, 3, 0] rfl)
set_option maxHeartbeats 8000000 in
set_option maxRecDepth 100000 in
theorem met_X1_meets (l : Launch) (dC : Nat → ClassId) (dI : Nat → Nat → Nat) (h : Nat → Nat) (dA : ClassId) (N : Nat) (C : zC) (ks as_ bs : Nat → Int32) (ln dg kn : Int32) (mk : Nat → Int32) (nz lz : Nat) (kI aI bI : Int32) (cv : Nat × Nat × Nat) (hN : N ≤ 3) (hC : zReps N C ks as_ bs) (h_n : nz ≤ 6) (h_l : lz < 4096) (h_c : zRep kI aI bI cv) : zMetR l yX1_meets (ws_ yX1_meets cX1_meets 6 (some .boolean)) ({ frames := 2, cells := 0, slots := 0, locals := 48 }) (dC, dI) dA (wM h dA (nI (N)) ks as_ bs ln dg kn mk) [.ref (h 0), .int (nI (nz)), .int (nI (lz)), .int (kI), .int (aI), .int (bI)] (fun r => r = nI (zmt cv nz lz).toNat) := by
  refine Met.ofW (cc := cX1_meets) (maxL := 6) (ret := (some .boolean)) (by decide) rfl ?_
  intro p e s m args below meth c s₁ B hml hv
  obtain ⟨rfl, hP, hK⟩ := hv
  have hx := B.exec
  have hb := B.bytes
  have hr := B.returns
  have hts := atoms_spec (ws := ws_ yX1_meets cX1_meets 6 (some .boolean)) B.pre
  have hts : ∀ w ∈ lw_all, w.before _ s = true := fun w h => hts w (List.mem_cons_of_mem _ h)
  have hown : s.vm.findClass RX1 = some m.cls := findClass_of_methodNamed B.named
  have hlocks := B.notSynchronized
  have hl := lv_entry ([.ref (h 0), .int (nI (nz)), .int (nI (lz)), .int (kI), .int (aI), .int (bI)]) (n := 6) (Nat.le_of_ble_eq_true rfl)
  rw [lg_entry_eq]
  generalize (lg_sl ([.ref (h 0), .int (nI (nz)), .int (nI (lz)), .int (kI), .int (aI), .int (bI)]) ++ List.replicate (6 - (lg_sl ([.ref (h 0), .int (nI (nz)), .int (nI (lz)), .int (kI), .int (aI), .int (bI)])).length) Slot.unset).toArray = ls at hl ⊢
  have hl : lv_has ls 6 [(0, .ref (h 0)), (1, .int (nI (nz))), (2, .int (nI (lz))), (3, .int (kI)), (4, .int (aI)), (5, .int (bI))] := hl
  obtain ⟨k, a, b⟩ := cv
  obtain ⟨hg, hk, ha, hbb⟩ := h_c
  dsimp only [zG] at hg hk ha hbb
  have h9 := hg.1
  subst hk
  rcases (show k = 0 ∨ k = 1 ∨ k = 2 ∨ k = 3 ∨ k = 4 ∨ k = 5 ∨ k = 6 ∨ k = 7 ∨ k = 8 ∨ k = 9 by omega) with rfl | rfl | rfl | rfl | rfl | rfl | rfl | rfl | rfl | rfl
  · have ha := ha (by decide)
    subst ha
    have hbb := hbb (by decide)
    subst hbb
    refine lv_iload_n hx hb dX1_meets_0 rfl (lv_at hl 3 rfl) ?_
    refine zn_if_ne (tgt := 29) hx hb dX1_meets_1 (by decide) (by omega) (fun c9 => absurd c9 (by decide)) (fun _ => ?_)
    refine lv_iload hx hb dX1_meets_4 (lv_at hl 4 rfl) ?_
    refine zn_if_le (tgt := 27) hx hb dX1_meets_6 (by decide) (by omega) (fun c_6 => absurd c_6 (by omega)) (fun c_6 => ?_)
    refine lv_aload_n hx hb dX1_meets_9 rfl (lv_at hl 0 rfl) ?_
    refine lv_iload_n hx hb dX1_meets_10 rfl (lv_at hl 1 rfl) ?_
    refine lv_iload_n hx hb dX1_meets_11 rfl (lv_at hl 2 rfl) ?_
    refine zcallR (As := [.int (nI (nz)), .int (nI (lz))]) (rest := []) (ci := 1) (q0 := 0) ⟨hx, hb, hml, hown, hts⟩ (met_X1_sum l dC dI h dA N C ks as_ bs ln dg kn mk nz lz hN hC (by omega) (by omega)) (cwV 2 hts (lw_V q240 q242 qs16 q26 q243) rfl rfl rfl (by decide +kernel) ⟨Nat.le_of_ble_eq_true rfl, Nat.le_of_ble_eq_true rfl⟩) hK hP rfl rfl rfl hl.1 rfl (Nat.le_of_ble_eq_true rfl) dX1_meets_12 ⟨Nat.zero_le _, Nat.zero_le _⟩ (fun r_12 h_12 => ?_)
    subst h_12
    have hz := zsm_le nz lz nz
    refine lv_iload hx hb dX1_meets_15 (lv_at hl 4 rfl) ?_
    refine zn_irem hx hb dX1_meets_17 (by omega) (by omega) (by omega) ?_
    refine lv_iload hx hb dX1_meets_18 (lv_at hl 5 rfl) ?_
    refine zn_icmp_ne (tgt := 27) hx hb dX1_meets_20 (by decide) (Nat.lt_of_le_of_lt (Nat.mod_le _ _) (by omega)) (by omega) (fun c_20 => ?_) (fun c_20 => ?_)
    · refine lv_iconst (v := nI (0)) hx hb dX1_meets_27 (by decide +kernel) ?_
      exact W.zret (v := nI (0)) hx hb hr rfl (fun t9 ht9 hW9 => ⟨_, rfl, (congrArg nI (show 0 = (decide (zsm nz lz nz % a = b)).toNat from zb_0 (by omega))), ht9⟩) (fun _ h => by cases h) dX1_meets_28
    · refine lv_iconst (v := nI (1)) hx hb dX1_meets_23 (by decide +kernel) ?_
      refine lv_goto (tgt := 28) hx hb dX1_meets_24 (by decide) ?_
      exact W.zret (v := nI (1)) hx hb hr rfl (fun t9 ht9 hW9 => ⟨_, rfl, (congrArg nI (show 1 = (decide (zsm nz lz nz % a = b)).toNat from zb_1 (by omega))), ht9⟩) (fun _ h => by cases h) dX1_meets_28
  · have ha := ha (by decide)
    subst ha
    have hbb := hbb (by decide)
    subst hbb
    refine lv_iload_n hx hb dX1_meets_0 rfl (lv_at hl 3 rfl) ?_
    refine zn_if_ne (tgt := 29) hx hb dX1_meets_1 (by decide) (by omega) (fun _ => ?_) (fun c9 => absurd c9 (by decide))
    refine lv_iload_n hx hb dX1_meets_29 rfl (lv_at hl 3 rfl) ?_
    refine lv_iconst (v := nI (1)) hx hb dX1_meets_30 (by decide +kernel) ?_
    refine zn_icmp_ne (tgt := 53) hx hb dX1_meets_31 (by decide) (by omega) (by omega) (fun c9 => absurd c9 (by decide)) (fun _ => ?_)
    refine lv_aload_n hx hb dX1_meets_34 rfl (lv_at hl 0 rfl) ?_
    refine lv_iload_n hx hb dX1_meets_35 rfl (lv_at hl 1 rfl) ?_
    refine lv_iload_n hx hb dX1_meets_36 rfl (lv_at hl 2 rfl) ?_
    refine lv_iload hx hb dX1_meets_37 (lv_at hl 4 rfl) ?_
    refine zcallR (As := [.int (nI (nz)), .int (nI (lz)), .int (nI (a))]) (rest := []) (ci := 1) (q0 := 0) ⟨hx, hb, hml, hown, hts⟩ (met_X1_occurs l dC dI h dA N C ks as_ bs ln dg kn mk nz lz a hN hC (by omega) (by omega) (by omega)) (cwV 3 hts (lw_V q248 q250 qs18 q26 q251) rfl rfl rfl (by decide +kernel) ⟨Nat.le_of_ble_eq_true rfl, Nat.le_of_ble_eq_true rfl⟩) hK hP rfl rfl rfl hl.1 rfl (Nat.le_of_ble_eq_true rfl) dX1_meets_39 ⟨Nat.zero_le _, Nat.zero_le _⟩ (fun r_39 h_39 => ?_)
    subst h_39
    have hz := zoc_le nz lz a nz
    refine lv_iload hx hb dX1_meets_42 (lv_at hl 5 rfl) ?_
    refine zn_icmp_lt (tgt := 51) hx hb dX1_meets_44 (by decide) (by omega) (by omega) (fun c_44 => ?_) (fun c_44 => ?_)
    · refine lv_iconst (v := nI (0)) hx hb dX1_meets_51 (by decide +kernel) ?_
      exact W.zret (v := nI (0)) hx hb hr rfl (fun t9 ht9 hW9 => ⟨_, rfl, (congrArg nI (show 0 = (decide (b ≤ zoc nz lz a nz)).toNat from zb_0 (by omega))), ht9⟩) (fun _ h => by cases h) dX1_meets_52
    · refine lv_iconst (v := nI (1)) hx hb dX1_meets_47 (by decide +kernel) ?_
      refine lv_goto (tgt := 52) hx hb dX1_meets_48 (by decide) ?_
      exact W.zret (v := nI (1)) hx hb hr rfl (fun t9 ht9 hW9 => ⟨_, rfl, (congrArg nI (show 1 = (decide (b ≤ zoc nz lz a nz)).toNat from zb_1 (by omega))), ht9⟩) (fun _ h => by cases h) dX1_meets_52
  · have ha := ha (by decide)
    subst ha
    have hbb := hbb (by decide)
    subst hbb
    refine lv_iload_n hx hb dX1_meets_0 rfl (lv_at hl 3 rfl) ?_
    refine zn_if_ne (tgt := 29) hx hb dX1_meets_1 (by decide) (by omega) (fun _ => ?_) (fun c9 => absurd c9 (by decide))
    refine lv_iload_n hx hb dX1_meets_29 rfl (lv_at hl 3 rfl) ?_
    refine lv_iconst (v := nI (1)) hx hb dX1_meets_30 (by decide +kernel) ?_
    refine zn_icmp_ne (tgt := 53) hx hb dX1_meets_31 (by decide) (by omega) (by omega) (fun _ => ?_) (fun c9 => absurd c9 (by decide))
    refine lv_iload_n hx hb dX1_meets_53 rfl (lv_at hl 3 rfl) ?_
    refine lv_iconst (v := nI (2)) hx hb dX1_meets_54 (by decide +kernel) ?_
    refine zn_icmp_ne (tgt := 77) hx hb dX1_meets_55 (by decide) (by omega) (by omega) (fun c9 => absurd c9 (by decide)) (fun _ => ?_)
    refine lv_aload_n hx hb dX1_meets_58 rfl (lv_at hl 0 rfl) ?_
    refine lv_iload_n hx hb dX1_meets_59 rfl (lv_at hl 1 rfl) ?_
    refine lv_iload_n hx hb dX1_meets_60 rfl (lv_at hl 2 rfl) ?_
    refine lv_iload hx hb dX1_meets_61 (lv_at hl 4 rfl) ?_
    refine zcallR (As := [.int (nI (nz)), .int (nI (lz)), .int (nI (a))]) (rest := []) (ci := 1) (q0 := 0) ⟨hx, hb, hml, hown, hts⟩ (met_X1_occurs l dC dI h dA N C ks as_ bs ln dg kn mk nz lz a hN hC (by omega) (by omega) (by omega)) (cwV 3 hts (lw_V q248 q250 qs18 q26 q251) rfl rfl rfl (by decide +kernel) ⟨Nat.le_of_ble_eq_true rfl, Nat.le_of_ble_eq_true rfl⟩) hK hP rfl rfl rfl hl.1 rfl (Nat.le_of_ble_eq_true rfl) dX1_meets_63 ⟨Nat.zero_le _, Nat.zero_le _⟩ (fun r_63 h_63 => ?_)
    subst h_63
    have hz := zoc_le nz lz a nz
    refine lv_iload hx hb dX1_meets_66 (lv_at hl 5 rfl) ?_
    refine zn_icmp_gt (tgt := 75) hx hb dX1_meets_68 (by decide) (by omega) (by omega) (fun c_68 => ?_) (fun c_68 => ?_)
    · refine lv_iconst (v := nI (0)) hx hb dX1_meets_75 (by decide +kernel) ?_
      exact W.zret (v := nI (0)) hx hb hr rfl (fun t9 ht9 hW9 => ⟨_, rfl, (congrArg nI (show 0 = (decide (zoc nz lz a nz ≤ b)).toNat from zb_0 (by omega))), ht9⟩) (fun _ h => by cases h) dX1_meets_76
    · refine lv_iconst (v := nI (1)) hx hb dX1_meets_71 (by decide +kernel) ?_
      refine lv_goto (tgt := 76) hx hb dX1_meets_72 (by decide) ?_
      exact W.zret (v := nI (1)) hx hb hr rfl (fun t9 ht9 hW9 => ⟨_, rfl, (congrArg nI (show 1 = (decide (zoc nz lz a nz ≤ b)).toNat from zb_1 (by omega))), ht9⟩) (fun _ h => by cases h) dX1_meets_76
  · have ha := ha (by decide)
    subst ha
    have hbb := hbb (by decide)
    subst hbb
    refine lv_iload_n hx hb dX1_meets_0 rfl (lv_at hl 3 rfl) ?_
    refine zn_if_ne (tgt := 29) hx hb dX1_meets_1 (by decide) (by omega) (fun _ => ?_) (fun c9 => absurd c9 (by decide))
    refine lv_iload_n hx hb dX1_meets_29 rfl (lv_at hl 3 rfl) ?_
    refine lv_iconst (v := nI (1)) hx hb dX1_meets_30 (by decide +kernel) ?_
    refine zn_icmp_ne (tgt := 53) hx hb dX1_meets_31 (by decide) (by omega) (by omega) (fun _ => ?_) (fun c9 => absurd c9 (by decide))
    refine lv_iload_n hx hb dX1_meets_53 rfl (lv_at hl 3 rfl) ?_
    refine lv_iconst (v := nI (2)) hx hb dX1_meets_54 (by decide +kernel) ?_
    refine zn_icmp_ne (tgt := 77) hx hb dX1_meets_55 (by decide) (by omega) (by omega) (fun _ => ?_) (fun c9 => absurd c9 (by decide))
    refine lv_iload_n hx hb dX1_meets_77 rfl (lv_at hl 3 rfl) ?_
    refine lv_iconst (v := nI (3)) hx hb dX1_meets_78 (by decide +kernel) ?_
    refine zn_icmp_ne (tgt := 93) hx hb dX1_meets_79 (by decide) (by omega) (by omega) (fun c9 => absurd c9 (by decide)) (fun _ => ?_)
    refine lv_aload_n hx hb dX1_meets_82 rfl (lv_at hl 0 rfl) ?_
    refine lv_iload_n hx hb dX1_meets_83 rfl (lv_at hl 1 rfl) ?_
    refine lv_iload_n hx hb dX1_meets_84 rfl (lv_at hl 2 rfl) ?_
    refine lv_iload hx hb dX1_meets_85 (lv_at hl 4 rfl) ?_
    refine lv_iload hx hb dX1_meets_87 (lv_at hl 5 rfl) ?_
    refine zcallR (As := [.int (nI (nz)), .int (nI (lz)), .int (nI (a)), .int (nI (b))]) (rest := []) (ci := 1) (q0 := 0) ⟨hx, hb, hml, hown, hts⟩ (met_X1_pair l dC dI h dA N C ks as_ bs ln dg kn mk nz lz a b hN hC (by omega) (by omega) (by omega) (by omega)) (cwV 4 hts (lw_V q252 q254 qs19 q26 q255) rfl rfl rfl (by decide +kernel) ⟨Nat.le_of_ble_eq_true rfl, Nat.le_of_ble_eq_true rfl⟩) hK hP rfl rfl rfl hl.1 rfl (Nat.le_of_ble_eq_true rfl) dX1_meets_89 ⟨Nat.zero_le _, Nat.zero_le _⟩ (fun r_89 h_89 => ?_)
    subst h_89
    exact W.zret (v := nI ((zpr nz lz a b (nz - 1)).toNat)) hx hb hr (zn_nb _) (fun t9 ht9 hW9 => ⟨_, rfl, rfl, ht9⟩) (fun _ h => by cases h) dX1_meets_92
  · have ha := ha (by decide)
    subst ha
    have hbb := hbb (by decide)
    subst hbb
    refine lv_iload_n hx hb dX1_meets_0 rfl (lv_at hl 3 rfl) ?_
    refine zn_if_ne (tgt := 29) hx hb dX1_meets_1 (by decide) (by omega) (fun _ => ?_) (fun c9 => absurd c9 (by decide))
    refine lv_iload_n hx hb dX1_meets_29 rfl (lv_at hl 3 rfl) ?_
    refine lv_iconst (v := nI (1)) hx hb dX1_meets_30 (by decide +kernel) ?_
    refine zn_icmp_ne (tgt := 53) hx hb dX1_meets_31 (by decide) (by omega) (by omega) (fun _ => ?_) (fun c9 => absurd c9 (by decide))
    refine lv_iload_n hx hb dX1_meets_53 rfl (lv_at hl 3 rfl) ?_
    refine lv_iconst (v := nI (2)) hx hb dX1_meets_54 (by decide +kernel) ?_
    refine zn_icmp_ne (tgt := 77) hx hb dX1_meets_55 (by decide) (by omega) (by omega) (fun _ => ?_) (fun c9 => absurd c9 (by decide))
    refine lv_iload_n hx hb dX1_meets_77 rfl (lv_at hl 3 rfl) ?_
    refine lv_iconst (v := nI (3)) hx hb dX1_meets_78 (by decide +kernel) ?_
    refine zn_icmp_ne (tgt := 93) hx hb dX1_meets_79 (by decide) (by omega) (by omega) (fun _ => ?_) (fun c9 => absurd c9 (by decide))
    refine lv_iload_n hx hb dX1_meets_93 rfl (lv_at hl 3 rfl) ?_
    refine lv_iconst (v := nI (4)) hx hb dX1_meets_94 (by decide +kernel) ?_
    refine zn_icmp_ne (tgt := 117) hx hb dX1_meets_95 (by decide) (by omega) (by omega) (fun c9 => absurd c9 (by decide)) (fun _ => ?_)
    refine lv_aload_n hx hb dX1_meets_98 rfl (lv_at hl 0 rfl) ?_
    refine lv_iload_n hx hb dX1_meets_99 rfl (lv_at hl 1 rfl) ?_
    refine lv_iload_n hx hb dX1_meets_100 rfl (lv_at hl 2 rfl) ?_
    refine lv_iload hx hb dX1_meets_101 (lv_at hl 4 rfl) ?_
    refine lv_iload hx hb dX1_meets_103 (lv_at hl 5 rfl) ?_
    refine zcallR (As := [.int (nI (nz)), .int (nI (lz)), .int (nI (a)), .int (nI (b))]) (rest := []) (ci := 1) (q0 := 0) ⟨hx, hb, hml, hown, hts⟩ (met_X1_pair l dC dI h dA N C ks as_ bs ln dg kn mk nz lz a b hN hC (by omega) (by omega) (by omega) (by omega)) (cwV 4 hts (lw_V q252 q254 qs19 q26 q255) rfl rfl rfl (by decide +kernel) ⟨Nat.le_of_ble_eq_true rfl, Nat.le_of_ble_eq_true rfl⟩) hK hP rfl rfl rfl hl.1 rfl (Nat.le_of_ble_eq_true rfl) dX1_meets_105 ⟨Nat.zero_le _, Nat.zero_le _⟩ (fun r_105 h_105 => ?_)
    subst h_105
    refine zn_if_ne (tgt := 115) hx hb dX1_meets_108 (by decide) (zb_lt _) (fun c_108 => ?_) (fun c_108 => ?_)
    · have c_108 : (zpr nz lz a b (nz - 1)) = true := zb_t c_108
      refine lv_iconst (v := nI (0)) hx hb dX1_meets_115 (by decide +kernel) ?_
      exact W.zret (v := nI (0)) hx hb hr rfl (fun t9 ht9 hW9 => ⟨_, rfl, (congrArg nI (show 0 = (!zpr nz lz a b (nz - 1)).toNat from by rw [c_108]; rfl)), ht9⟩) (fun _ h => by cases h) dX1_meets_116
    · have c_108 : (zpr nz lz a b (nz - 1)) = false := zb_f c_108
      refine lv_iconst (v := nI (1)) hx hb dX1_meets_111 (by decide +kernel) ?_
      refine lv_goto (tgt := 116) hx hb dX1_meets_112 (by decide) ?_
      exact W.zret (v := nI (1)) hx hb hr rfl (fun t9 ht9 hW9 => ⟨_, rfl, (congrArg nI (show 1 = (!zpr nz lz a b (nz - 1)).toNat from by rw [c_108]; rfl)), ht9⟩) (fun _ h => by cases h) dX1_meets_116
  · have ha := ha (by decide)
    subst ha
    refine lv_iload_n hx hb dX1_meets_0 rfl (lv_at hl 3 rfl) ?_
    refine zn_if_ne (tgt := 29) hx hb dX1_meets_1 (by decide) (by omega) (fun _ => ?_) (fun c9 => absurd c9 (by decide))
    refine lv_iload_n hx hb dX1_meets_29 rfl (lv_at hl 3 rfl) ?_
    refine lv_iconst (v := nI (1)) hx hb dX1_meets_30 (by decide +kernel) ?_
    refine zn_icmp_ne (tgt := 53) hx hb dX1_meets_31 (by decide) (by omega) (by omega) (fun _ => ?_) (fun c9 => absurd c9 (by decide))
    refine lv_iload_n hx hb dX1_meets_53 rfl (lv_at hl 3 rfl) ?_
    refine lv_iconst (v := nI (2)) hx hb dX1_meets_54 (by decide +kernel) ?_
    refine zn_icmp_ne (tgt := 77) hx hb dX1_meets_55 (by decide) (by omega) (by omega) (fun _ => ?_) (fun c9 => absurd c9 (by decide))
    refine lv_iload_n hx hb dX1_meets_77 rfl (lv_at hl 3 rfl) ?_
    refine lv_iconst (v := nI (3)) hx hb dX1_meets_78 (by decide +kernel) ?_
    refine zn_icmp_ne (tgt := 93) hx hb dX1_meets_79 (by decide) (by omega) (by omega) (fun _ => ?_) (fun c9 => absurd c9 (by decide))
    refine lv_iload_n hx hb dX1_meets_93 rfl (lv_at hl 3 rfl) ?_
    refine lv_iconst (v := nI (4)) hx hb dX1_meets_94 (by decide +kernel) ?_
    refine zn_icmp_ne (tgt := 117) hx hb dX1_meets_95 (by decide) (by omega) (by omega) (fun _ => ?_) (fun c9 => absurd c9 (by decide))
    refine lv_iload_n hx hb dX1_meets_117 rfl (lv_at hl 3 rfl) ?_
    refine lv_iconst (v := nI (5)) hx hb dX1_meets_118 (by decide +kernel) ?_
    refine zn_icmp_ne (tgt := 144) hx hb dX1_meets_119 (by decide) (by omega) (by omega) (fun c9 => absurd c9 (by decide)) (fun _ => ?_)
    refine lv_iload_n hx hb dX1_meets_122 rfl (lv_at hl 1 rfl) ?_
    refine zn_if_le (tgt := 142) hx hb dX1_meets_123 (by decide) (by omega) (fun c_123 => ?_) (fun c_123 => ?_)
    · refine lv_iconst (v := nI (0)) hx hb dX1_meets_142 (by decide +kernel) ?_
      exact W.zret (v := nI (0)) hx hb hr rfl (fun t9 ht9 hW9 => ⟨_, rfl, (congrArg nI (show 0 = (decide (0 < nz ∧ a ≤ zat nz lz 0)).toNat from zb_0 (by omega))), ht9⟩) (fun _ h => by cases h) dX1_meets_143
    · refine lv_aload_n hx hb dX1_meets_126 rfl (lv_at hl 0 rfl) ?_
      refine lv_iload_n hx hb dX1_meets_127 rfl (lv_at hl 1 rfl) ?_
      refine lv_iload_n hx hb dX1_meets_128 rfl (lv_at hl 2 rfl) ?_
      refine lv_iconst (v := nI (0)) hx hb dX1_meets_129 (by decide +kernel) ?_
      refine zcallR (As := [.int (nI (nz)), .int (nI (lz)), .int (nI (0))]) (rest := []) (ci := 1) (q0 := 0) ⟨hx, hb, hml, hown, hts⟩ (met_X1_at l dC dI h dA N C ks as_ bs ln dg kn mk nz lz 0 hN hC (by omega) (by omega) (by omega)) (cwV 3 hts (lw_V q244 q246 qs17 q26 q247) rfl rfl rfl (by decide +kernel) ⟨Nat.le_of_ble_eq_true rfl, Nat.le_of_ble_eq_true rfl⟩) hK hP rfl rfl rfl hl.1 rfl (Nat.le_of_ble_eq_true rfl) dX1_meets_130 ⟨Nat.zero_le _, Nat.zero_le _⟩ (fun r_130 h_130 => ?_)
      subst h_130
      have hz := zat_lt nz lz 0
      refine lv_iload hx hb dX1_meets_133 (lv_at hl 4 rfl) ?_
      refine zn_icmp_lt (tgt := 142) hx hb dX1_meets_135 (by decide) (by omega) (by omega) (fun c_135 => ?_) (fun c_135 => ?_)
      · refine lv_iconst (v := nI (0)) hx hb dX1_meets_142 (by decide +kernel) ?_
        exact W.zret (v := nI (0)) hx hb hr rfl (fun t9 ht9 hW9 => ⟨_, rfl, (congrArg nI (show 0 = (decide (0 < nz ∧ a ≤ zat nz lz 0)).toNat from zb_0 (by omega))), ht9⟩) (fun _ h => by cases h) dX1_meets_143
      · refine lv_iconst (v := nI (1)) hx hb dX1_meets_138 (by decide +kernel) ?_
        refine lv_goto (tgt := 143) hx hb dX1_meets_139 (by decide) ?_
        exact W.zret (v := nI (1)) hx hb hr rfl (fun t9 ht9 hW9 => ⟨_, rfl, (congrArg nI (show 1 = (decide (0 < nz ∧ a ≤ zat nz lz 0)).toNat from zb_1 (by omega))), ht9⟩) (fun _ h => by cases h) dX1_meets_143
  · have ha := ha (by decide)
    subst ha
    refine lv_iload_n hx hb dX1_meets_0 rfl (lv_at hl 3 rfl) ?_
    refine zn_if_ne (tgt := 29) hx hb dX1_meets_1 (by decide) (by omega) (fun _ => ?_) (fun c9 => absurd c9 (by decide))
    refine lv_iload_n hx hb dX1_meets_29 rfl (lv_at hl 3 rfl) ?_
    refine lv_iconst (v := nI (1)) hx hb dX1_meets_30 (by decide +kernel) ?_
    refine zn_icmp_ne (tgt := 53) hx hb dX1_meets_31 (by decide) (by omega) (by omega) (fun _ => ?_) (fun c9 => absurd c9 (by decide))
    refine lv_iload_n hx hb dX1_meets_53 rfl (lv_at hl 3 rfl) ?_
    refine lv_iconst (v := nI (2)) hx hb dX1_meets_54 (by decide +kernel) ?_
    refine zn_icmp_ne (tgt := 77) hx hb dX1_meets_55 (by decide) (by omega) (by omega) (fun _ => ?_) (fun c9 => absurd c9 (by decide))
    refine lv_iload_n hx hb dX1_meets_77 rfl (lv_at hl 3 rfl) ?_
    refine lv_iconst (v := nI (3)) hx hb dX1_meets_78 (by decide +kernel) ?_
    refine zn_icmp_ne (tgt := 93) hx hb dX1_meets_79 (by decide) (by omega) (by omega) (fun _ => ?_) (fun c9 => absurd c9 (by decide))
    refine lv_iload_n hx hb dX1_meets_93 rfl (lv_at hl 3 rfl) ?_
    refine lv_iconst (v := nI (4)) hx hb dX1_meets_94 (by decide +kernel) ?_
    refine zn_icmp_ne (tgt := 117) hx hb dX1_meets_95 (by decide) (by omega) (by omega) (fun _ => ?_) (fun c9 => absurd c9 (by decide))
    refine lv_iload_n hx hb dX1_meets_117 rfl (lv_at hl 3 rfl) ?_
    refine lv_iconst (v := nI (5)) hx hb dX1_meets_118 (by decide +kernel) ?_
    refine zn_icmp_ne (tgt := 144) hx hb dX1_meets_119 (by decide) (by omega) (by omega) (fun _ => ?_) (fun c9 => absurd c9 (by decide))
    refine lv_iload_n hx hb dX1_meets_144 rfl (lv_at hl 3 rfl) ?_
    refine lv_bipush (v := nI (6)) hx hb dX1_meets_145 (by decide +kernel) ?_
    refine zn_icmp_ne (tgt := 174) hx hb dX1_meets_147 (by decide) (by omega) (by omega) (fun c9 => absurd c9 (by decide)) (fun _ => ?_)
    refine lv_iload_n hx hb dX1_meets_150 rfl (lv_at hl 1 rfl) ?_
    refine zn_if_le (tgt := 172) hx hb dX1_meets_151 (by decide) (by omega) (fun c_151 => ?_) (fun c_151 => ?_)
    · refine lv_iconst (v := nI (0)) hx hb dX1_meets_172 (by decide +kernel) ?_
      exact W.zret (v := nI (0)) hx hb hr rfl (fun t9 ht9 hW9 => ⟨_, rfl, (congrArg nI (show 0 = (decide (0 < nz ∧ a ≤ zat nz lz (nz - 1))).toNat from zb_0 (by omega))), ht9⟩) (fun _ h => by cases h) dX1_meets_173
    · refine lv_aload_n hx hb dX1_meets_154 rfl (lv_at hl 0 rfl) ?_
      refine lv_iload_n hx hb dX1_meets_155 rfl (lv_at hl 1 rfl) ?_
      refine lv_iload_n hx hb dX1_meets_156 rfl (lv_at hl 2 rfl) ?_
      refine lv_iload_n hx hb dX1_meets_157 rfl (lv_at hl 1 rfl) ?_
      refine lv_iconst (v := nI (1)) hx hb dX1_meets_158 (by decide +kernel) ?_
      refine zn_isub hx hb dX1_meets_159 (by omega) ?_
      refine zcallR (As := [.int (nI (nz)), .int (nI (lz)), .int (nI (nz - 1))]) (rest := []) (ci := 1) (q0 := 0) ⟨hx, hb, hml, hown, hts⟩ (met_X1_at l dC dI h dA N C ks as_ bs ln dg kn mk nz lz (nz - 1) hN hC (by omega) (by omega) (by omega)) (cwV 3 hts (lw_V q244 q246 qs17 q26 q247) rfl rfl rfl (by decide +kernel) ⟨Nat.le_of_ble_eq_true rfl, Nat.le_of_ble_eq_true rfl⟩) hK hP rfl rfl rfl hl.1 rfl (Nat.le_of_ble_eq_true rfl) dX1_meets_160 ⟨Nat.zero_le _, Nat.zero_le _⟩ (fun r_160 h_160 => ?_)
      subst h_160
      have hz := zat_lt nz lz (nz - 1)
      refine lv_iload hx hb dX1_meets_163 (lv_at hl 4 rfl) ?_
      refine zn_icmp_lt (tgt := 172) hx hb dX1_meets_165 (by decide) (by omega) (by omega) (fun c_165 => ?_) (fun c_165 => ?_)
      · refine lv_iconst (v := nI (0)) hx hb dX1_meets_172 (by decide +kernel) ?_
        exact W.zret (v := nI (0)) hx hb hr rfl (fun t9 ht9 hW9 => ⟨_, rfl, (congrArg nI (show 0 = (decide (0 < nz ∧ a ≤ zat nz lz (nz - 1))).toNat from zb_0 (by omega))), ht9⟩) (fun _ h => by cases h) dX1_meets_173
      · refine lv_iconst (v := nI (1)) hx hb dX1_meets_168 (by decide +kernel) ?_
        refine lv_goto (tgt := 173) hx hb dX1_meets_169 (by decide) ?_
        exact W.zret (v := nI (1)) hx hb hr rfl (fun t9 ht9 hW9 => ⟨_, rfl, (congrArg nI (show 1 = (decide (0 < nz ∧ a ≤ zat nz lz (nz - 1))).toNat from zb_1 (by omega))), ht9⟩) (fun _ h => by cases h) dX1_meets_173
  · have ha := ha (by decide)
    subst ha
    refine lv_iload_n hx hb dX1_meets_0 rfl (lv_at hl 3 rfl) ?_
    refine zn_if_ne (tgt := 29) hx hb dX1_meets_1 (by decide) (by omega) (fun _ => ?_) (fun c9 => absurd c9 (by decide))
    refine lv_iload_n hx hb dX1_meets_29 rfl (lv_at hl 3 rfl) ?_
    refine lv_iconst (v := nI (1)) hx hb dX1_meets_30 (by decide +kernel) ?_
    refine zn_icmp_ne (tgt := 53) hx hb dX1_meets_31 (by decide) (by omega) (by omega) (fun _ => ?_) (fun c9 => absurd c9 (by decide))
    refine lv_iload_n hx hb dX1_meets_53 rfl (lv_at hl 3 rfl) ?_
    refine lv_iconst (v := nI (2)) hx hb dX1_meets_54 (by decide +kernel) ?_
    refine zn_icmp_ne (tgt := 77) hx hb dX1_meets_55 (by decide) (by omega) (by omega) (fun _ => ?_) (fun c9 => absurd c9 (by decide))
    refine lv_iload_n hx hb dX1_meets_77 rfl (lv_at hl 3 rfl) ?_
    refine lv_iconst (v := nI (3)) hx hb dX1_meets_78 (by decide +kernel) ?_
    refine zn_icmp_ne (tgt := 93) hx hb dX1_meets_79 (by decide) (by omega) (by omega) (fun _ => ?_) (fun c9 => absurd c9 (by decide))
    refine lv_iload_n hx hb dX1_meets_93 rfl (lv_at hl 3 rfl) ?_
    refine lv_iconst (v := nI (4)) hx hb dX1_meets_94 (by decide +kernel) ?_
    refine zn_icmp_ne (tgt := 117) hx hb dX1_meets_95 (by decide) (by omega) (by omega) (fun _ => ?_) (fun c9 => absurd c9 (by decide))
    refine lv_iload_n hx hb dX1_meets_117 rfl (lv_at hl 3 rfl) ?_
    refine lv_iconst (v := nI (5)) hx hb dX1_meets_118 (by decide +kernel) ?_
    refine zn_icmp_ne (tgt := 144) hx hb dX1_meets_119 (by decide) (by omega) (by omega) (fun _ => ?_) (fun c9 => absurd c9 (by decide))
    refine lv_iload_n hx hb dX1_meets_144 rfl (lv_at hl 3 rfl) ?_
    refine lv_bipush (v := nI (6)) hx hb dX1_meets_145 (by decide +kernel) ?_
    refine zn_icmp_ne (tgt := 174) hx hb dX1_meets_147 (by decide) (by omega) (by omega) (fun _ => ?_) (fun c9 => absurd c9 (by decide))
    refine lv_iload_n hx hb dX1_meets_174 rfl (lv_at hl 3 rfl) ?_
    refine lv_bipush (v := nI (7)) hx hb dX1_meets_175 (by decide +kernel) ?_
    refine zn_icmp_ne (tgt := 192) hx hb dX1_meets_177 (by decide) (by omega) (by omega) (fun c9 => absurd c9 (by decide)) (fun _ => ?_)
    refine lv_iload_n hx hb dX1_meets_180 rfl (lv_at hl 1 rfl) ?_
    refine lv_iload hx hb dX1_meets_181 (lv_at hl 4 rfl) ?_
    refine zn_icmp_lt (tgt := 190) hx hb dX1_meets_183 (by decide) (by omega) (by omega) (fun c_183 => ?_) (fun c_183 => ?_)
    · refine lv_iconst (v := nI (0)) hx hb dX1_meets_190 (by decide +kernel) ?_
      exact W.zret (v := nI (0)) hx hb hr rfl (fun t9 ht9 hW9 => ⟨_, rfl, (congrArg nI (show 0 = (decide (a ≤ nz)).toNat from zb_0 (by omega))), ht9⟩) (fun _ h => by cases h) dX1_meets_191
    · refine lv_iconst (v := nI (1)) hx hb dX1_meets_186 (by decide +kernel) ?_
      refine lv_goto (tgt := 191) hx hb dX1_meets_187 (by decide) ?_
      exact W.zret (v := nI (1)) hx hb hr rfl (fun t9 ht9 hW9 => ⟨_, rfl, (congrArg nI (show 1 = (decide (a ≤ nz)).toNat from zb_1 (by omega))), ht9⟩) (fun _ h => by cases h) dX1_meets_191
  · refine lv_iload_n hx hb dX1_meets_0 rfl (lv_at hl 3 rfl) ?_
    refine zn_if_ne (tgt := 29) hx hb dX1_meets_1 (by decide) (by omega) (fun _ => ?_) (fun c9 => absurd c9 (by decide))
    refine lv_iload_n hx hb dX1_meets_29 rfl (lv_at hl 3 rfl) ?_
    refine lv_iconst (v := nI (1)) hx hb dX1_meets_30 (by decide +kernel) ?_
    refine zn_icmp_ne (tgt := 53) hx hb dX1_meets_31 (by decide) (by omega) (by omega) (fun _ => ?_) (fun c9 => absurd c9 (by decide))
    refine lv_iload_n hx hb dX1_meets_53 rfl (lv_at hl 3 rfl) ?_
    refine lv_iconst (v := nI (2)) hx hb dX1_meets_54 (by decide +kernel) ?_
    refine zn_icmp_ne (tgt := 77) hx hb dX1_meets_55 (by decide) (by omega) (by omega) (fun _ => ?_) (fun c9 => absurd c9 (by decide))
    refine lv_iload_n hx hb dX1_meets_77 rfl (lv_at hl 3 rfl) ?_
    refine lv_iconst (v := nI (3)) hx hb dX1_meets_78 (by decide +kernel) ?_
    refine zn_icmp_ne (tgt := 93) hx hb dX1_meets_79 (by decide) (by omega) (by omega) (fun _ => ?_) (fun c9 => absurd c9 (by decide))
    refine lv_iload_n hx hb dX1_meets_93 rfl (lv_at hl 3 rfl) ?_
    refine lv_iconst (v := nI (4)) hx hb dX1_meets_94 (by decide +kernel) ?_
    refine zn_icmp_ne (tgt := 117) hx hb dX1_meets_95 (by decide) (by omega) (by omega) (fun _ => ?_) (fun c9 => absurd c9 (by decide))
    refine lv_iload_n hx hb dX1_meets_117 rfl (lv_at hl 3 rfl) ?_
    refine lv_iconst (v := nI (5)) hx hb dX1_meets_118 (by decide +kernel) ?_
    refine zn_icmp_ne (tgt := 144) hx hb dX1_meets_119 (by decide) (by omega) (by omega) (fun _ => ?_) (fun c9 => absurd c9 (by decide))
    refine lv_iload_n hx hb dX1_meets_144 rfl (lv_at hl 3 rfl) ?_
    refine lv_bipush (v := nI (6)) hx hb dX1_meets_145 (by decide +kernel) ?_
    refine zn_icmp_ne (tgt := 174) hx hb dX1_meets_147 (by decide) (by omega) (by omega) (fun _ => ?_) (fun c9 => absurd c9 (by decide))
    refine lv_iload_n hx hb dX1_meets_174 rfl (lv_at hl 3 rfl) ?_
    refine lv_bipush (v := nI (7)) hx hb dX1_meets_175 (by decide +kernel) ?_
    refine zn_icmp_ne (tgt := 192) hx hb dX1_meets_177 (by decide) (by omega) (by omega) (fun _ => ?_) (fun c9 => absurd c9 (by decide))
    refine lv_iload_n hx hb dX1_meets_192 rfl (lv_at hl 3 rfl) ?_
    refine lv_bipush (v := nI (8)) hx hb dX1_meets_193 (by decide +kernel) ?_
    refine zn_icmp_ne (tgt := 207) hx hb dX1_meets_195 (by decide) (by omega) (by omega) (fun c9 => absurd c9 (by decide)) (fun _ => ?_)
    refine lv_aload_n hx hb dX1_meets_198 rfl (lv_at hl 0 rfl) ?_
    refine lv_iload_n hx hb dX1_meets_199 rfl (lv_at hl 1 rfl) ?_
    refine lv_iload_n hx hb dX1_meets_200 rfl (lv_at hl 2 rfl) ?_
    refine zcallR (As := [.int (nI (nz)), .int (nI (lz))]) (rest := []) (ci := 1) (q0 := 0) ⟨hx, hb, hml, hown, hts⟩ (met_X1_rises l dC dI h dA N C ks as_ bs ln dg kn mk nz lz hN hC (by omega) (by omega)) (cwV 2 hts (lw_V q256 q258 qs20 q26 q259) rfl rfl rfl (by decide +kernel) ⟨Nat.le_of_ble_eq_true rfl, Nat.le_of_ble_eq_true rfl⟩) hK hP rfl rfl rfl hl.1 rfl (Nat.le_of_ble_eq_true rfl) dX1_meets_201 ⟨Nat.zero_le _, Nat.zero_le _⟩ (fun r_201 h_201 => ?_)
    subst h_201
    refine lv_goto (tgt := 227) hx hb dX1_meets_204 (by decide) ?_
    exact W.zret (v := nI ((zri nz lz (nz - 1)).toNat)) hx hb hr (zn_nb _) (fun t9 ht9 hW9 => ⟨_, rfl, rfl, ht9⟩) (fun _ h => by cases h) dX1_meets_227
  · have ha := ha (by decide)
    subst ha
    have hbb := hbb (by decide)
    subst hbb
    refine lv_iload_n hx hb dX1_meets_0 rfl (lv_at hl 3 rfl) ?_
    refine zn_if_ne (tgt := 29) hx hb dX1_meets_1 (by decide) (by omega) (fun _ => ?_) (fun c9 => absurd c9 (by decide))
    refine lv_iload_n hx hb dX1_meets_29 rfl (lv_at hl 3 rfl) ?_
    refine lv_iconst (v := nI (1)) hx hb dX1_meets_30 (by decide +kernel) ?_
    refine zn_icmp_ne (tgt := 53) hx hb dX1_meets_31 (by decide) (by omega) (by omega) (fun _ => ?_) (fun c9 => absurd c9 (by decide))
    refine lv_iload_n hx hb dX1_meets_53 rfl (lv_at hl 3 rfl) ?_
    refine lv_iconst (v := nI (2)) hx hb dX1_meets_54 (by decide +kernel) ?_
    refine zn_icmp_ne (tgt := 77) hx hb dX1_meets_55 (by decide) (by omega) (by omega) (fun _ => ?_) (fun c9 => absurd c9 (by decide))
    refine lv_iload_n hx hb dX1_meets_77 rfl (lv_at hl 3 rfl) ?_
    refine lv_iconst (v := nI (3)) hx hb dX1_meets_78 (by decide +kernel) ?_
    refine zn_icmp_ne (tgt := 93) hx hb dX1_meets_79 (by decide) (by omega) (by omega) (fun _ => ?_) (fun c9 => absurd c9 (by decide))
    refine lv_iload_n hx hb dX1_meets_93 rfl (lv_at hl 3 rfl) ?_
    refine lv_iconst (v := nI (4)) hx hb dX1_meets_94 (by decide +kernel) ?_
    refine zn_icmp_ne (tgt := 117) hx hb dX1_meets_95 (by decide) (by omega) (by omega) (fun _ => ?_) (fun c9 => absurd c9 (by decide))
    refine lv_iload_n hx hb dX1_meets_117 rfl (lv_at hl 3 rfl) ?_
    refine lv_iconst (v := nI (5)) hx hb dX1_meets_118 (by decide +kernel) ?_
    refine zn_icmp_ne (tgt := 144) hx hb dX1_meets_119 (by decide) (by omega) (by omega) (fun _ => ?_) (fun c9 => absurd c9 (by decide))
    refine lv_iload_n hx hb dX1_meets_144 rfl (lv_at hl 3 rfl) ?_
    refine lv_bipush (v := nI (6)) hx hb dX1_meets_145 (by decide +kernel) ?_
    refine zn_icmp_ne (tgt := 174) hx hb dX1_meets_147 (by decide) (by omega) (by omega) (fun _ => ?_) (fun c9 => absurd c9 (by decide))
    refine lv_iload_n hx hb dX1_meets_174 rfl (lv_at hl 3 rfl) ?_
    refine lv_bipush (v := nI (7)) hx hb dX1_meets_175 (by decide +kernel) ?_
    refine zn_icmp_ne (tgt := 192) hx hb dX1_meets_177 (by decide) (by omega) (by omega) (fun _ => ?_) (fun c9 => absurd c9 (by decide))
    refine lv_iload_n hx hb dX1_meets_192 rfl (lv_at hl 3 rfl) ?_
    refine lv_bipush (v := nI (8)) hx hb dX1_meets_193 (by decide +kernel) ?_
    refine zn_icmp_ne (tgt := 207) hx hb dX1_meets_195 (by decide) (by omega) (by omega) (fun _ => ?_) (fun c9 => absurd c9 (by decide))
    refine lv_aload_n hx hb dX1_meets_207 rfl (lv_at hl 0 rfl) ?_
    refine lv_iload_n hx hb dX1_meets_208 rfl (lv_at hl 1 rfl) ?_
    refine lv_iload_n hx hb dX1_meets_209 rfl (lv_at hl 2 rfl) ?_
    refine lv_iload hx hb dX1_meets_210 (lv_at hl 4 rfl) ?_
    refine zcallR (As := [.int (nI (nz)), .int (nI (lz)), .int (nI (a))]) (rest := []) (ci := 1) (q0 := 0) ⟨hx, hb, hml, hown, hts⟩ (met_X1_occurs l dC dI h dA N C ks as_ bs ln dg kn mk nz lz a hN hC (by omega) (by omega) (by omega)) (cwV 3 hts (lw_V q248 q250 qs18 q26 q251) rfl rfl rfl (by decide +kernel) ⟨Nat.le_of_ble_eq_true rfl, Nat.le_of_ble_eq_true rfl⟩) hK hP rfl rfl rfl hl.1 rfl (Nat.le_of_ble_eq_true rfl) dX1_meets_212 ⟨Nat.zero_le _, Nat.zero_le _⟩ (fun r_212 h_212 => ?_)
    subst h_212
    have hz := zoc_le nz lz a nz
    refine lv_iconst (v := nI (2)) hx hb dX1_meets_215 (by decide +kernel) ?_
    refine zn_irem hx hb dX1_meets_216 (by omega) (by omega) (by omega) ?_
    refine lv_iload hx hb dX1_meets_217 (lv_at hl 5 rfl) ?_
    refine zn_icmp_ne (tgt := 226) hx hb dX1_meets_219 (by decide) (by omega) (by omega) (fun c_219 => ?_) (fun c_219 => ?_)
    · refine lv_iconst (v := nI (0)) hx hb dX1_meets_226 (by decide +kernel) ?_
      exact W.zret (v := nI (0)) hx hb hr rfl (fun t9 ht9 hW9 => ⟨_, rfl, (congrArg nI (show 0 = (decide (zoc nz lz a nz % 2 = b)).toNat from zb_0 (by omega))), ht9⟩) (fun _ h => by cases h) dX1_meets_227
    · refine lv_iconst (v := nI (1)) hx hb dX1_meets_222 (by decide +kernel) ?_
      refine lv_goto (tgt := 227) hx hb dX1_meets_223 (by decide) ?_
      exact W.zret (v := nI (1)) hx hb hr rfl (fun t9 ht9 hW9 => ⟨_, rfl, (congrArg nI (show 1 = (decide (zoc nz lz a nz % 2 = b)).toNat from zb_1 (by omega))), ht9⟩) (fun _ h => by cases h) dX1_meets_227
set_option maxHeartbeats 8000000 in
set_option maxRecDepth 100000 in
theorem met_X1_failsList (l : Launch) (dC : Nat → ClassId) (dI : Nat → Nat → Nat) (h : Nat → Nat) (dA : ClassId) (N : Nat) (C : zC) (ks as_ bs : Nat → Int32) (ln dg kn : Int32) (mk : Nat → Int32) (nz lz : Nat) (hN : N ≤ 3) (hC : zReps N C ks as_ bs) (h_n : nz ≤ 6) (h_l : lz < 4096) : zMetR l yX1_failsList (ws_ yX1_failsList cX1_failsList 4 (some .boolean)) ({ frames := 3, cells := 0, slots := 0, locals := 73 }) (dC, dI) dA (wM h dA (nI (N)) ks as_ bs ln dg kn mk) [.ref (h 0), .int (nI (nz)), .int (nI (lz))] (fun r => r = nI (zfl C nz lz N).toNat) := by
  refine Met.ofW (cc := cX1_failsList) (maxL := 4) (ret := (some .boolean)) (by decide) rfl ?_
  intro p e s m args below meth c s₁ B hml hv
  obtain ⟨rfl, hP, hK⟩ := hv
  have hx := B.exec
  have hb := B.bytes
  have hr := B.returns
  have hts := atoms_spec (ws := ws_ yX1_failsList cX1_failsList 4 (some .boolean)) B.pre
  have hts : ∀ w ∈ lw_all, w.before _ s = true := fun w h => hts w (List.mem_cons_of_mem _ h)
  have hown : s.vm.findClass RX1 = some m.cls := findClass_of_methodNamed B.named
  have hlocks := B.notSynchronized
  have hl := lv_entry ([.ref (h 0), .int (nI (nz)), .int (nI (lz))]) (n := 4) (Nat.le_of_ble_eq_true rfl)
  rw [lg_entry_eq]
  generalize (lg_sl ([.ref (h 0), .int (nI (nz)), .int (nI (lz))]) ++ List.replicate (4 - (lg_sl ([.ref (h 0), .int (nI (nz)), .int (nI (lz))])).length) Slot.unset).toArray = ls at hl ⊢
  have hl : lv_has ls 4 [(0, .ref (h 0)), (1, .int (nI (nz))), (2, .int (nI (lz)))] := hl
  refine lv_iconst (v := nI (0)) hx hb dX1_failsList_0 (by decide +kernel) ?_
  refine lv_istore_n (lv' := [(3, .int (nI (0))), (0, .ref (h 0)), (1, .int (nI (nz))), (2, .int (nI (lz)))]) hx hb dX1_failsList_1 rfl hl (by decide) rfl (fun ls hl => ?_)
  have loop2 : ∀ (d2 : Nat) (i : Nat), N - i < d2 → i ≤ N → zfl C nz lz i = true → ∀ (ls : Array Slot), lv_has ls 4 [(0, .ref (h 0)), (1, .int (nI (nz))), (2, .int (nI (lz))), (3, .int (nI (i)))] → W p l e (headSpec (ws_ yX1_failsList cX1_failsList 4 (some .boolean)) ({ frames := 3, cells := 0, slots := 0, locals := 73 })).room s m ([.ref (h 0), .int (nI (nz)), .int (nI (lz))] : List Value).toArray below meth c s.heap [] 0 0 (MQ below (vp_Si (fun r => r = nI (zfl C nz lz N).toNat)) ([.ref (h 0), .int (nI (nz)), .int (nI (lz))] : List Value).toArray s 0 0 (fun _ => False)) (F0 m 2 ls []) := by
    intro d2
    induction d2 with
    | zero =>
      intro i hd2
      exact absurd hd2 (Nat.not_lt_zero _)
    | succ d2 ih2 =>
      intro i hd2 hi ha ls hl
      refine lv_iload_n hx hb dX1_failsList_2 rfl (lv_at hl 3 rfl) ?_
      refine lv_aload_n hx hb dX1_failsList_3 rfl (lv_at hl 0 rfl) ?_
      refine va_get (D := (dC, dI)) (ci := 1) (v := .int (nI (N))) (C := RX1) (T := TX1) (N := 8) hx hb hts in_X1 hown hK hP 0 rfl rfl 0 (by decide) (hts _ q167) (fun _ h9 => h9) rfl dX1_failsList_4 ?_
      refine zn_icmp_ge (tgt := 45) hx hb dX1_failsList_7 (by decide) (by omega) (by omega) (fun c_7 => ?_) (fun c_7 => ?_)
      · refine lv_iconst (v := nI (1)) hx hb dX1_failsList_45 (by decide +kernel) ?_
        exact W.zret (v := nI (1)) hx hb hr rfl (fun t9 ht9 hW9 => ⟨_, rfl, (congrArg nI (by rw [show N = i by omega, ha]; rfl)), ht9⟩) (fun _ h => by cases h) dX1_failsList_46
      · refine lv_aload_n hx hb dX1_failsList_10 rfl (lv_at hl 0 rfl) ?_
        refine lv_iload_n hx hb dX1_failsList_11 rfl (lv_at hl 1 rfl) ?_
        refine lv_iload_n hx hb dX1_failsList_12 rfl (lv_at hl 2 rfl) ?_
        refine lv_aload_n hx hb dX1_failsList_13 rfl (lv_at hl 0 rfl) ?_
        refine va_get (D := (dC, dI)) (ci := 1) (v := .ref (h 1)) (C := RX1) (T := TX1) (N := 8) hx hb hts in_X1 hown hK hP 0 rfl rfl 1 (by decide) (hts _ q168) (fun _ h9 => h9) rfl dX1_failsList_14 ?_
        refine lv_iload_n hx hb dX1_failsList_17 rfl (lv_at hl 3 rfl) ?_
        refine zn_iald (f := ks) (i := i) (v := ks i) hx hb hK hP 1 0 rfl rfl (by omega) (by decide) rfl dX1_failsList_18 ?_
        refine lv_aload_n hx hb dX1_failsList_19 rfl (lv_at hl 0 rfl) ?_
        refine va_get (D := (dC, dI)) (ci := 1) (v := .ref (h 2)) (C := RX1) (T := TX1) (N := 8) hx hb hts in_X1 hown hK hP 0 rfl rfl 2 (by decide) (hts _ q169) (fun _ h9 => h9) rfl dX1_failsList_20 ?_
        refine lv_iload_n hx hb dX1_failsList_23 rfl (lv_at hl 3 rfl) ?_
        refine zn_iald (f := as_) (i := i) (v := as_ i) hx hb hK hP 2 0 rfl rfl (by omega) (by decide) rfl dX1_failsList_24 ?_
        refine lv_aload_n hx hb dX1_failsList_25 rfl (lv_at hl 0 rfl) ?_
        refine va_get (D := (dC, dI)) (ci := 1) (v := .ref (h 3)) (C := RX1) (T := TX1) (N := 8) hx hb hts in_X1 hown hK hP 0 rfl rfl 3 (by decide) (hts _ q170) (fun _ h9 => h9) rfl dX1_failsList_26 ?_
        refine lv_iload_n hx hb dX1_failsList_29 rfl (lv_at hl 3 rfl) ?_
        refine zn_iald (f := bs) (i := i) (v := bs i) hx hb hK hP 3 0 rfl rfl (by omega) (by decide) rfl dX1_failsList_30 ?_
        refine zcallR (As := [.int (nI (nz)), .int (nI (lz)), .int (ks i), .int (as_ i), .int (bs i)]) (rest := []) (ci := 1) (q0 := 0) ⟨hx, hb, hml, hown, hts⟩ (met_X1_meets l dC dI h dA N C ks as_ bs ln dg kn mk nz lz (ks i) (as_ i) (bs i) (C i) hN hC h_n h_l (hC i (by omega))) (cwV 5 hts (lw_V q236 q238 qs15 q26 q239) rfl rfl rfl (by decide +kernel) ⟨Nat.le_of_ble_eq_true rfl, Nat.le_of_ble_eq_true rfl⟩) hK hP rfl rfl rfl hl.1 rfl (Nat.le_of_ble_eq_true rfl) dX1_failsList_31 ⟨Nat.zero_le _, Nat.zero_le _⟩ (fun r_31 h_31 => ?_)
        subst h_31
        refine zn_if_ne (tgt := 39) hx hb dX1_failsList_34 (by decide) (zb_lt _) (fun c_34 => ?_) (fun c_34 => ?_)
        · have c_34 : (zmt (C i) nz lz) = true := zb_t c_34
          refine zn_iinc (a := i) (b := 1) (k := 3) (lv' := [(3, .int (nI (i + 1))), (0, .ref (h 0)), (1, .int (nI (nz))), (2, .int (nI (lz)))]) hx hb dX1_failsList_39 hl rfl (by decide) rfl (fun ls hl => ?_)
          refine lv_goto (tgt := 2) hx hb dX1_failsList_42 (by decide) ?_
          exact ih2  (i + 1) (by omega) (by omega) (by simp [zfl, ha, c_34]) _ (lv_sub hl [1, 2, 3, 0] rfl)
        · have c_34 : (zmt (C i) nz lz) = false := zb_f c_34
          refine lv_iconst (v := nI (0)) hx hb dX1_failsList_37 (by decide +kernel) ?_
          exact W.zret (v := nI (0)) hx hb hr rfl (fun t9 ht9 hW9 => ⟨_, rfl, (congrArg nI (by rw [zfl_f N (show i < N by omega) c_34]; rfl)), ht9⟩) (fun _ h => by cases h) dX1_failsList_38
  exact loop2 (_ + 1) 0 (Nat.lt_succ_self _) (by omega) rfl _ (lv_sub hl [1, 2, 3, 0] rfl)
set_option maxHeartbeats 8000000 in
set_option maxRecDepth 100000 in
theorem met_X1_start (l : Launch) (dC : Nat → ClassId) (dI : Nat → Nat → Nat) (h : Nat → Nat) (dA : ClassId) (N : Nat) (C : zC) (ks as_ bs : Nat → Int32) (ln dg kn : Int32) (mk : Nat → Int32) (nz : Nat) (hN : N ≤ 3) (hC : zReps N C ks as_ bs) (h_n : nz ≤ 7) : zMetR l yX1_start (ws_ yX1_start cX1_start 4 (some .int)) ({ frames := 0, cells := 0, slots := 0, locals := 0 }) (dC, dI) dA (wM h dA (nI (N)) ks as_ bs ln dg kn mk) [.ref (h 0), .int (nI (nz))] (fun r => r = nI (zst nz)) := by
  refine Met.ofW (cc := cX1_start) (maxL := 4) (ret := (some .int)) (by decide) rfl ?_
  intro p e s m args below meth c s₁ B hml hv
  obtain ⟨rfl, hP, hK⟩ := hv
  have hx := B.exec
  have hb := B.bytes
  have hr := B.returns
  have hts := atoms_spec (ws := ws_ yX1_start cX1_start 4 (some .int)) B.pre
  have hts : ∀ w ∈ lw_all, w.before _ s = true := fun w h => hts w (List.mem_cons_of_mem _ h)
  have hown : s.vm.findClass RX1 = some m.cls := findClass_of_methodNamed B.named
  have hlocks := B.notSynchronized
  have hl := lv_entry ([.ref (h 0), .int (nI (nz))]) (n := 4) (Nat.le_of_ble_eq_true rfl)
  rw [lg_entry_eq]
  generalize (lg_sl ([.ref (h 0), .int (nI (nz))]) ++ List.replicate (4 - (lg_sl ([.ref (h 0), .int (nI (nz))])).length) Slot.unset).toArray = ls at hl ⊢
  have hl : lv_has ls 4 [(0, .ref (h 0)), (1, .int (nI (nz)))] := hl
  refine lv_iconst (v := nI (0)) hx hb dX1_start_0 (by decide +kernel) ?_
  refine lv_istore_n (lv' := [(2, .int (nI (0))), (0, .ref (h 0)), (1, .int (nI (nz)))]) hx hb dX1_start_1 rfl hl (by decide) rfl (fun ls hl => ?_)
  refine lv_iconst (v := nI (0)) hx hb dX1_start_2 (by decide +kernel) ?_
  refine lv_istore_n (lv' := [(3, .int (nI (0))), (2, .int (nI (0))), (0, .ref (h 0)), (1, .int (nI (nz)))]) hx hb dX1_start_3 rfl hl (by decide) rfl (fun ls hl => ?_)
  have loop4 : ∀ (d4 : Nat) (i : Nat) (t : Nat), nz - i < d4 → i ≤ nz → t = zst i → ∀ (ls : Array Slot), lv_has ls 4 [(0, .ref (h 0)), (1, .int (nI (nz))), (2, .int (nI (t))), (3, .int (nI (i)))] → W p l e (headSpec (ws_ yX1_start cX1_start 4 (some .int)) ({ frames := 0, cells := 0, slots := 0, locals := 0 })).room s m ([.ref (h 0), .int (nI (nz))] : List Value).toArray below meth c s.heap [] 0 0 (MQ below (vp_Si (fun r => r = nI (zst nz))) ([.ref (h 0), .int (nI (nz))] : List Value).toArray s 0 0 (fun _ => False)) (F0 m 4 ls []) := by
    intro d4
    induction d4 with
    | zero =>
      intro i t hd4
      exact absurd hd4 (Nat.not_lt_zero _)
    | succ d4 ih4 =>
      intro i t hd4 hi ht ls hl
      refine lv_iload_n hx hb dX1_start_4 rfl (lv_at hl 3 rfl) ?_
      refine lv_iload_n hx hb dX1_start_5 rfl (lv_at hl 1 rfl) ?_
      refine zn_icmp_ge (tgt := 23) hx hb dX1_start_6 (by decide) (by omega) (by omega) (fun c_6 => ?_) (fun c_6 => ?_)
      · refine lv_iload_n hx hb dX1_start_23 rfl (lv_at hl 2 rfl) ?_
        exact W.iret (v := nI (t)) hx hb hr (fun t9 ht9 hW9 => ⟨_, rfl, (congrArg nI (by rw [ht, show i = nz by omega])), ht9⟩) (fun _ h => by cases h) dX1_start_24
      · refine lv_iload_n hx hb dX1_start_9 rfl (lv_at hl 2 rfl) ?_
        refine lv_iconst (v := nI (1)) hx hb dX1_start_10 (by decide +kernel) ?_
        refine lv_iconst (v := nI (2)) hx hb dX1_start_11 (by decide +kernel) ?_
        refine lv_iload_n hx hb dX1_start_12 rfl (lv_at hl 3 rfl) ?_
        refine zn_imul hx hb dX1_start_13 ?_
        refine zn_ishl (v := 4 ^ i) hx hb dX1_start_14 (by omega) (by rw [Nat.one_mul, z24]) (Nat.lt_of_le_of_lt (z46 (show i ≤ 6 by omega)) (by decide)) ?_
        refine zn_iadd hx hb dX1_start_15 ?_
        refine lv_istore_n (lv' := [(2, .int (nI (t + (4 ^ i)))), (0, .ref (h 0)), (1, .int (nI (nz))), (3, .int (nI (i)))]) hx hb dX1_start_16 rfl hl (by decide) rfl (fun ls hl => ?_)
        refine zn_iinc (a := i) (b := 1) (k := 3) (lv' := [(3, .int (nI (i + 1))), (2, .int (nI (t + (4 ^ i)))), (0, .ref (h 0)), (1, .int (nI (nz)))]) hx hb dX1_start_17 hl rfl (by decide) rfl (fun ls hl => ?_)
        refine lv_goto (tgt := 4) hx hb dX1_start_20 (by decide) ?_
        exact ih4  (i + 1) (t + (4 ^ i)) (by omega) (by omega) (by rw [ht]; rfl) _ (lv_sub hl [2, 3, 1, 0] rfl)
  exact loop4 (_ + 1) 0 0 (Nat.lt_succ_self _) (by omega) rfl _ (lv_sub hl [2, 3, 1, 0] rfl)
set_option maxHeartbeats 8000000 in
set_option maxRecDepth 100000 in
theorem met_X1_lengthOf (l : Launch) (dC : Nat → ClassId) (dI : Nat → Nat → Nat) (h : Nat → Nat) (dA : ClassId) (N : Nat) (C : zC) (ks as_ bs : Nat → Int32) (ln dg kn : Int32) (mk : Nat → Int32) (kv : Nat) (hN : N ≤ 3) (hC : zReps N C ks as_ bs) (h_k : kv < 5461) : zMetR l yX1_lengthOf (ws_ yX1_lengthOf cX1_lengthOf 4 (some .int)) ({ frames := 1, cells := 0, slots := 0, locals := 23 }) (dC, dI) dA (wM h dA (nI (N)) ks as_ bs ln dg kn mk) [.ref (h 0), .int (nI (kv))] (fun r => r = nI (zln kv)) := by
  refine Met.ofW (cc := cX1_lengthOf) (maxL := 4) (ret := (some .int)) (by decide) rfl ?_
  intro p e s m args below meth c s₁ B hml hv
  obtain ⟨rfl, hP, hK⟩ := hv
  have hx := B.exec
  have hb := B.bytes
  have hr := B.returns
  have hts := atoms_spec (ws := ws_ yX1_lengthOf cX1_lengthOf 4 (some .int)) B.pre
  have hts : ∀ w ∈ lw_all, w.before _ s = true := fun w h => hts w (List.mem_cons_of_mem _ h)
  have hown : s.vm.findClass RX1 = some m.cls := findClass_of_methodNamed B.named
  have hlocks := B.notSynchronized
  have hl := lv_entry ([.ref (h 0), .int (nI (kv))]) (n := 4) (Nat.le_of_ble_eq_true rfl)
  rw [lg_entry_eq]
  generalize (lg_sl ([.ref (h 0), .int (nI (kv))]) ++ List.replicate (4 - (lg_sl ([.ref (h 0), .int (nI (kv))])).length) Slot.unset).toArray = ls at hl ⊢
  have hl : lv_has ls 4 [(0, .ref (h 0)), (1, .int (nI (kv)))] := hl
  refine lv_iconst (v := nI (0)) hx hb dX1_lengthOf_0 (by decide +kernel) ?_
  refine lv_istore_n (lv' := [(2, .int (nI (0))), (0, .ref (h 0)), (1, .int (nI (kv)))]) hx hb dX1_lengthOf_1 rfl hl (by decide) rfl (fun ls hl => ?_)
  refine lv_iconst (v := nI (1)) hx hb dX1_lengthOf_2 (by decide +kernel) ?_
  refine lv_istore_n (lv' := [(3, .int (nI (1))), (2, .int (nI (0))), (0, .ref (h 0)), (1, .int (nI (kv)))]) hx hb dX1_lengthOf_3 rfl hl (by decide) rfl (fun ls hl => ?_)
  have loop4 : ∀ (d4 : Nat) (i : Nat) (t : Nat), 7 - i < d4 → 1 ≤ i → i ≤ 7 → t = zlr kv (i - 1) → ∀ (ls : Array Slot), lv_has ls 4 [(0, .ref (h 0)), (1, .int (nI (kv))), (2, .int (nI (t))), (3, .int (nI (i)))] → W p l e (headSpec (ws_ yX1_lengthOf cX1_lengthOf 4 (some .int)) ({ frames := 1, cells := 0, slots := 0, locals := 23 })).room s m ([.ref (h 0), .int (nI (kv))] : List Value).toArray below meth c s.heap [] 0 0 (MQ below (vp_Si (fun r => r = nI (zln kv))) ([.ref (h 0), .int (nI (kv))] : List Value).toArray s 0 0 (fun _ => False)) (F0 m 4 ls []) := by
    intro d4
    induction d4 with
    | zero =>
      intro i t hd4
      exact absurd hd4 (Nat.not_lt_zero _)
    | succ d4 ih4 =>
      intro i t hd4 hi1 hi ht ls hl
      refine lv_iload_n hx hb dX1_lengthOf_4 rfl (lv_at hl 3 rfl) ?_
      refine lv_bipush (v := nI (7)) hx hb dX1_lengthOf_5 (by decide +kernel) ?_
      refine zn_icmp_ge (tgt := 27) hx hb dX1_lengthOf_7 (by decide) (by omega) (by omega) (fun c_7 => ?_) (fun c_7 => ?_)
      · refine lv_iload_n hx hb dX1_lengthOf_27 rfl (lv_at hl 2 rfl) ?_
        exact W.iret (v := nI (t)) hx hb hr (fun t9 ht9 hW9 => ⟨_, rfl, (congrArg nI (by rw [ht, show i - 1 = 6 by omega]; rfl)), ht9⟩) (fun _ h => by cases h) dX1_lengthOf_28
      · refine lv_iload_n hx hb dX1_lengthOf_10 rfl (lv_at hl 1 rfl) ?_
        refine lv_aload_n hx hb dX1_lengthOf_11 rfl (lv_at hl 0 rfl) ?_
        refine lv_iload_n hx hb dX1_lengthOf_12 rfl (lv_at hl 3 rfl) ?_
        refine zcallR (As := [.int (nI (i))]) (rest := [.int (nI (kv))]) (ci := 1) (q0 := 0) ⟨hx, hb, hml, hown, hts⟩ (met_X1_start l dC dI h dA N C ks as_ bs ln dg kn mk i hN hC (by omega)) (cwV 1 hts (lw_V q228 q230 qs13 q26 q231) rfl rfl rfl (by decide +kernel) ⟨Nat.le_of_ble_eq_true rfl, Nat.le_of_ble_eq_true rfl⟩) hK hP rfl rfl rfl hl.1 rfl (Nat.le_of_ble_eq_true rfl) dX1_lengthOf_13 ⟨Nat.zero_le _, Nat.zero_le _⟩ (fun r_13 h_13 => ?_)
        subst h_13
        have hz := zst_7le (show i ≤ 7 by omega)
        refine zn_icmp_lt (tgt := 21) hx hb dX1_lengthOf_16 (by decide) (by omega) (by omega) (fun c_16 => ?_) (fun c_16 => ?_)
        · refine zn_iinc (a := i) (b := 1) (k := 3) (lv' := [(3, .int (nI (i + 1))), (0, .ref (h 0)), (1, .int (nI (kv))), (2, .int (nI (t)))]) hx hb dX1_lengthOf_21 hl rfl (by decide) rfl (fun ls hl => ?_)
          refine lv_goto (tgt := 4) hx hb dX1_lengthOf_24 (by decide) ?_
          exact ih4  (i + 1) t (by omega) (by omega) (by omega) (zlr_step hi1 ht c_16) _ (lv_sub hl [1, 2, 3, 0] rfl)
        · refine lv_iload_n hx hb dX1_lengthOf_19 rfl (lv_at hl 3 rfl) ?_
          refine lv_istore_n (lv' := [(2, .int (nI (i))), (0, .ref (h 0)), (1, .int (nI (kv))), (3, .int (nI (i)))]) hx hb dX1_lengthOf_20 rfl hl (by decide) rfl (fun ls hl => ?_)
          refine zn_iinc (a := i) (b := 1) (k := 3) (lv' := [(3, .int (nI (i + 1))), (2, .int (nI (i))), (0, .ref (h 0)), (1, .int (nI (kv)))]) hx hb dX1_lengthOf_21 hl rfl (by decide) rfl (fun ls hl => ?_)
          refine lv_goto (tgt := 4) hx hb dX1_lengthOf_24 (by decide) ?_
          exact ih4  (i + 1) i (by omega) (by omega) (by omega) (zlr_step2 hi1 c_16) _ (lv_sub hl [2, 3, 1, 0] rfl)
  exact loop4 (_ + 1) 1 0 (Nat.lt_succ_self _) (by omega) (by omega) rfl _ (lv_sub hl [2, 3, 1, 0] rfl)
set_option maxHeartbeats 8000000 in
set_option maxRecDepth 100000 in
theorem met_X1_marked (l : Launch) (dC : Nat → ClassId) (dI : Nat → Nat → Nat) (h : Nat → Nat) (dA : ClassId) (N : Nat) (C : zC) (ks as_ bs : Nat → Int32) (ln dg kn : Int32) (mk : Nat → Int32) (kv : Nat) (hN : N ≤ 3) (hC : zReps N C ks as_ bs) (h_k : kv < 5461) : zMetR l yX1_marked (ws_ yX1_marked cX1_marked 2 (some .boolean)) ({ frames := 0, cells := 0, slots := 0, locals := 0 }) (dC, dI) dA (wM h dA (nI (N)) ks as_ bs ln dg kn mk) [.ref (h 0), .int (nI (kv))] (fun r => r = nI (zbit (mk (kv / 32)) (kv % 32)).toNat) := by
  refine Met.ofW (cc := cX1_marked) (maxL := 2) (ret := (some .boolean)) (by decide) rfl ?_
  intro p e s m args below meth c s₁ B hml hv
  obtain ⟨rfl, hP, hK⟩ := hv
  have hx := B.exec
  have hb := B.bytes
  have hr := B.returns
  have hts := atoms_spec (ws := ws_ yX1_marked cX1_marked 2 (some .boolean)) B.pre
  have hts : ∀ w ∈ lw_all, w.before _ s = true := fun w h => hts w (List.mem_cons_of_mem _ h)
  have hown : s.vm.findClass RX1 = some m.cls := findClass_of_methodNamed B.named
  have hlocks := B.notSynchronized
  have hl := lv_entry ([.ref (h 0), .int (nI (kv))]) (n := 2) (Nat.le_of_ble_eq_true rfl)
  rw [lg_entry_eq]
  generalize (lg_sl ([.ref (h 0), .int (nI (kv))]) ++ List.replicate (2 - (lg_sl ([.ref (h 0), .int (nI (kv))])).length) Slot.unset).toArray = ls at hl ⊢
  have hl : lv_has ls 2 [(0, .ref (h 0)), (1, .int (nI (kv)))] := hl
  refine lv_aload_n hx hb dX1_marked_0 rfl (lv_at hl 0 rfl) ?_
  refine va_get (D := (dC, dI)) (ci := 1) (v := .ref (h 4)) (C := RX1) (T := TX1) (N := 8) hx hb hts in_X1 hown hK hP 0 rfl rfl 7 (by decide) (hts _ q174) (fun _ h9 => h9) rfl dX1_marked_1 ?_
  refine lv_iload_n hx hb dX1_marked_4 rfl (lv_at hl 1 rfl) ?_
  refine lv_bipush (v := nI (32)) hx hb dX1_marked_5 (by decide +kernel) ?_
  refine zn_idiv hx hb dX1_marked_7 (by omega) (by omega) (by omega) ?_
  refine zn_iald (f := mk) (i := kv / 32) (v := mk (kv / 32)) hx hb hK hP 4 0 rfl rfl (by omega) (by decide) rfl dX1_marked_8 ?_
  refine lv_iload_n hx hb dX1_marked_9 rfl (lv_at hl 1 rfl) ?_
  refine lv_bipush (v := nI (32)) hx hb dX1_marked_10 (by decide +kernel) ?_
  refine zn_irem hx hb dX1_marked_12 (by omega) (by omega) (by omega) ?_
  refine lv_ishr hx hb dX1_marked_13 ?_
  refine lv_iconst (v := nI (1)) hx hb dX1_marked_14 (by decide +kernel) ?_
  refine lv_iand hx hb dX1_marked_15 ?_
  refine zn_to (show ((mk (kv / 32) >>> (nI (kv % 32) &&& 31)) &&& nI (1)) = nI ((zbit (mk (kv / 32)) (kv % 32)).toNat) from (zbit_sh (Nat.mod_lt _ (by decide)))) ?_
  have hz : (zbit (mk (kv / 32)) (kv % 32)).toNat ≤ 1 := Bool.toNat_le _
  refine lv_iconst (v := nI (1)) hx hb dX1_marked_16 (by decide +kernel) ?_
  refine zn_icmp_ne (tgt := 24) hx hb dX1_marked_17 (by decide) (by omega) (by omega) (fun c_17 => ?_) (fun c_17 => ?_)
  · refine lv_iconst (v := nI (0)) hx hb dX1_marked_24 (by decide +kernel) ?_
    exact W.zret (v := nI (0)) hx hb hr rfl (fun t9 ht9 hW9 => ⟨_, rfl, (congrArg nI (by omega)), ht9⟩) (fun _ h => by cases h) dX1_marked_25
  · refine lv_iconst (v := nI (1)) hx hb dX1_marked_20 (by decide +kernel) ?_
    refine lv_goto (tgt := 25) hx hb dX1_marked_21 (by decide) ?_
    exact W.zret (v := nI (1)) hx hb hr rfl (fun t9 ht9 hW9 => ⟨_, rfl, (congrArg nI (by omega)), ht9⟩) (fun _ h => by cases h) dX1_marked_25
set_option maxHeartbeats 8000000 in
set_option maxRecDepth 100000 in
theorem met_X1_fails (l : Launch) (dC : Nat → ClassId) (dI : Nat → Nat → Nat) (h : Nat → Nat) (dA : ClassId) (N : Nat) (C : zC) (ks as_ bs : Nat → Int32) (L D : Nat) (kn : Int32) (mk : Nat → Int32) (hN : N ≤ 3) (hC : zReps N C ks as_ bs) (hL : L ≤ 6) (hD4 : D < 4 ^ L) : zMetR l yX1_fails (ws_ yX1_fails cX1_fails 1 (some .boolean)) ({ frames := 4, cells := 0, slots := 0, locals := 96 }) (dC, dI) dA (wM h dA (nI (N)) ks as_ bs (nI (L)) (nI (D)) kn mk) [.ref (h 0)] (fun r => r = nI (zfl C L D N).toNat) := by
  refine Met.ofW (cc := cX1_fails) (maxL := 1) (ret := (some .boolean)) (by decide) rfl ?_
  intro p e s m args below meth c s₁ B hml hv
  obtain ⟨rfl, hP, hK⟩ := hv
  have hx := B.exec
  have hb := B.bytes
  have hr := B.returns
  have hts := atoms_spec (ws := ws_ yX1_fails cX1_fails 1 (some .boolean)) B.pre
  have hts : ∀ w ∈ lw_all, w.before _ s = true := fun w h => hts w (List.mem_cons_of_mem _ h)
  have hown : s.vm.findClass RX1 = some m.cls := findClass_of_methodNamed B.named
  have hlocks := B.notSynchronized
  have hl := lv_entry ([.ref (h 0)]) (n := 1) (Nat.le_of_ble_eq_true rfl)
  rw [lg_entry_eq]
  generalize (lg_sl ([.ref (h 0)]) ++ List.replicate (1 - (lg_sl ([.ref (h 0)])).length) Slot.unset).toArray = ls at hl ⊢
  have hl : lv_has ls 1 [(0, .ref (h 0))] := hl
  refine lv_aload_n hx hb dX1_fails_0 rfl (lv_at hl 0 rfl) ?_
  refine lv_aload_n hx hb dX1_fails_1 rfl (lv_at hl 0 rfl) ?_
  refine va_get (D := (dC, dI)) (ci := 1) (v := .int (nI (L))) (C := RX1) (T := TX1) (N := 8) hx hb hts in_X1 hown hK hP 0 rfl rfl 4 (by decide) (hts _ q171) (fun _ h9 => h9) rfl dX1_fails_2 ?_
  refine lv_aload_n hx hb dX1_fails_5 rfl (lv_at hl 0 rfl) ?_
  refine va_get (D := (dC, dI)) (ci := 1) (v := .int (nI (D))) (C := RX1) (T := TX1) (N := 8) hx hb hts in_X1 hown hK hP 0 rfl rfl 5 (by decide) (hts _ q172) (fun _ h9 => h9) rfl dX1_fails_6 ?_
  refine zcallR (As := [.int (nI (L)), .int (nI (D))]) (rest := []) (ci := 1) (q0 := 0) ⟨hx, hb, hml, hown, hts⟩ (met_X1_failsList l dC dI h dA N C ks as_ bs (nI (L)) (nI (D)) kn mk L D hN hC hL (Nat.lt_of_lt_of_le hD4 (z46 hL))) (cwV 2 hts (lw_V q232 q234 qs14 q26 q235) rfl rfl rfl (by decide +kernel) ⟨Nat.le_of_ble_eq_true rfl, Nat.le_of_ble_eq_true rfl⟩) hK hP rfl rfl rfl hl.1 rfl (Nat.le_of_ble_eq_true rfl) dX1_fails_9 ⟨Nat.zero_le _, Nat.zero_le _⟩ (fun r_9 h_9 => ?_)
  subst h_9
  exact W.zret (v := nI ((zfl C L D N).toNat)) hx hb hr (zn_nb _) (fun t9 ht9 hW9 => ⟨_, rfl, rfl, ht9⟩) (fun _ h => by cases h) dX1_fails_12
set_option maxHeartbeats 8000000 in
set_option maxRecDepth 100000 in
theorem met_X1_element (l : Launch) (dC : Nat → ClassId) (dI : Nat → Nat → Nat) (h : Nat → Nat) (dA : ClassId) (N : Nat) (C : zC) (ks as_ bs : Nat → Int32) (L D : Nat) (kn : Int32) (mk : Nat → Int32) (xi : Int32) (hN : N ≤ 3) (hC : zReps N C ks as_ bs) (hL : L ≤ 6) (hD4 : D < 4 ^ L) : zMetR l yX1_element (ws_ yX1_element cX1_element 2 (some .int)) ({ frames := 1, cells := 0, slots := 0, locals := 23 }) (dC, dI) dA (wM h dA (nI (N)) ks as_ bs (nI (L)) (nI (D)) kn mk) [.ref (h 0), .int (xi)] (fun r => r = zel (zat L D) L xi) := by
  refine Met.ofW (cc := cX1_element) (maxL := 2) (ret := (some .int)) (by decide) rfl ?_
  intro p e s m args below meth c s₁ B hml hv
  obtain ⟨rfl, hP, hK⟩ := hv
  have hx := B.exec
  have hb := B.bytes
  have hr := B.returns
  have hts := atoms_spec (ws := ws_ yX1_element cX1_element 2 (some .int)) B.pre
  have hts : ∀ w ∈ lw_all, w.before _ s = true := fun w h => hts w (List.mem_cons_of_mem _ h)
  have hown : s.vm.findClass RX1 = some m.cls := findClass_of_methodNamed B.named
  have hlocks := B.notSynchronized
  have hl := lv_entry ([.ref (h 0), .int (xi)]) (n := 2) (Nat.le_of_ble_eq_true rfl)
  rw [lg_entry_eq]
  generalize (lg_sl ([.ref (h 0), .int (xi)]) ++ List.replicate (2 - (lg_sl ([.ref (h 0), .int (xi)])).length) Slot.unset).toArray = ls at hl ⊢
  have hl : lv_has ls 2 [(0, .ref (h 0)), (1, .int (xi))] := hl
  refine lv_iload_n hx hb dX1_element_0 rfl (lv_at hl 1 rfl) ?_
  refine lv_if_lt (x := xi) (tgt := 12) hx hb dX1_element_1 (by decide) (fun c_1 => ?_) (fun c_1 => ?_)
  · refine lv_bipush (v := (-4)) hx hb dX1_element_12 (by decide +kernel) ?_
    refine lv_goto (tgt := 30) hx hb dX1_element_14 (by decide) ?_
    exact W.iret (v := (-4)) hx hb hr (fun t9 ht9 hW9 => ⟨_, rfl, (by simp [zel, c_1]), ht9⟩) (fun _ h => by cases h) dX1_element_30
  · refine lv_iload_n hx hb dX1_element_4 rfl (lv_at hl 1 rfl) ?_
    refine lv_aload_n hx hb dX1_element_5 rfl (lv_at hl 0 rfl) ?_
    refine va_get (D := (dC, dI)) (ci := 1) (v := .int (nI (L))) (C := RX1) (T := TX1) (N := 8) hx hb hts in_X1 hown hK hP 0 rfl rfl 4 (by decide) (hts _ q171) (fun _ h9 => h9) rfl dX1_element_6 ?_
    refine lv_icmp_lt (x := xi) (y := nI (L)) (tgt := 17) hx hb dX1_element_9 (by decide) (fun c_9 => ?_) (fun c_9 => ?_)
    · obtain ⟨j, hj, rfl⟩ := zix c_1 c_9 (by omega)
      refine lv_aload_n hx hb dX1_element_17 rfl (lv_at hl 0 rfl) ?_
      refine lv_aload_n hx hb dX1_element_18 rfl (lv_at hl 0 rfl) ?_
      refine va_get (D := (dC, dI)) (ci := 1) (v := .int (nI (L))) (C := RX1) (T := TX1) (N := 8) hx hb hts in_X1 hown hK hP 0 rfl rfl 4 (by decide) (hts _ q171) (fun _ h9 => h9) rfl dX1_element_19 ?_
      refine lv_aload_n hx hb dX1_element_22 rfl (lv_at hl 0 rfl) ?_
      refine va_get (D := (dC, dI)) (ci := 1) (v := .int (nI (D))) (C := RX1) (T := TX1) (N := 8) hx hb hts in_X1 hown hK hP 0 rfl rfl 5 (by decide) (hts _ q172) (fun _ h9 => h9) rfl dX1_element_23 ?_
      refine lv_iload_n hx hb dX1_element_26 rfl (lv_at hl 1 rfl) ?_
      refine zcallR (As := [.int (nI (L)), .int (nI (D)), .int (nI (j))]) (rest := []) (ci := 1) (q0 := 0) ⟨hx, hb, hml, hown, hts⟩ (met_X1_at l dC dI h dA N C ks as_ bs (nI (L)) (nI (D)) kn mk L D j hN hC hL (Nat.lt_of_lt_of_le hD4 (z46 hL)) hj) (cwV 3 hts (lw_V q244 q246 qs17 q26 q247) rfl rfl rfl (by decide +kernel) ⟨Nat.le_of_ble_eq_true rfl, Nat.le_of_ble_eq_true rfl⟩) hK hP rfl rfl rfl hl.1 rfl (Nat.le_of_ble_eq_true rfl) dX1_element_27 ⟨Nat.zero_le _, Nat.zero_le _⟩ (fun r_27 h_27 => ?_)
      subst h_27
      exact W.iret (v := nI (zat L D j)) hx hb hr (fun t9 ht9 hW9 => ⟨_, rfl, (zel_in (f := zat L D) hj (by omega)), ht9⟩) (fun _ h => by cases h) dX1_element_30
    · refine lv_bipush (v := (-4)) hx hb dX1_element_12 (by decide +kernel) ?_
      refine lv_goto (tgt := 30) hx hb dX1_element_14 (by decide) ?_
      exact W.iret (v := (-4)) hx hb hr (fun t9 ht9 hW9 => ⟨_, rfl, (by simp [zel, c_1, c_9]), ht9⟩) (fun _ h => by cases h) dX1_element_30
end
section
/-! ShrinkRankerModel: markAll, between, find (written by gen/x1.py) -/
set_option maxHeartbeats 8000000 in
set_option maxRecDepth 100000 in
theorem met_X1_markAll (l : Launch) (dC : Nat → ClassId) (dI : Nat → Nat → Nat) (h : Nat → Nat) (dA : ClassId) (sz : Nat) (N : Nat) (C : zC) (ks as_ bs : Nat → Int32) (ln dg kn : Int32) (mk : Nat → Int32) (hN : N ≤ 3) (hC : zReps N C ks as_ bs) (h_r : zKn N C kn mk) : zMetV (S := (Nat → Int32)) l yX1_markAll (ws_ yX1_markAll cX1_markAll 5 none) ({ frames := 4, cells := 0, slots := 0, locals := 96 }) (dC, dI) dA (wM h dA (nI (N)) ks as_ bs ln dg kn mk) sz [.ref (h 0)] (fun w => zMks N C w) (fun w => wM h dA (nI N) ks as_ bs ln dg (nI 1) w) := by
  refine Met.ofW (cc := cX1_markAll) (maxL := 5) (ret := none) (by decide) rfl ?_
  intro p e s m args below meth c s₁ B hml hv
  obtain ⟨rfl, hsz, hP, hK, hD0⟩ := hv
  have hx := B.exec
  have hb := B.bytes
  have hr := B.returns
  have hts := atoms_spec (ws := ws_ yX1_markAll cX1_markAll 5 none) B.pre
  have hts : ∀ w ∈ lw_all, w.before _ s = true := fun w h => hts w (List.mem_cons_of_mem _ h)
  have hown : s.vm.findClass RX1 = some m.cls := findClass_of_methodNamed B.named
  have hlocks := B.notSynchronized
  subst hsz
  have hD := hD0.self (sz := s.heap.size)
  generalize hAe : va_A (wM h dA (nI (N)) ks as_ bs ln dg kn mk) s.heap.size = A at hD ⊢
  have hA : ∀ q : Nat, s.heap.size ≤ q → A q := fun q h => by rw [← hAe]; exact Or.inr h
  have hS : va_S A s.heap s.heap [] := va_S.rf
  clear hD0 hAe
  have hl := lv_entry ([.ref (h 0)]) (n := 5) (Nat.le_of_ble_eq_true rfl)
  rw [lg_entry_eq]
  generalize (lg_sl ([.ref (h 0)]) ++ List.replicate (5 - (lg_sl ([.ref (h 0)])).length) Slot.unset).toArray = ls at hl ⊢
  have hl : lv_has ls 5 [(0, .ref (h 0))] := hl
  rcases h_r with rfl | ⟨rfl, h_T⟩
  · refine lv_aload_n hx hb dX1_markAll_0 rfl (lv_at hl 0 rfl) ?_
    refine va_get (D := (dC, dI)) (ci := 1) (v := .int (nI (0))) (C := RX1) (T := TX1) (N := 8) hx hb hts in_X1 hown hK hP 0 rfl rfl 6 (by decide) (hts _ q173) (fun _ h9 => h9) rfl dX1_markAll_1 ?_
    refine zn_if_eq (tgt := 8) hx hb dX1_markAll_4 (by decide) (by omega) (fun _ => ?_) (fun c9 => absurd c9 (by decide))
    refine lv_aload_n hx hb dX1_markAll_8 rfl (lv_at hl 0 rfl) ?_
    refine lv_iconst (v := nI (1)) hx hb dX1_markAll_9 (by decide +kernel) ?_
    refine va_put (D := (dC, dI)) (ci := 1) (v := .int (nI (1))) (ty := .boolean) (C := RX1) (T := TX1) (N := 8) hx hb hts in_X1 tyX1 tyX1_ok nmX1 hown hK hP hD hS 0 rfl rfl 6 (by decide) (hts _ q173) (fun _ h9 => h9) rfl (by decide +kernel) rfl rfl (Nat.le_of_ble_eq_true rfl) dX1_markAll_10 (fun H locs hP hD hS => ?_)
    have hP : va_P (dC, dI) zCl (wM h dA (nI (N)) ks as_ bs ln dg (nI (1)) mk) H := hP
    have hD : va_D A (wM h dA (nI (N)) ks as_ bs ln dg (nI (1)) mk) := hD
    refine lv_iconst (v := nI (0)) hx hb dX1_markAll_13 (by decide +kernel) ?_
    refine lv_istore_n (lv' := [(1, .int (nI (0))), (0, .ref (h 0))]) hx hb dX1_markAll_14 rfl hl (by decide) rfl (fun ls hl => ?_)
    have loop15 : ∀ (d15 : Nat) (i : Nat) (mz : Nat → Int32), 171 - i < d15 → i ≤ 171 → (∀ q, q < i → mz q = nI 0) → ∀ (H : Heap) (locs : List Loc), va_P (dC, dI) zCl (wM h dA (nI (N)) ks as_ bs ln dg (nI (1)) mz) H → va_D A (wM h dA (nI (N)) ks as_ bs ln dg (nI (1)) mz) → va_S A s.heap H locs → ∀ (ls : Array Slot), lv_has ls 5 [(0, .ref (h 0)), (1, .int (nI (i)))] → W p l e (headSpec (ws_ yX1_markAll cX1_markAll 5 none) ({ frames := 4, cells := 0, slots := 0, locals := 96 })).room s m ([.ref (h 0)] : List Value).toArray below meth c H locs 0 0 (MQ below (va_Qv (S := (Nat → Int32)) (fun w => zMks N C w) (zB (dC, dI) dA A (fun w => wM h dA (nI N) ks as_ bs ln dg (nI 1) w)) A) ([.ref (h 0)] : List Value).toArray s 0 0 (A)) (F0 m 15 ls []) := by
      intro d15
      induction d15 with
      | zero =>
        intro i mz hd15
        exact absurd hd15 (Nat.not_lt_zero _)
      | succ d15 ih15 =>
        intro i mz hd15 hi hw H locs hP hD hS ls hl
        refine lv_iload_n hx hb dX1_markAll_15 rfl (lv_at hl 1 rfl) ?_
        refine lv_sipush (v := nI (171)) hx hb dX1_markAll_16 (by decide +kernel) ?_
        refine zn_icmp_ge (tgt := 35) hx hb dX1_markAll_19 (by decide) (by omega) (by omega) (fun c_19 => ?_) (fun c_19 => ?_)
        · refine lv_iconst (v := nI (0)) hx hb dX1_markAll_35 (by decide +kernel) ?_
          refine lv_istore_n (lv' := [(1, .int (nI (0))), (0, .ref (h 0))]) hx hb dX1_markAll_36 rfl hl (by decide) rfl (fun ls hl => ?_)
          have loop37 : ∀ (d37 : Nat) (n : Nat) (mz : Nat → Int32), 7 - n < d37 → n ≤ 7 → zMkU N C (zst n) mz → ∀ (H : Heap) (locs : List Loc), va_P (dC, dI) zCl (wM h dA (nI (N)) ks as_ bs ln dg (nI (1)) mz) H → va_D A (wM h dA (nI (N)) ks as_ bs ln dg (nI (1)) mz) → va_S A s.heap H locs → ∀ (ls : Array Slot), lv_has ls 5 [(0, .ref (h 0)), (1, .int (nI (n)))] → W p l e (headSpec (ws_ yX1_markAll cX1_markAll 5 none) ({ frames := 4, cells := 0, slots := 0, locals := 96 })).room s m ([.ref (h 0)] : List Value).toArray below meth c H locs 0 0 (MQ below (va_Qv (S := (Nat → Int32)) (fun w => zMks N C w) (zB (dC, dI) dA A (fun w => wM h dA (nI N) ks as_ bs ln dg (nI 1) w)) A) ([.ref (h 0)] : List Value).toArray s 0 0 (A)) (F0 m 37 ls []) := by
            intro d37
            induction d37 with
            | zero =>
              intro n mz hd37
              exact absurd hd37 (Nat.not_lt_zero _)
            | succ d37 ih37 =>
              intro n mz hd37 hn hw H locs hP hD hS ls hl
              refine lv_iload_n hx hb dX1_markAll_37 rfl (lv_at hl 1 rfl) ?_
              refine lv_bipush (v := nI (7)) hx hb dX1_markAll_38 (by decide +kernel) ?_
              refine zn_icmp_ge (tgt := 114) hx hb dX1_markAll_40 (by decide) (by omega) (by omega) (fun c_40 => ?_) (fun c_40 => ?_)
              · exact W.vret hx hb hr (fun t9 ht9 hW9 => ⟨⟨mz, rfl, (zMkU_all hw (by rw [show n = 7 by omega, zst_7]; exact Nat.le_refl _)), by rw [ht9]; exact hP, va_K.moved hW9.alike hK, hD⟩, hS.F ht9⟩) hS.2.2 dX1_markAll_114
              · refine lv_aload_n hx hb dX1_markAll_43 rfl (lv_at hl 0 rfl) ?_
                refine lv_iload_n hx hb dX1_markAll_44 rfl (lv_at hl 1 rfl) ?_
                refine zcallR (As := [.int (nI (n))]) (rest := []) (ci := 1) (q0 := 0) ⟨hx, hb, hml, hown, hts⟩ (met_X1_start l dC dI h dA N C ks as_ bs ln dg (nI (1)) mz n hN hC (by omega)) (cwV 1 hts (lw_V q228 q230 qs13 q26 q231) rfl rfl rfl (by decide +kernel) ⟨Nat.le_of_ble_eq_true rfl, Nat.le_of_ble_eq_true rfl⟩) hK hP rfl rfl rfl hl.1 rfl (Nat.le_of_ble_eq_true rfl) dX1_markAll_45 ⟨Nat.zero_le _, Nat.zero_le _⟩ (fun r_45 h_45 => ?_)
                subst h_45
                have hp4 := z46 (show n ≤ 6 by omega)
                refine lv_istore_n (lv' := [(2, .int (nI (zst n))), (0, .ref (h 0)), (1, .int (nI (n)))]) hx hb dX1_markAll_48 rfl hl (by decide) rfl (fun ls hl => ?_)
                refine lv_iconst (v := nI (0)) hx hb dX1_markAll_49 (by decide +kernel) ?_
                refine lv_istore_n (lv' := [(3, .int (nI (0))), (2, .int (nI (zst n))), (0, .ref (h 0)), (1, .int (nI (n)))]) hx hb dX1_markAll_50 rfl hl (by decide) rfl (fun ls hl => ?_)
                have loop51 : ∀ (d51 : Nat) (j : Nat) (mz : Nat → Int32), 4 ^ n - j < d51 → j ≤ 4 ^ n → zMkU N C (zst n + j) mz → ∀ (H : Heap) (locs : List Loc), va_P (dC, dI) zCl (wM h dA (nI (N)) ks as_ bs ln dg (nI (1)) mz) H → va_D A (wM h dA (nI (N)) ks as_ bs ln dg (nI (1)) mz) → va_S A s.heap H locs → ∀ (ls : Array Slot), lv_has ls 5 [(0, .ref (h 0)), (1, .int (nI (n))), (2, .int (nI (zst n))), (3, .int (nI (j)))] → W p l e (headSpec (ws_ yX1_markAll cX1_markAll 5 none) ({ frames := 4, cells := 0, slots := 0, locals := 96 })).room s m ([.ref (h 0)] : List Value).toArray below meth c H locs 0 0 (MQ below (va_Qv (S := (Nat → Int32)) (fun w => zMks N C w) (zB (dC, dI) dA A (fun w => wM h dA (nI N) ks as_ bs ln dg (nI 1) w)) A) ([.ref (h 0)] : List Value).toArray s 0 0 (A)) (F0 m 51 ls []) := by
                  intro d51
                  induction d51 with
                  | zero =>
                    intro j mz hd51
                    exact absurd hd51 (Nat.not_lt_zero _)
                  | succ d51 ih51 =>
                    intro j mz hd51 hj hw H locs hP hD hS ls hl
                    refine lv_iload_n hx hb dX1_markAll_51 rfl (lv_at hl 3 rfl) ?_
                    refine lv_iconst (v := nI (1)) hx hb dX1_markAll_52 (by decide +kernel) ?_
                    refine lv_iconst (v := nI (2)) hx hb dX1_markAll_53 (by decide +kernel) ?_
                    refine lv_iload_n hx hb dX1_markAll_54 rfl (lv_at hl 1 rfl) ?_
                    refine zn_imul hx hb dX1_markAll_55 ?_
                    refine zn_ishl (v := 4 ^ n) hx hb dX1_markAll_56 (by omega) (by rw [Nat.one_mul, z24]) (Nat.lt_of_le_of_lt hp4 (by decide)) ?_
                    refine zn_icmp_ge (tgt := 108) hx hb dX1_markAll_57 (by decide) (by omega) (by omega) (fun c_57 => ?_) (fun c_57 => ?_)
                    · refine zn_iinc (a := n) (b := 1) (k := 1) (lv' := [(1, .int (nI (n + 1))), (0, .ref (h 0)), (2, .int (nI (zst n))), (3, .int (nI (j)))]) hx hb dX1_markAll_108 hl rfl (by decide) rfl (fun ls hl => ?_)
                      refine lv_goto (tgt := 37) hx hb dX1_markAll_111 (by decide) ?_
                      exact ih37  (n + 1) mz (by omega) (by omega) (zmk_full hj c_57 hw) _ _ hP hD hS _ (lv_sub hl [1, 0] rfl)
                    · refine lv_iload_n hx hb dX1_markAll_60 rfl (lv_at hl 2 rfl) ?_
                      refine lv_iload_n hx hb dX1_markAll_61 rfl (lv_at hl 3 rfl) ?_
                      refine zn_iadd hx hb dX1_markAll_62 ?_
                      refine lv_istore (lv' := [(4, .int (nI ((zst n) + j))), (0, .ref (h 0)), (1, .int (nI (n))), (2, .int (nI (zst n))), (3, .int (nI (j)))]) hx hb dX1_markAll_63 hl (by decide) rfl (fun ls hl => ?_)
                      refine lv_aload_n hx hb dX1_markAll_65 rfl (lv_at hl 1 rfl) ?_
                      refine lv_iload_n hx hb dX1_markAll_66 rfl (lv_at hl 2 rfl) ?_
                      refine lv_iload_n hx hb dX1_markAll_67 rfl (lv_at hl 4 rfl) ?_
                      refine zcallR (As := [.int (nI (n)), .int (nI (j))]) (rest := []) (ci := 1) (q0 := 0) ⟨hx, hb, hml, hown, hts⟩ (met_X1_failsList l dC dI h dA N C ks as_ bs ln dg (nI (1)) mz n j hN hC (by omega) (by omega)) (cwV 2 hts (lw_V q232 q234 qs14 q26 q235) rfl rfl rfl (by decide +kernel) ⟨Nat.le_of_ble_eq_true rfl, Nat.le_of_ble_eq_true rfl⟩) hK hP rfl rfl rfl hl.1 rfl (Nat.le_of_ble_eq_true rfl) dX1_markAll_68 ⟨Nat.zero_le _, Nat.zero_le _⟩ (fun r_68 h_68 => ?_)
                      subst h_68
                      have hkb := zst_b (show n ≤ 6 by omega) c_57
                      refine zn_if_eq (tgt := 102) hx hb dX1_markAll_71 (by decide) (zb_lt _) (fun c_71 => ?_) (fun c_71 => ?_)
                      · have c_71 : (zfl C n j N) = false := zb_f c_71
                        refine zn_iinc (a := j) (b := 1) (k := 4) (lv' := [(3, .int (nI (j + 1))), (4, .int (nI ((zst n) + j))), (0, .ref (h 0)), (1, .int (nI (n))), (2, .int (nI (zst n)))]) hx hb dX1_markAll_102 hl rfl (by decide) rfl (fun ls hl => ?_)
                        refine lv_goto (tgt := 51) hx hb dX1_markAll_105 (by decide) ?_
                        exact ih51  (j + 1) mz (by omega) (by omega) (zMkU_no hw ((zmk_at (by omega) c_57).trans c_71)) _ _ hP hD hS _ (lv_sub hl [2, 3, 4, 0] rfl)
                      · have c_71 : (zfl C n j N) = true := zb_t c_71
                        refine lv_aload_n hx hb dX1_markAll_74 rfl (lv_at hl 1 rfl) ?_
                        refine va_get (D := (dC, dI)) (ci := 1) (v := .ref (h 4)) (C := RX1) (T := TX1) (N := 8) hx hb hts in_X1 hown hK hP 0 rfl rfl 7 (by decide) (hts _ q174) (fun _ h9 => h9) rfl dX1_markAll_75 ?_
                        refine lv_iload hx hb dX1_markAll_78 (lv_at hl 0 rfl) ?_
                        refine lv_bipush (v := nI (32)) hx hb dX1_markAll_80 (by decide +kernel) ?_
                        refine zn_idiv hx hb dX1_markAll_82 (by omega) (by omega) (by omega) ?_
                        refine lv_aload_n hx hb dX1_markAll_83 rfl (lv_at hl 1 rfl) ?_
                        refine va_get (D := (dC, dI)) (ci := 1) (v := .ref (h 4)) (C := RX1) (T := TX1) (N := 8) hx hb hts in_X1 hown hK hP 0 rfl rfl 7 (by decide) (hts _ q174) (fun _ h9 => h9) rfl dX1_markAll_84 ?_
                        refine lv_iload hx hb dX1_markAll_87 (lv_at hl 0 rfl) ?_
                        refine lv_bipush (v := nI (32)) hx hb dX1_markAll_89 (by decide +kernel) ?_
                        refine zn_idiv hx hb dX1_markAll_91 (by omega) (by omega) (by omega) ?_
                        refine zn_iald (f := mz) (i := ((zst n) + j) / 32) (v := mz (((zst n) + j) / 32)) hx hb hK hP 4 0 rfl rfl (by omega) (by decide) rfl dX1_markAll_92 ?_
                        refine lv_iconst (v := nI (1)) hx hb dX1_markAll_93 (by decide +kernel) ?_
                        refine lv_iload hx hb dX1_markAll_94 (lv_at hl 0 rfl) ?_
                        refine lv_bipush (v := nI (32)) hx hb dX1_markAll_96 (by decide +kernel) ?_
                        refine zn_irem hx hb dX1_markAll_98 (by omega) (by omega) (by omega) ?_
                        refine lv_ishl hx hb dX1_markAll_99 ?_
                        refine lv_ior hx hb dX1_markAll_100 ?_
                        refine zn_iast (f := mz) (i := ((zst n) + j) / 32) (x := (mz (((zst n) + j) / 32) ||| (nI (1) <<< (nI (((zst n) + j) % 32) &&& 31)))) hx hb hK hP hD hS 4 0 rfl rfl (by omega) (by decide) dX1_markAll_101 (fun H locs hP hD hS => ?_)
                        have hP : va_P (dC, dI) zCl (wM h dA (nI (N)) ks as_ bs ln dg (nI (1)) (upd mz (((zst n) + j) / 32) ((mz (((zst n) + j) / 32) ||| (nI (1) <<< (nI (((zst n) + j) % 32) &&& 31)))))) H := hP
                        have hD : va_D A (wM h dA (nI (N)) ks as_ bs ln dg (nI (1)) (upd mz (((zst n) + j) / 32) ((mz (((zst n) + j) / 32) ||| (nI (1) <<< (nI (((zst n) + j) % 32) &&& 31)))))) := hD
                        refine zn_iinc (a := j) (b := 1) (k := 4) (lv' := [(3, .int (nI (j + 1))), (4, .int (nI ((zst n) + j))), (0, .ref (h 0)), (1, .int (nI (n))), (2, .int (nI (zst n)))]) hx hb dX1_markAll_102 hl rfl (by decide) rfl (fun ls hl => ?_)
                        refine lv_goto (tgt := 51) hx hb dX1_markAll_105 (by decide) ?_
                        exact ih51  (j + 1) (upd mz (((zst n) + j) / 32) ((mz (((zst n) + j) / 32) ||| (nI (1) <<< (nI (((zst n) + j) % 32) &&& 31))))) (by omega) (by omega) (zMkU_yes hw ((zmk_at (by omega) c_57).trans c_71)) _ _ hP hD hS _ (lv_sub hl [2, 3, 4, 0] rfl)
                exact loop51 (_ + 1) 0 mz (Nat.lt_succ_self _) (Nat.zero_le _) hw _ _ hP hD hS _ (lv_sub hl [2, 3, 1, 0] rfl)
          exact loop37 (_ + 1) 0 mz (Nat.lt_succ_self _) (by omega) (zMkU_0 (fun q hq => hw q (by omega))) _ _ hP hD hS _ (lv_sub hl [1, 0] rfl)
        · refine lv_aload_n hx hb dX1_markAll_22 rfl (lv_at hl 0 rfl) ?_
          refine va_get (D := (dC, dI)) (ci := 1) (v := .ref (h 4)) (C := RX1) (T := TX1) (N := 8) hx hb hts in_X1 hown hK hP 0 rfl rfl 7 (by decide) (hts _ q174) (fun _ h9 => h9) rfl dX1_markAll_23 ?_
          refine lv_iload_n hx hb dX1_markAll_26 rfl (lv_at hl 1 rfl) ?_
          refine lv_iconst (v := nI (0)) hx hb dX1_markAll_27 (by decide +kernel) ?_
          refine zn_iast (f := mz) (i := i) (x := nI (0)) hx hb hK hP hD hS 4 0 rfl rfl (by omega) (by decide) dX1_markAll_28 (fun H locs hP hD hS => ?_)
          have hP : va_P (dC, dI) zCl (wM h dA (nI (N)) ks as_ bs ln dg (nI (1)) (upd mz i (nI (0)))) H := hP
          have hD : va_D A (wM h dA (nI (N)) ks as_ bs ln dg (nI (1)) (upd mz i (nI (0)))) := hD
          refine zn_iinc (a := i) (b := 1) (k := 1) (lv' := [(1, .int (nI (i + 1))), (0, .ref (h 0))]) hx hb dX1_markAll_29 hl rfl (by decide) rfl (fun ls hl => ?_)
          refine lv_goto (tgt := 15) hx hb dX1_markAll_32 (by decide) ?_
          exact ih15  (i + 1) (upd mz i (nI (0))) (by omega) (by omega) (zfill (P := fun _ => nI 0) hw rfl) _ _ hP hD hS _ (lv_sub hl [1, 0] rfl)
    exact loop15 (_ + 1) 0 mk (Nat.lt_succ_self _) (by omega) (fun q hq => absurd hq (Nat.not_lt_zero _)) _ _ hP hD hS _ (lv_sub hl [1, 0] rfl)
  · refine lv_aload_n hx hb dX1_markAll_0 rfl (lv_at hl 0 rfl) ?_
    refine va_get (D := (dC, dI)) (ci := 1) (v := .int (nI (1))) (C := RX1) (T := TX1) (N := 8) hx hb hts in_X1 hown hK hP 0 rfl rfl 6 (by decide) (hts _ q173) (fun _ h9 => h9) rfl dX1_markAll_1 ?_
    refine zn_if_eq (tgt := 8) hx hb dX1_markAll_4 (by decide) (by omega) (fun c9 => absurd c9 (by decide)) (fun _ => ?_)
    exact W.vret hx hb hr (fun t9 ht9 hW9 => ⟨⟨mk, rfl, h_T, by rw [ht9]; exact hP, va_K.moved hW9.alike hK, hD⟩, hS.F ht9⟩) hS.2.2 dX1_markAll_7
set_option maxHeartbeats 8000000 in
set_option maxRecDepth 100000 in
theorem met_X1_between (l : Launch) (dC : Nat → ClassId) (dI : Nat → Nat → Nat) (h : Nat → Nat) (dA : ClassId) (sz : Nat) (N : Nat) (C : zC) (ks as_ bs : Nat → Int32) (ln dg kn : Int32) (mk : Nat → Int32) (av bv : Nat) (hN : N ≤ 3) (hC : zReps N C ks as_ bs) (h_r : zKn N C kn mk) (h_ab : av ≤ bv) (h_b : bv ≤ 5461) : zMetI (S := (Nat → Int32)) l yX1_between (ws_ yX1_between cX1_between 5 (some .int)) ({ frames := 5, cells := 0, slots := 0, locals := 120 }) (dC, dI) dA (wM h dA (nI (N)) ks as_ bs ln dg kn mk) sz [.ref (h 0), .int (nI (av)), .int (nI (bv))] (fun r w => r = nI (zbt (zmk N C) av (bv - av)) ∧ zMks N C w) (fun w => wM h dA (nI N) ks as_ bs ln dg (nI 1) w) := by
  refine Met.ofW (cc := cX1_between) (maxL := 5) (ret := (some .int)) (by decide) rfl ?_
  intro p e s m args below meth c s₁ B hml hv
  obtain ⟨rfl, hsz, hP, hK, hD0⟩ := hv
  have hx := B.exec
  have hb := B.bytes
  have hr := B.returns
  have hts := atoms_spec (ws := ws_ yX1_between cX1_between 5 (some .int)) B.pre
  have hts : ∀ w ∈ lw_all, w.before _ s = true := fun w h => hts w (List.mem_cons_of_mem _ h)
  have hown : s.vm.findClass RX1 = some m.cls := findClass_of_methodNamed B.named
  have hlocks := B.notSynchronized
  subst hsz
  have hD := hD0.self (sz := s.heap.size)
  generalize hAe : va_A (wM h dA (nI (N)) ks as_ bs ln dg kn mk) s.heap.size = A at hD ⊢
  have hA : ∀ q : Nat, s.heap.size ≤ q → A q := fun q h => by rw [← hAe]; exact Or.inr h
  have hS : va_S A s.heap s.heap [] := va_S.rf
  clear hD0 hAe
  have hl := lv_entry ([.ref (h 0), .int (nI (av)), .int (nI (bv))]) (n := 5) (Nat.le_of_ble_eq_true rfl)
  rw [lg_entry_eq]
  generalize (lg_sl ([.ref (h 0), .int (nI (av)), .int (nI (bv))]) ++ List.replicate (5 - (lg_sl ([.ref (h 0), .int (nI (av)), .int (nI (bv))])).length) Slot.unset).toArray = ls at hl ⊢
  have hl : lv_has ls 5 [(0, .ref (h 0)), (1, .int (nI (av))), (2, .int (nI (bv)))] := hl
  refine lv_aload_n hx hb dX1_between_0 rfl (lv_at hl 0 rfl) ?_
  refine zcallMv (As := []) (rest := []) (wr := []) (ci := 1) (q0 := 0) [0, 1, 2, 3, 4] [] ⟨hx, hb, hml, hown, hts⟩ (met_X1_markAll l dC dI h dA s.heap.size N C ks as_ bs ln dg kn mk  hN hC h_r) (cwV 0 hts (lw_V q224 q226 qs12 q26 q227) rfl rfl rfl (by decide +kernel) ⟨Nat.le_of_ble_eq_true rfl, Nat.le_of_ble_eq_true rfl⟩) hK hP hD hS hA rfl rfl (by decide) (by decide) (by decide) rfl rfl rfl hl.1 rfl (Nat.le_of_ble_eq_true rfl) dX1_between_1 ⟨Nat.zero_le _, Nat.zero_le _⟩ (fun u_1 H locs h_1 hP hD hS => ?_)
  have hP : va_P (dC, dI) zCl (wM h dA (nI (N)) ks as_ bs ln dg (nI (1)) u_1) H := hP
  have hD : va_D A (wM h dA (nI (N)) ks as_ bs ln dg (nI (1)) u_1) := hD
  have hT : zMks N C u_1 := h_1
  refine lv_iconst (v := nI (0)) hx hb dX1_between_4 (by decide +kernel) ?_
  refine lv_istore_n (lv' := [(3, .int (nI (0))), (0, .ref (h 0)), (1, .int (nI (av))), (2, .int (nI (bv)))]) hx hb dX1_between_5 rfl hl (by decide) rfl (fun ls hl => ?_)
  refine lv_iload_n hx hb dX1_between_6 rfl (lv_at hl 2 rfl) ?_
  refine lv_istore (lv' := [(4, .int (nI (av))), (3, .int (nI (0))), (0, .ref (h 0)), (1, .int (nI (av))), (2, .int (nI (bv)))]) hx hb dX1_between_7 hl (by decide) rfl (fun ls hl => ?_)
  have loop9 : ∀ (d9 : Nat) (k : Nat) (t : Nat), bv - k < d9 → av ≤ k → k ≤ bv → t = zbt (zmk N C) av (k - av) → ∀ (ls : Array Slot), lv_has ls 5 [(0, .ref (h 0)), (1, .int (nI (av))), (2, .int (nI (bv))), (3, .int (nI (t))), (4, .int (nI (k)))] → W p l e (headSpec (ws_ yX1_between cX1_between 5 (some .int)) ({ frames := 5, cells := 0, slots := 0, locals := 120 })).room s m ([.ref (h 0), .int (nI (av)), .int (nI (bv))] : List Value).toArray below meth c H locs 0 0 (MQ below (va_Qi (S := (Nat → Int32)) (fun r w => r = nI (zbt (zmk N C) av (bv - av)) ∧ zMks N C w) (zB (dC, dI) dA A (fun w => wM h dA (nI N) ks as_ bs ln dg (nI 1) w)) A) ([.ref (h 0), .int (nI (av)), .int (nI (bv))] : List Value).toArray s 0 0 (A)) (F0 m 9 ls []) := by
    intro d9
    induction d9 with
    | zero =>
      intro k t hd9
      exact absurd hd9 (Nat.not_lt_zero _)
    | succ d9 ih9 =>
      intro k t hd9 hk1 hk2 ht ls hl
      refine lv_iload hx hb dX1_between_9 (lv_at hl 4 rfl) ?_
      refine lv_iload_n hx hb dX1_between_11 rfl (lv_at hl 2 rfl) ?_
      refine zn_icmp_ge (tgt := 33) hx hb dX1_between_12 (by decide) (by omega) (by omega) (fun c_12 => ?_) (fun c_12 => ?_)
      · refine lv_iload_n hx hb dX1_between_33 rfl (lv_at hl 3 rfl) ?_
        exact W.iret (v := nI (t)) hx hb hr (fun t9 ht9 hW9 => ⟨⟨nI (t), u_1, rfl, ⟨congrArg nI (by rw [ht, show k = bv by omega]), hT⟩, by rw [ht9]; exact hP, va_K.moved hW9.alike hK, hD⟩, hS.F ht9⟩) hS.2.2 dX1_between_34
      · refine lv_aload_n hx hb dX1_between_15 rfl (lv_at hl 0 rfl) ?_
        refine lv_iload hx hb dX1_between_16 (lv_at hl 4 rfl) ?_
        refine zcallR (As := [.int (nI (k))]) (rest := []) (ci := 1) (q0 := 0) ⟨hx, hb, hml, hown, hts⟩ (met_X1_marked l dC dI h dA N C ks as_ bs ln dg (nI (1)) u_1 k hN hC (by omega)) (cwV 1 hts (lw_V q260 q262 qs21 q26 q263) rfl rfl rfl (by decide +kernel) ⟨Nat.le_of_ble_eq_true rfl, Nat.le_of_ble_eq_true rfl⟩) hK hP rfl rfl rfl hl.1 rfl (Nat.le_of_ble_eq_true rfl) dX1_between_18 ⟨Nat.zero_le _, Nat.zero_le _⟩ (fun r_18 h_18 => ?_)
        subst h_18
        have hz := hT k (by omega)
        refine zn_if_eq (tgt := 27) hx hb dX1_between_21 (by decide) (zb_lt _) (fun c_21 => ?_) (fun c_21 => ?_)
        · have c_21 : (zbit (u_1 (k / 32)) (k % 32)) = false := zb_f c_21
          refine zn_iinc (a := k) (b := 1) (k := 4) (lv' := [(4, .int (nI (k + 1))), (0, .ref (h 0)), (1, .int (nI (av))), (2, .int (nI (bv))), (3, .int (nI (t)))]) hx hb dX1_between_27 hl rfl (by decide) rfl (fun ls hl => ?_)
          refine lv_goto (tgt := 9) hx hb dX1_between_30 (by decide) ?_
          exact ih9  (k + 1) t (by omega) (by omega) (by omega) (by rw [zbt_step hk1, ← hz, c_21, ht]; rfl) _ (lv_sub hl [1, 2, 3, 4, 0] rfl)
        · have c_21 : (zbit (u_1 (k / 32)) (k % 32)) = true := zb_t c_21
          refine zn_iinc (a := t) (b := 1) (k := 3) (lv' := [(3, .int (nI (t + 1))), (0, .ref (h 0)), (1, .int (nI (av))), (2, .int (nI (bv))), (4, .int (nI (k)))]) hx hb dX1_between_24 hl rfl (by decide) rfl (fun ls hl => ?_)
          refine zn_iinc (a := k) (b := 1) (k := 4) (lv' := [(4, .int (nI (k + 1))), (3, .int (nI (t + 1))), (0, .ref (h 0)), (1, .int (nI (av))), (2, .int (nI (bv)))]) hx hb dX1_between_27 hl rfl (by decide) rfl (fun ls hl => ?_)
          refine lv_goto (tgt := 9) hx hb dX1_between_30 (by decide) ?_
          exact ih9  (k + 1) (t + 1) (by omega) (by omega) (by omega) (by rw [zbt_step hk1, ← hz, c_21, ht]; rfl) _ (lv_sub hl [2, 3, 4, 1, 0] rfl)
  exact loop9 (_ + 1) av 0 (Nat.lt_succ_self _) (Nat.le_refl _) h_ab (by rw [Nat.sub_self]; rfl) _ (lv_sub hl [2, 3, 4, 1, 0] rfl)
set_option maxHeartbeats 8000000 in
set_option maxRecDepth 100000 in
theorem met_X1_find (l : Launch) (dC : Nat → ClassId) (dI : Nat → Nat → Nat) (h : Nat → Nat) (dA : ClassId) (sz : Nat) (N : Nat) (C : zC) (ks as_ bs : Nat → Int32) (ln dg kn : Int32) (mk : Nat → Int32) (xi : Int32) (hN : N ≤ 3) (hC : zReps N C ks as_ bs) (h_r : zKn N C kn mk) : zMetI (S := (Nat → Int32)) l yX1_find (ws_ yX1_find cX1_find 4 (some .int)) ({ frames := 5, cells := 0, slots := 0, locals := 120 }) (dC, dI) dA (wM h dA (nI (N)) ks as_ bs ln dg kn mk) sz [.ref (h 0), .int (xi)] (fun r w => zMks N C w ∧ ((∃ k, zMk N C xi k ∧ r = nI k) ∨ (r = -1 ∧ zMn N C xi))) (fun w => wM h dA (nI N) ks as_ bs ln dg (nI 1) w) := by
  refine Met.ofW (cc := cX1_find) (maxL := 4) (ret := (some .int)) (by decide) rfl ?_
  intro p e s m args below meth c s₁ B hml hv
  obtain ⟨rfl, hsz, hP, hK, hD0⟩ := hv
  have hx := B.exec
  have hb := B.bytes
  have hr := B.returns
  have hts := atoms_spec (ws := ws_ yX1_find cX1_find 4 (some .int)) B.pre
  have hts : ∀ w ∈ lw_all, w.before _ s = true := fun w h => hts w (List.mem_cons_of_mem _ h)
  have hown : s.vm.findClass RX1 = some m.cls := findClass_of_methodNamed B.named
  have hlocks := B.notSynchronized
  subst hsz
  have hD := hD0.self (sz := s.heap.size)
  generalize hAe : va_A (wM h dA (nI (N)) ks as_ bs ln dg kn mk) s.heap.size = A at hD ⊢
  have hA : ∀ q : Nat, s.heap.size ≤ q → A q := fun q h => by rw [← hAe]; exact Or.inr h
  have hS : va_S A s.heap s.heap [] := va_S.rf
  clear hD0 hAe
  have hl := lv_entry ([.ref (h 0), .int (xi)]) (n := 4) (Nat.le_of_ble_eq_true rfl)
  rw [lg_entry_eq]
  generalize (lg_sl ([.ref (h 0), .int (xi)]) ++ List.replicate (4 - (lg_sl ([.ref (h 0), .int (xi)])).length) Slot.unset).toArray = ls at hl ⊢
  have hl : lv_has ls 4 [(0, .ref (h 0)), (1, .int (xi))] := hl
  refine lv_aload_n hx hb dX1_find_0 rfl (lv_at hl 0 rfl) ?_
  refine zcallMv (As := []) (rest := []) (wr := []) (ci := 1) (q0 := 0) [0, 1, 2, 3, 4] [] ⟨hx, hb, hml, hown, hts⟩ (met_X1_markAll l dC dI h dA s.heap.size N C ks as_ bs ln dg kn mk  hN hC h_r) (cwV 0 hts (lw_V q224 q226 qs12 q26 q227) rfl rfl rfl (by decide +kernel) ⟨Nat.le_of_ble_eq_true rfl, Nat.le_of_ble_eq_true rfl⟩) hK hP hD hS hA rfl rfl (by decide) (by decide) (by decide) rfl rfl rfl hl.1 rfl (Nat.le_of_ble_eq_true rfl) dX1_find_1 ⟨Nat.zero_le _, Nat.zero_le _⟩ (fun u_1 H locs h_1 hP hD hS => ?_)
  have hP : va_P (dC, dI) zCl (wM h dA (nI (N)) ks as_ bs ln dg (nI (1)) u_1) H := hP
  have hD : va_D A (wM h dA (nI (N)) ks as_ bs ln dg (nI (1)) u_1) := hD
  have hT : zMks N C u_1 := h_1
  refine lv_iconst (v := nI (0)) hx hb dX1_find_4 (by decide +kernel) ?_
  refine lv_istore_n (lv' := [(2, .int (nI (0))), (0, .ref (h 0)), (1, .int (xi))]) hx hb dX1_find_5 rfl hl (by decide) rfl (fun ls hl => ?_)
  refine lv_iconst (v := nI (0)) hx hb dX1_find_6 (by decide +kernel) ?_
  refine lv_istore_n (lv' := [(3, .int (nI (0))), (2, .int (nI (0))), (0, .ref (h 0)), (1, .int (xi))]) hx hb dX1_find_7 rfl hl (by decide) rfl (fun ls hl => ?_)
  have loop8 : ∀ (d8 : Nat) (k : Nat) (t : Nat), 5461 - k < d8 → k ≤ 5461 → t = zcn (zmk N C) k → (∀ j, j < k → zmk N C j = true → ¬ xi = nI (zcn (zmk N C) j)) → ∀ (ls : Array Slot), lv_has ls 4 [(0, .ref (h 0)), (1, .int (xi)), (2, .int (nI (t))), (3, .int (nI (k)))] → W p l e (headSpec (ws_ yX1_find cX1_find 4 (some .int)) ({ frames := 5, cells := 0, slots := 0, locals := 120 })).room s m ([.ref (h 0), .int (xi)] : List Value).toArray below meth c H locs 0 0 (MQ below (va_Qi (S := (Nat → Int32)) (fun r w => zMks N C w ∧ ((∃ k, zMk N C xi k ∧ r = nI k) ∨ (r = -1 ∧ zMn N C xi))) (zB (dC, dI) dA A (fun w => wM h dA (nI N) ks as_ bs ln dg (nI 1) w)) A) ([.ref (h 0), .int (xi)] : List Value).toArray s 0 0 (A)) (F0 m 8 ls []) := by
    intro d8
    induction d8 with
    | zero =>
      intro k t hd8
      exact absurd hd8 (Nat.not_lt_zero _)
    | succ d8 ih8 =>
      intro k t hd8 hk ht hno ls hl
      refine lv_iload_n hx hb dX1_find_8 rfl (lv_at hl 3 rfl) ?_
      refine lv_sipush (v := nI (5461)) hx hb dX1_find_9 (by decide +kernel) ?_
      refine zn_icmp_ge (tgt := 39) hx hb dX1_find_12 (by decide) (by omega) (by omega) (fun c_12 => ?_) (fun c_12 => ?_)
      · refine lv_iconst (v := (-1)) hx hb dX1_find_39 (by decide +kernel) ?_
        exact W.iret (v := (-1)) hx hb hr (fun t9 ht9 hW9 => ⟨⟨(-1), u_1, rfl, ⟨hT, Or.inr ⟨rfl, fun j hj => hno j (by omega)⟩⟩, by rw [ht9]; exact hP, va_K.moved hW9.alike hK, hD⟩, hS.F ht9⟩) hS.2.2 dX1_find_40
      · refine lv_aload_n hx hb dX1_find_15 rfl (lv_at hl 0 rfl) ?_
        refine lv_iload_n hx hb dX1_find_16 rfl (lv_at hl 3 rfl) ?_
        refine zcallR (As := [.int (nI (k))]) (rest := []) (ci := 1) (q0 := 0) ⟨hx, hb, hml, hown, hts⟩ (met_X1_marked l dC dI h dA N C ks as_ bs ln dg (nI (1)) u_1 k hN hC (by omega)) (cwV 1 hts (lw_V q260 q262 qs21 q26 q263) rfl rfl rfl (by decide +kernel) ⟨Nat.le_of_ble_eq_true rfl, Nat.le_of_ble_eq_true rfl⟩) hK hP rfl rfl rfl hl.1 rfl (Nat.le_of_ble_eq_true rfl) dX1_find_17 ⟨Nat.zero_le _, Nat.zero_le _⟩ (fun r_17 h_17 => ?_)
        subst h_17
        have hz := hT k (by omega)
        refine zn_if_eq (tgt := 33) hx hb dX1_find_20 (by decide) (zb_lt _) (fun c_20 => ?_) (fun c_20 => ?_)
        · have c_20 : (zbit (u_1 (k / 32)) (k % 32)) = false := zb_f c_20
          refine zn_iinc (a := k) (b := 1) (k := 3) (lv' := [(3, .int (nI (k + 1))), (0, .ref (h 0)), (1, .int (xi)), (2, .int (nI (t)))]) hx hb dX1_find_33 hl rfl (by decide) rfl (fun ls hl => ?_)
          refine lv_goto (tgt := 8) hx hb dX1_find_36 (by decide) ?_
          exact ih8  (k + 1) t (by omega) (by omega) (by show _ = zcn (zmk N C) k + (zmk N C k).toNat; rw [← hz, c_20, ht]; rfl) (znoext hno (fun e => by rw [← hz, c_20] at e; cases e)) _ (lv_sub hl [1, 2, 3, 0] rfl)
        · have c_20 : (zbit (u_1 (k / 32)) (k % 32)) = true := zb_t c_20
          refine lv_iload_n hx hb dX1_find_23 rfl (lv_at hl 2 rfl) ?_
          refine lv_iload_n hx hb dX1_find_24 rfl (lv_at hl 1 rfl) ?_
          refine lv_icmp_ne (x := nI (t)) (y := xi) (tgt := 30) hx hb dX1_find_25 (by decide) (fun c_25 => ?_) (fun c_25 => ?_)
          · refine zn_iinc (a := t) (b := 1) (k := 2) (lv' := [(2, .int (nI (t + 1))), (0, .ref (h 0)), (1, .int (xi)), (3, .int (nI (k)))]) hx hb dX1_find_30 hl rfl (by decide) rfl (fun ls hl => ?_)
            refine zn_iinc (a := k) (b := 1) (k := 3) (lv' := [(3, .int (nI (k + 1))), (2, .int (nI (t + 1))), (0, .ref (h 0)), (1, .int (xi))]) hx hb dX1_find_33 hl rfl (by decide) rfl (fun ls hl => ?_)
            refine lv_goto (tgt := 8) hx hb dX1_find_36 (by decide) ?_
            exact ih8  (k + 1) (t + 1) (by omega) (by omega) (by show _ = zcn (zmk N C) k + (zmk N C k).toNat; rw [← hz, c_20, ht]; rfl) (znoext hno (fun _ e => c_25 (by rw [ht]; exact e.symm))) _ (lv_sub hl [2, 3, 1, 0] rfl)
          · refine lv_iload_n hx hb dX1_find_28 rfl (lv_at hl 3 rfl) ?_
            exact W.iret (v := nI (k)) hx hb hr (fun t9 ht9 hW9 => ⟨⟨nI (k), u_1, rfl, ⟨hT, Or.inl ⟨k, ⟨by omega, by rw [← hz]; exact c_20, by rw [← ht]; exact c_25.symm⟩, rfl⟩⟩, by rw [ht9]; exact hP, va_K.moved hW9.alike hK, hD⟩, hS.F ht9⟩) hS.2.2 dX1_find_29
  exact loop8 (_ + 1) 0 0 (Nat.lt_succ_self _) (by omega) rfl (fun j hj => absurd hj (Nat.not_lt_zero _)) _ (lv_sub hl [2, 3, 1, 0] rfl)
end
section
/-! ShrinkRankerModel: the public methods (written by gen/x1.py) -/
set_option maxHeartbeats 8000000 in
set_option maxRecDepth 100000 in
theorem met_X1_condition (l : Launch) (dC : Nat → ClassId) (dI : Nat → Nat → Nat) (h : Nat → Nat) (dA : ClassId) (sz : Nat) (N : Nat) (C : zC) (ks as_ bs : Nat → Int32) (ln dg kn : Int32) (mk : Nat → Int32) (kv av bv : Int32) (hN : N ≤ 3) (hC : zReps N C ks as_ bs) : zMetI (S := Int32 × (Nat → Int32) × (Nat → Int32) × (Nat → Int32) × Int32) l yX1_condition (ws_ yX1_condition cX1_condition 4 (some .int)) ({ frames := 2, cells := 0, slots := 0, locals := 46 }) (dC, dI) dA (wM h dA (nI (N)) ks as_ bs ln dg kn mk) sz [.ref (h 0), .int (kv), .int (av), .int (bv)] (fun r u => r = zcr N kv av bv ∧ (zcok N kv av bv → u = (nI (N + 1), upd ks N kv, upd as_ N av, upd bs N bv, nI 0)) ∧ (¬ zcok N kv av bv → u = (nI N, ks, as_, bs, kn))) (fun u => wM h dA u.1 u.2.1 u.2.2.1 u.2.2.2.1 ln dg u.2.2.2.2 mk) := by
  refine Met.ofW (cc := cX1_condition) (maxL := 4) (ret := (some .int)) (by decide) rfl ?_
  intro p e s m args below meth c s₁ B hml hv
  obtain ⟨rfl, hsz, hP, hK, hD0⟩ := hv
  have hx := B.exec
  have hb := B.bytes
  have hr := B.returns
  have hts := atoms_spec (ws := ws_ yX1_condition cX1_condition 4 (some .int)) B.pre
  have hts : ∀ w ∈ lw_all, w.before _ s = true := fun w h => hts w (List.mem_cons_of_mem _ h)
  have hown : s.vm.findClass RX1 = some m.cls := findClass_of_methodNamed B.named
  have hlocks := B.notSynchronized
  subst hsz
  have hD := hD0.self (sz := s.heap.size)
  generalize hAe : va_A (wM h dA (nI (N)) ks as_ bs ln dg kn mk) s.heap.size = A at hD ⊢
  have hA : ∀ q : Nat, s.heap.size ≤ q → A q := fun q h => by rw [← hAe]; exact Or.inr h
  have hS : va_S A s.heap s.heap [] := va_S.rf
  clear hD0 hAe
  have hl := lv_entry ([.ref (h 0), .int (kv), .int (av), .int (bv)]) (n := 4) (Nat.le_of_ble_eq_true rfl)
  rw [lg_entry_eq]
  generalize (lg_sl ([.ref (h 0), .int (kv), .int (av), .int (bv)]) ++ List.replicate (4 - (lg_sl ([.ref (h 0), .int (kv), .int (av), .int (bv)])).length) Slot.unset).toArray = ls at hl ⊢
  have hl : lv_has ls 4 [(0, .ref (h 0)), (1, .int (kv)), (2, .int (av)), (3, .int (bv))] := hl
  refine lv_iload_n hx hb dX1_condition_0 rfl (lv_at hl 1 rfl) ?_
  refine lv_if_lt (x := kv) (tgt := 10) hx hb dX1_condition_1 (by decide) (fun c_1 => ?_) (fun c_1 => ?_)
  · refine lv_iconst (v := (-1)) hx hb dX1_condition_10 (by decide +kernel) ?_
    exact W.iret (v := (-1)) hx hb hr (fun t9 ht9 hW9 => ⟨⟨(-1), (nI N, ks, as_, bs, kn), rfl, ⟨by simp [zcr, c_1], fun h => absurd c_1 h.1, fun _ => rfl⟩, by rw [ht9]; exact hP, va_K.moved hW9.alike hK, hD⟩, hS.F ht9⟩) hS.2.2 dX1_condition_11
  · refine lv_iload_n hx hb dX1_condition_4 rfl (lv_at hl 1 rfl) ?_
    refine lv_bipush (v := nI (9)) hx hb dX1_condition_5 (by decide +kernel) ?_
    refine lv_icmp_le (x := kv) (y := nI (9)) (tgt := 12) hx hb dX1_condition_7 (by decide) (fun c_7 => ?_) (fun c_7 => ?_)
    · obtain ⟨k, hk9, rfl⟩ := nI_of2 (M := nI 9) (n := 9) (by decide +kernel) c_1 c_7
      have hcl : (nI k).toNatClampNeg = k := nI_clamp (by omega)
      refine lv_aload_n hx hb dX1_condition_12 rfl (lv_at hl 0 rfl) ?_
      refine lv_iload_n hx hb dX1_condition_13 rfl (lv_at hl 1 rfl) ?_
      refine lv_iload_n hx hb dX1_condition_14 rfl (lv_at hl 2 rfl) ?_
      refine lv_iload_n hx hb dX1_condition_15 rfl (lv_at hl 3 rfl) ?_
      refine zcallR (As := [.int (nI (k)), .int (av), .int (bv)]) (rest := []) (ci := 1) (q0 := 0) ⟨hx, hb, hml, hown, hts⟩ (met_X1_goodNumbers l dC dI h dA N C ks as_ bs ln dg kn mk k av bv hN hC hk9) (cwV 3 hts (lw_V q196 q198 qs9 q26 q199) rfl rfl rfl (by decide +kernel) ⟨Nat.le_of_ble_eq_true rfl, Nat.le_of_ble_eq_true rfl⟩) hK hP rfl rfl rfl hl.1 rfl (Nat.le_of_ble_eq_true rfl) dX1_condition_16 ⟨Nat.zero_le _, Nat.zero_le _⟩ (fun r_16 h_16 => ?_)
      subst h_16
      refine zn_if_ne (tgt := 25) hx hb dX1_condition_19 (by decide) (zb_lt _) (fun c_19 => ?_) (fun c_19 => ?_)
      · have c_19 : (zgn k av bv) = true := zb_t c_19
        refine lv_aload_n hx hb dX1_condition_25 rfl (lv_at hl 0 rfl) ?_
        refine va_get (D := (dC, dI)) (ci := 1) (v := .int (nI (N))) (C := RX1) (T := TX1) (N := 8) hx hb hts in_X1 hown hK hP 0 rfl rfl 0 (by decide) (hts _ q167) (fun _ h9 => h9) rfl dX1_condition_26 ?_
        refine lv_iconst (v := nI (3)) hx hb dX1_condition_29 (by decide +kernel) ?_
        refine zn_icmp_ne (tgt := 36) hx hb dX1_condition_30 (by decide) (by omega) (by omega) (fun c_30 => ?_) (fun c_30 => ?_)
        · refine lv_aload_n hx hb dX1_condition_36 rfl (lv_at hl 0 rfl) ?_
          refine va_get (D := (dC, dI)) (ci := 1) (v := .ref (h 1)) (C := RX1) (T := TX1) (N := 8) hx hb hts in_X1 hown hK hP 0 rfl rfl 1 (by decide) (hts _ q168) (fun _ h9 => h9) rfl dX1_condition_37 ?_
          refine lv_aload_n hx hb dX1_condition_40 rfl (lv_at hl 0 rfl) ?_
          refine va_get (D := (dC, dI)) (ci := 1) (v := .int (nI (N))) (C := RX1) (T := TX1) (N := 8) hx hb hts in_X1 hown hK hP 0 rfl rfl 0 (by decide) (hts _ q167) (fun _ h9 => h9) rfl dX1_condition_41 ?_
          refine lv_iload_n hx hb dX1_condition_44 rfl (lv_at hl 1 rfl) ?_
          refine zn_iast (f := ks) (i := N) (x := nI (k)) hx hb hK hP hD hS 1 0 rfl rfl (by omega) (by decide) dX1_condition_45 (fun H locs hP hD hS => ?_)
          have hP : va_P (dC, dI) zCl (wM h dA (nI (N)) (upd ks N (nI (k))) as_ bs ln dg kn mk) H := hP
          have hD : va_D A (wM h dA (nI (N)) (upd ks N (nI (k))) as_ bs ln dg kn mk) := hD
          refine lv_aload_n hx hb dX1_condition_46 rfl (lv_at hl 0 rfl) ?_
          refine va_get (D := (dC, dI)) (ci := 1) (v := .ref (h 2)) (C := RX1) (T := TX1) (N := 8) hx hb hts in_X1 hown hK hP 0 rfl rfl 2 (by decide) (hts _ q169) (fun _ h9 => h9) rfl dX1_condition_47 ?_
          refine lv_aload_n hx hb dX1_condition_50 rfl (lv_at hl 0 rfl) ?_
          refine va_get (D := (dC, dI)) (ci := 1) (v := .int (nI (N))) (C := RX1) (T := TX1) (N := 8) hx hb hts in_X1 hown hK hP 0 rfl rfl 0 (by decide) (hts _ q167) (fun _ h9 => h9) rfl dX1_condition_51 ?_
          refine lv_iload_n hx hb dX1_condition_54 rfl (lv_at hl 2 rfl) ?_
          refine zn_iast (f := as_) (i := N) (x := av) hx hb hK hP hD hS 2 0 rfl rfl (by omega) (by decide) dX1_condition_55 (fun H locs hP hD hS => ?_)
          have hP : va_P (dC, dI) zCl (wM h dA (nI (N)) (upd ks N (nI (k))) (upd as_ N av) bs ln dg kn mk) H := hP
          have hD : va_D A (wM h dA (nI (N)) (upd ks N (nI (k))) (upd as_ N av) bs ln dg kn mk) := hD
          refine lv_aload_n hx hb dX1_condition_56 rfl (lv_at hl 0 rfl) ?_
          refine va_get (D := (dC, dI)) (ci := 1) (v := .ref (h 3)) (C := RX1) (T := TX1) (N := 8) hx hb hts in_X1 hown hK hP 0 rfl rfl 3 (by decide) (hts _ q170) (fun _ h9 => h9) rfl dX1_condition_57 ?_
          refine lv_aload_n hx hb dX1_condition_60 rfl (lv_at hl 0 rfl) ?_
          refine va_get (D := (dC, dI)) (ci := 1) (v := .int (nI (N))) (C := RX1) (T := TX1) (N := 8) hx hb hts in_X1 hown hK hP 0 rfl rfl 0 (by decide) (hts _ q167) (fun _ h9 => h9) rfl dX1_condition_61 ?_
          refine lv_iload_n hx hb dX1_condition_64 rfl (lv_at hl 3 rfl) ?_
          refine zn_iast (f := bs) (i := N) (x := bv) hx hb hK hP hD hS 3 0 rfl rfl (by omega) (by decide) dX1_condition_65 (fun H locs hP hD hS => ?_)
          have hP : va_P (dC, dI) zCl (wM h dA (nI (N)) (upd ks N (nI (k))) (upd as_ N av) (upd bs N bv) ln dg kn mk) H := hP
          have hD : va_D A (wM h dA (nI (N)) (upd ks N (nI (k))) (upd as_ N av) (upd bs N bv) ln dg kn mk) := hD
          refine lv_aload_n hx hb dX1_condition_66 rfl (lv_at hl 0 rfl) ?_
          refine lv_aload_n hx hb dX1_condition_67 rfl (lv_at hl 0 rfl) ?_
          refine va_get (D := (dC, dI)) (ci := 1) (v := .int (nI (N))) (C := RX1) (T := TX1) (N := 8) hx hb hts in_X1 hown hK hP 0 rfl rfl 0 (by decide) (hts _ q167) (fun _ h9 => h9) rfl dX1_condition_68 ?_
          refine lv_iconst (v := nI (1)) hx hb dX1_condition_71 (by decide +kernel) ?_
          refine zn_iadd hx hb dX1_condition_72 ?_
          refine va_put (D := (dC, dI)) (ci := 1) (v := .int (nI (N + 1))) (ty := .int) (C := RX1) (T := TX1) (N := 8) hx hb hts in_X1 tyX1 tyX1_ok nmX1 hown hK hP hD hS 0 rfl rfl 0 (by decide) (hts _ q167) (fun _ h9 => h9) rfl (by decide +kernel) rfl rfl (Nat.le_of_ble_eq_true rfl) dX1_condition_73 (fun H locs hP hD hS => ?_)
          have hP : va_P (dC, dI) zCl (wM h dA (nI (N + 1)) (upd ks N (nI (k))) (upd as_ N av) (upd bs N bv) ln dg kn mk) H := hP
          have hD : va_D A (wM h dA (nI (N + 1)) (upd ks N (nI (k))) (upd as_ N av) (upd bs N bv) ln dg kn mk) := hD
          refine lv_aload_n hx hb dX1_condition_76 rfl (lv_at hl 0 rfl) ?_
          refine lv_iconst (v := nI (0)) hx hb dX1_condition_77 (by decide +kernel) ?_
          refine va_put (D := (dC, dI)) (ci := 1) (v := .int (nI (0))) (ty := .boolean) (C := RX1) (T := TX1) (N := 8) hx hb hts in_X1 tyX1 tyX1_ok nmX1 hown hK hP hD hS 0 rfl rfl 6 (by decide) (hts _ q173) (fun _ h9 => h9) rfl (by decide +kernel) rfl rfl (Nat.le_of_ble_eq_true rfl) dX1_condition_78 (fun H locs hP hD hS => ?_)
          have hP : va_P (dC, dI) zCl (wM h dA (nI (N + 1)) (upd ks N (nI (k))) (upd as_ N av) (upd bs N bv) ln dg (nI (0)) mk) H := hP
          have hD : va_D A (wM h dA (nI (N + 1)) (upd ks N (nI (k))) (upd as_ N av) (upd bs N bv) ln dg (nI (0)) mk) := hD
          refine lv_aload_n hx hb dX1_condition_81 rfl (lv_at hl 0 rfl) ?_
          refine va_get (D := (dC, dI)) (ci := 1) (v := .int (nI (N + 1))) (C := RX1) (T := TX1) (N := 8) hx hb hts in_X1 hown hK hP 0 rfl rfl 0 (by decide) (hts _ q167) (fun _ h9 => h9) rfl dX1_condition_82 ?_
          exact W.iret (v := nI (N + 1)) hx hb hr (fun t9 ht9 hW9 => ⟨⟨nI (N + 1), (nI (N + 1), upd ks N (nI k), upd as_ N av, upd bs N bv, nI 0), rfl, ⟨by simp [zcr, c_1, c_7, hcl, c_19, show ¬ 3 ≤ N by omega], fun _ => rfl, fun h => absurd ⟨c_1, c_7, by rw [hcl]; exact c_19, by omega⟩ h⟩, by rw [ht9]; exact hP, va_K.moved hW9.alike hK, hD⟩, hS.F ht9⟩) hS.2.2 dX1_condition_85
        · refine lv_bipush (v := (-3)) hx hb dX1_condition_33 (by decide +kernel) ?_
          exact W.iret (v := (-3)) hx hb hr (fun t9 ht9 hW9 => ⟨⟨(-3), (nI N, ks, as_, bs, kn), rfl, ⟨by simp [zcr, c_1, c_7, hcl, c_19, show 3 ≤ N by omega], fun h => absurd h.2.2.2 (by omega), fun _ => rfl⟩, by rw [ht9]; exact hP, va_K.moved hW9.alike hK, hD⟩, hS.F ht9⟩) hS.2.2 dX1_condition_35
      · have c_19 : (zgn k av bv) = false := zb_f c_19
        refine lv_bipush (v := (-2)) hx hb dX1_condition_22 (by decide +kernel) ?_
        exact W.iret (v := (-2)) hx hb hr (fun t9 ht9 hW9 => ⟨⟨(-2), (nI N, ks, as_, bs, kn), rfl, ⟨by simp [zcr, c_1, c_7, hcl, c_19], (fun h => by have z := h.2.2.1; rw [hcl, c_19] at z; cases z), fun _ => rfl⟩, by rw [ht9]; exact hP, va_K.moved hW9.alike hK, hD⟩, hS.F ht9⟩) hS.2.2 dX1_condition_24
    · refine lv_iconst (v := (-1)) hx hb dX1_condition_10 (by decide +kernel) ?_
      exact W.iret (v := (-1)) hx hb hr (fun t9 ht9 hW9 => ⟨⟨(-1), (nI N, ks, as_, bs, kn), rfl, ⟨by simp [zcr, c_1, c_7], fun h => absurd h.2.1 c_7, fun _ => rfl⟩, by rw [ht9]; exact hP, va_K.moved hW9.alike hK, hD⟩, hS.F ht9⟩) hS.2.2 dX1_condition_11
set_option maxHeartbeats 8000000 in
set_option maxRecDepth 100000 in
theorem met_X1_drop (l : Launch) (dC : Nat → ClassId) (dI : Nat → Nat → Nat) (h : Nat → Nat) (dA : ClassId) (sz : Nat) (N : Nat) (C : zC) (ks as_ bs : Nat → Int32) (ln dg kn : Int32) (mk : Nat → Int32) (hN : N ≤ 3) (hC : zReps N C ks as_ bs) : zMetI (S := Int32 × Int32) l yX1_drop (ws_ yX1_drop cX1_drop 1 (some .int)) ({ frames := 0, cells := 0, slots := 0, locals := 0 }) (dC, dI) dA (wM h dA (nI (N)) ks as_ bs ln dg kn mk) sz [.ref (h 0)] (fun r u => r = (if N = 0 then -4 else nI (N - 1)) ∧ u = (if N = 0 then (nI N, kn) else (nI (N - 1), nI 0))) (fun u => wM h dA u.1 ks as_ bs ln dg u.2 mk) := by
  refine Met.ofW (cc := cX1_drop) (maxL := 1) (ret := (some .int)) (by decide) rfl ?_
  intro p e s m args below meth c s₁ B hml hv
  obtain ⟨rfl, hsz, hP, hK, hD0⟩ := hv
  have hx := B.exec
  have hb := B.bytes
  have hr := B.returns
  have hts := atoms_spec (ws := ws_ yX1_drop cX1_drop 1 (some .int)) B.pre
  have hts : ∀ w ∈ lw_all, w.before _ s = true := fun w h => hts w (List.mem_cons_of_mem _ h)
  have hown : s.vm.findClass RX1 = some m.cls := findClass_of_methodNamed B.named
  have hlocks := B.notSynchronized
  subst hsz
  have hD := hD0.self (sz := s.heap.size)
  generalize hAe : va_A (wM h dA (nI (N)) ks as_ bs ln dg kn mk) s.heap.size = A at hD ⊢
  have hA : ∀ q : Nat, s.heap.size ≤ q → A q := fun q h => by rw [← hAe]; exact Or.inr h
  have hS : va_S A s.heap s.heap [] := va_S.rf
  clear hD0 hAe
  have hl := lv_entry ([.ref (h 0)]) (n := 1) (Nat.le_of_ble_eq_true rfl)
  rw [lg_entry_eq]
  generalize (lg_sl ([.ref (h 0)]) ++ List.replicate (1 - (lg_sl ([.ref (h 0)])).length) Slot.unset).toArray = ls at hl ⊢
  have hl : lv_has ls 1 [(0, .ref (h 0))] := hl
  refine lv_aload_n hx hb dX1_drop_0 rfl (lv_at hl 0 rfl) ?_
  refine va_get (D := (dC, dI)) (ci := 1) (v := .int (nI (N))) (C := RX1) (T := TX1) (N := 8) hx hb hts in_X1 hown hK hP 0 rfl rfl 0 (by decide) (hts _ q167) (fun _ h9 => h9) rfl dX1_drop_1 ?_
  refine zn_if_ne (tgt := 10) hx hb dX1_drop_4 (by decide) (by omega) (fun c_4 => ?_) (fun c_4 => ?_)
  · refine lv_aload_n hx hb dX1_drop_10 rfl (lv_at hl 0 rfl) ?_
    refine lv_aload_n hx hb dX1_drop_11 rfl (lv_at hl 0 rfl) ?_
    refine va_get (D := (dC, dI)) (ci := 1) (v := .int (nI (N))) (C := RX1) (T := TX1) (N := 8) hx hb hts in_X1 hown hK hP 0 rfl rfl 0 (by decide) (hts _ q167) (fun _ h9 => h9) rfl dX1_drop_12 ?_
    refine lv_iconst (v := nI (1)) hx hb dX1_drop_15 (by decide +kernel) ?_
    refine zn_isub hx hb dX1_drop_16 (by omega) ?_
    refine va_put (D := (dC, dI)) (ci := 1) (v := .int (nI (N - 1))) (ty := .int) (C := RX1) (T := TX1) (N := 8) hx hb hts in_X1 tyX1 tyX1_ok nmX1 hown hK hP hD hS 0 rfl rfl 0 (by decide) (hts _ q167) (fun _ h9 => h9) rfl (by decide +kernel) rfl rfl (Nat.le_of_ble_eq_true rfl) dX1_drop_17 (fun H locs hP hD hS => ?_)
    have hP : va_P (dC, dI) zCl (wM h dA (nI (N - 1)) ks as_ bs ln dg kn mk) H := hP
    have hD : va_D A (wM h dA (nI (N - 1)) ks as_ bs ln dg kn mk) := hD
    refine lv_aload_n hx hb dX1_drop_20 rfl (lv_at hl 0 rfl) ?_
    refine lv_iconst (v := nI (0)) hx hb dX1_drop_21 (by decide +kernel) ?_
    refine va_put (D := (dC, dI)) (ci := 1) (v := .int (nI (0))) (ty := .boolean) (C := RX1) (T := TX1) (N := 8) hx hb hts in_X1 tyX1 tyX1_ok nmX1 hown hK hP hD hS 0 rfl rfl 6 (by decide) (hts _ q173) (fun _ h9 => h9) rfl (by decide +kernel) rfl rfl (Nat.le_of_ble_eq_true rfl) dX1_drop_22 (fun H locs hP hD hS => ?_)
    have hP : va_P (dC, dI) zCl (wM h dA (nI (N - 1)) ks as_ bs ln dg (nI (0)) mk) H := hP
    have hD : va_D A (wM h dA (nI (N - 1)) ks as_ bs ln dg (nI (0)) mk) := hD
    refine lv_aload_n hx hb dX1_drop_25 rfl (lv_at hl 0 rfl) ?_
    refine va_get (D := (dC, dI)) (ci := 1) (v := .int (nI (N - 1))) (C := RX1) (T := TX1) (N := 8) hx hb hts in_X1 hown hK hP 0 rfl rfl 0 (by decide) (hts _ q167) (fun _ h9 => h9) rfl dX1_drop_26 ?_
    exact W.iret (v := nI (N - 1)) hx hb hr (fun t9 ht9 hW9 => ⟨⟨nI (N - 1), (nI (N - 1), nI 0), rfl, ⟨by rw [if_neg c_4], by rw [if_neg c_4]⟩, by rw [ht9]; exact hP, va_K.moved hW9.alike hK, hD⟩, hS.F ht9⟩) hS.2.2 dX1_drop_29
  · refine lv_bipush (v := (-4)) hx hb dX1_drop_7 (by decide +kernel) ?_
    exact W.iret (v := (-4)) hx hb hr (fun t9 ht9 hW9 => ⟨⟨(-4), (nI N, kn), rfl, ⟨by rw [if_pos c_4], by rw [if_pos c_4]⟩, by rw [ht9]; exact hP, va_K.moved hW9.alike hK, hD⟩, hS.F ht9⟩) hS.2.2 dX1_drop_9
set_option maxHeartbeats 8000000 in
set_option maxRecDepth 100000 in
theorem met_X1_push (l : Launch) (dC : Nat → ClassId) (dI : Nat → Nat → Nat) (h : Nat → Nat) (dA : ClassId) (sz : Nat) (N : Nat) (C : zC) (ks as_ bs : Nat → Int32) (L D : Nat) (kn : Int32) (mk : Nat → Int32) (xi : Int32) (hN : N ≤ 3) (hC : zReps N C ks as_ bs) (hL : L ≤ 6) : zMetI (S := Int32 × Int32) l yX1_push (ws_ yX1_push cX1_push 2 (some .int)) ({ frames := 0, cells := 0, slots := 0, locals := 0 }) (dC, dI) dA (wM h dA (nI (N)) ks as_ bs (nI (L)) (nI (D)) kn mk) sz [.ref (h 0), .int (xi)] (fun r u => r = zpu L xi ∧ (zpk L xi → u = (nI (L + 1), nI (D * 4 + xi.toNatClampNeg))) ∧ (¬ zpk L xi → u = (nI L, nI D))) (fun u => wM h dA (nI N) ks as_ bs u.1 u.2 kn mk) := by
  refine Met.ofW (cc := cX1_push) (maxL := 2) (ret := (some .int)) (by decide) rfl ?_
  intro p e s m args below meth c s₁ B hml hv
  obtain ⟨rfl, hsz, hP, hK, hD0⟩ := hv
  have hx := B.exec
  have hb := B.bytes
  have hr := B.returns
  have hts := atoms_spec (ws := ws_ yX1_push cX1_push 2 (some .int)) B.pre
  have hts : ∀ w ∈ lw_all, w.before _ s = true := fun w h => hts w (List.mem_cons_of_mem _ h)
  have hown : s.vm.findClass RX1 = some m.cls := findClass_of_methodNamed B.named
  have hlocks := B.notSynchronized
  subst hsz
  have hD := hD0.self (sz := s.heap.size)
  generalize hAe : va_A (wM h dA (nI (N)) ks as_ bs (nI (L)) (nI (D)) kn mk) s.heap.size = A at hD ⊢
  have hA : ∀ q : Nat, s.heap.size ≤ q → A q := fun q h => by rw [← hAe]; exact Or.inr h
  have hS : va_S A s.heap s.heap [] := va_S.rf
  clear hD0 hAe
  have hl := lv_entry ([.ref (h 0), .int (xi)]) (n := 2) (Nat.le_of_ble_eq_true rfl)
  rw [lg_entry_eq]
  generalize (lg_sl ([.ref (h 0), .int (xi)]) ++ List.replicate (2 - (lg_sl ([.ref (h 0), .int (xi)])).length) Slot.unset).toArray = ls at hl ⊢
  have hl : lv_has ls 2 [(0, .ref (h 0)), (1, .int (xi))] := hl
  refine lv_iload_n hx hb dX1_push_0 rfl (lv_at hl 1 rfl) ?_
  refine lv_if_lt (x := xi) (tgt := 9) hx hb dX1_push_1 (by decide) (fun c_1 => ?_) (fun c_1 => ?_)
  · refine lv_bipush (v := (-2)) hx hb dX1_push_9 (by decide +kernel) ?_
    exact W.iret (v := (-2)) hx hb hr (fun t9 ht9 hW9 => ⟨⟨(-2), (nI L, nI D), rfl, ⟨by simp [zpu, c_1], fun h => absurd c_1 h.1, fun _ => rfl⟩, by rw [ht9]; exact hP, va_K.moved hW9.alike hK, hD⟩, hS.F ht9⟩) hS.2.2 dX1_push_11
  · refine lv_iload_n hx hb dX1_push_4 rfl (lv_at hl 1 rfl) ?_
    refine lv_iconst (v := nI (3)) hx hb dX1_push_5 (by decide +kernel) ?_
    refine lv_icmp_le (x := xi) (y := nI (3)) (tgt := 12) hx hb dX1_push_6 (by decide) (fun c_6 => ?_) (fun c_6 => ?_)
    · obtain ⟨j, hj3, rfl⟩ := nI_of2 (M := nI 3) (n := 3) (by decide +kernel) c_1 c_6
      refine lv_aload_n hx hb dX1_push_12 rfl (lv_at hl 0 rfl) ?_
      refine va_get (D := (dC, dI)) (ci := 1) (v := .int (nI (L))) (C := RX1) (T := TX1) (N := 8) hx hb hts in_X1 hown hK hP 0 rfl rfl 4 (by decide) (hts _ q171) (fun _ h9 => h9) rfl dX1_push_13 ?_
      refine lv_bipush (v := nI (6)) hx hb dX1_push_16 (by decide +kernel) ?_
      refine zn_icmp_ne (tgt := 24) hx hb dX1_push_18 (by decide) (by omega) (by omega) (fun c_18 => ?_) (fun c_18 => ?_)
      · refine lv_aload_n hx hb dX1_push_24 rfl (lv_at hl 0 rfl) ?_
        refine lv_aload_n hx hb dX1_push_25 rfl (lv_at hl 0 rfl) ?_
        refine va_get (D := (dC, dI)) (ci := 1) (v := .int (nI (D))) (C := RX1) (T := TX1) (N := 8) hx hb hts in_X1 hown hK hP 0 rfl rfl 5 (by decide) (hts _ q172) (fun _ h9 => h9) rfl dX1_push_26 ?_
        refine lv_iconst (v := nI (4)) hx hb dX1_push_29 (by decide +kernel) ?_
        refine zn_imul hx hb dX1_push_30 ?_
        refine lv_iload_n hx hb dX1_push_31 rfl (lv_at hl 1 rfl) ?_
        refine zn_iadd hx hb dX1_push_32 ?_
        refine va_put (D := (dC, dI)) (ci := 1) (v := .int (nI ((D * 4) + j))) (ty := .int) (C := RX1) (T := TX1) (N := 8) hx hb hts in_X1 tyX1 tyX1_ok nmX1 hown hK hP hD hS 0 rfl rfl 5 (by decide) (hts _ q172) (fun _ h9 => h9) rfl (by decide +kernel) rfl rfl (Nat.le_of_ble_eq_true rfl) dX1_push_33 (fun H locs hP hD hS => ?_)
        have hP : va_P (dC, dI) zCl (wM h dA (nI (N)) ks as_ bs (nI (L)) (nI ((D * 4) + j)) kn mk) H := hP
        have hD : va_D A (wM h dA (nI (N)) ks as_ bs (nI (L)) (nI ((D * 4) + j)) kn mk) := hD
        refine lv_aload_n hx hb dX1_push_36 rfl (lv_at hl 0 rfl) ?_
        refine lv_aload_n hx hb dX1_push_37 rfl (lv_at hl 0 rfl) ?_
        refine va_get (D := (dC, dI)) (ci := 1) (v := .int (nI (L))) (C := RX1) (T := TX1) (N := 8) hx hb hts in_X1 hown hK hP 0 rfl rfl 4 (by decide) (hts _ q171) (fun _ h9 => h9) rfl dX1_push_38 ?_
        refine lv_iconst (v := nI (1)) hx hb dX1_push_41 (by decide +kernel) ?_
        refine zn_iadd hx hb dX1_push_42 ?_
        refine va_put (D := (dC, dI)) (ci := 1) (v := .int (nI (L + 1))) (ty := .int) (C := RX1) (T := TX1) (N := 8) hx hb hts in_X1 tyX1 tyX1_ok nmX1 hown hK hP hD hS 0 rfl rfl 4 (by decide) (hts _ q171) (fun _ h9 => h9) rfl (by decide +kernel) rfl rfl (Nat.le_of_ble_eq_true rfl) dX1_push_43 (fun H locs hP hD hS => ?_)
        have hP : va_P (dC, dI) zCl (wM h dA (nI (N)) ks as_ bs (nI (L + 1)) (nI ((D * 4) + j)) kn mk) H := hP
        have hD : va_D A (wM h dA (nI (N)) ks as_ bs (nI (L + 1)) (nI ((D * 4) + j)) kn mk) := hD
        refine lv_aload_n hx hb dX1_push_46 rfl (lv_at hl 0 rfl) ?_
        refine va_get (D := (dC, dI)) (ci := 1) (v := .int (nI (L + 1))) (C := RX1) (T := TX1) (N := 8) hx hb hts in_X1 hown hK hP 0 rfl rfl 4 (by decide) (hts _ q171) (fun _ h9 => h9) rfl dX1_push_47 ?_
        exact W.iret (v := nI (L + 1)) hx hb hr (fun t9 ht9 hW9 => ⟨⟨nI (L + 1), (nI (L + 1), nI (D * 4 + j)), rfl, ⟨by simp [zpu, c_1, c_6, show ¬ 6 ≤ L by omega], fun _ => by rw [nI_clamp (show j < 2 ^ 31 by omega)], fun h => absurd ⟨c_1, c_6, by omega⟩ h⟩, by rw [ht9]; exact hP, va_K.moved hW9.alike hK, hD⟩, hS.F ht9⟩) hS.2.2 dX1_push_50
      · refine lv_bipush (v := (-3)) hx hb dX1_push_21 (by decide +kernel) ?_
        exact W.iret (v := (-3)) hx hb hr (fun t9 ht9 hW9 => ⟨⟨(-3), (nI L, nI D), rfl, ⟨by simp [zpu, c_1, c_6, show 6 ≤ L by omega], fun h => absurd h.2.2 (by omega), fun _ => rfl⟩, by rw [ht9]; exact hP, va_K.moved hW9.alike hK, hD⟩, hS.F ht9⟩) hS.2.2 dX1_push_23
    · refine lv_bipush (v := (-2)) hx hb dX1_push_9 (by decide +kernel) ?_
      exact W.iret (v := (-2)) hx hb hr (fun t9 ht9 hW9 => ⟨⟨(-2), (nI L, nI D), rfl, ⟨by simp [zpu, c_1, c_6], fun h => absurd h.2.1 c_6, fun _ => rfl⟩, by rw [ht9]; exact hP, va_K.moved hW9.alike hK, hD⟩, hS.F ht9⟩) hS.2.2 dX1_push_11
set_option maxHeartbeats 8000000 in
set_option maxRecDepth 100000 in
theorem met_X1_empty (l : Launch) (dC : Nat → ClassId) (dI : Nat → Nat → Nat) (h : Nat → Nat) (dA : ClassId) (sz : Nat) (N : Nat) (C : zC) (ks as_ bs : Nat → Int32) (ln dg kn : Int32) (mk : Nat → Int32) (hN : N ≤ 3) (hC : zReps N C ks as_ bs) : zMetV (S := Unit) l yX1_empty (ws_ yX1_empty cX1_empty 1 none) ({ frames := 0, cells := 0, slots := 0, locals := 0 }) (dC, dI) dA (wM h dA (nI (N)) ks as_ bs ln dg kn mk) sz [.ref (h 0)] (fun _ => True) (fun _ => wM h dA (nI N) ks as_ bs (nI 0) (nI 0) kn mk) := by
  refine Met.ofW (cc := cX1_empty) (maxL := 1) (ret := none) (by decide) rfl ?_
  intro p e s m args below meth c s₁ B hml hv
  obtain ⟨rfl, hsz, hP, hK, hD0⟩ := hv
  have hx := B.exec
  have hb := B.bytes
  have hr := B.returns
  have hts := atoms_spec (ws := ws_ yX1_empty cX1_empty 1 none) B.pre
  have hts : ∀ w ∈ lw_all, w.before _ s = true := fun w h => hts w (List.mem_cons_of_mem _ h)
  have hown : s.vm.findClass RX1 = some m.cls := findClass_of_methodNamed B.named
  have hlocks := B.notSynchronized
  subst hsz
  have hD := hD0.self (sz := s.heap.size)
  generalize hAe : va_A (wM h dA (nI (N)) ks as_ bs ln dg kn mk) s.heap.size = A at hD ⊢
  have hA : ∀ q : Nat, s.heap.size ≤ q → A q := fun q h => by rw [← hAe]; exact Or.inr h
  have hS : va_S A s.heap s.heap [] := va_S.rf
  clear hD0 hAe
  have hl := lv_entry ([.ref (h 0)]) (n := 1) (Nat.le_of_ble_eq_true rfl)
  rw [lg_entry_eq]
  generalize (lg_sl ([.ref (h 0)]) ++ List.replicate (1 - (lg_sl ([.ref (h 0)])).length) Slot.unset).toArray = ls at hl ⊢
  have hl : lv_has ls 1 [(0, .ref (h 0))] := hl
  refine lv_aload_n hx hb dX1_empty_0 rfl (lv_at hl 0 rfl) ?_
  refine lv_iconst (v := nI (0)) hx hb dX1_empty_1 (by decide +kernel) ?_
  refine va_put (D := (dC, dI)) (ci := 1) (v := .int (nI (0))) (ty := .int) (C := RX1) (T := TX1) (N := 8) hx hb hts in_X1 tyX1 tyX1_ok nmX1 hown hK hP hD hS 0 rfl rfl 4 (by decide) (hts _ q171) (fun _ h9 => h9) rfl (by decide +kernel) rfl rfl (Nat.le_of_ble_eq_true rfl) dX1_empty_2 (fun H locs hP hD hS => ?_)
  have hP : va_P (dC, dI) zCl (wM h dA (nI (N)) ks as_ bs (nI (0)) dg kn mk) H := hP
  have hD : va_D A (wM h dA (nI (N)) ks as_ bs (nI (0)) dg kn mk) := hD
  refine lv_aload_n hx hb dX1_empty_5 rfl (lv_at hl 0 rfl) ?_
  refine lv_iconst (v := nI (0)) hx hb dX1_empty_6 (by decide +kernel) ?_
  refine va_put (D := (dC, dI)) (ci := 1) (v := .int (nI (0))) (ty := .int) (C := RX1) (T := TX1) (N := 8) hx hb hts in_X1 tyX1 tyX1_ok nmX1 hown hK hP hD hS 0 rfl rfl 5 (by decide) (hts _ q172) (fun _ h9 => h9) rfl (by decide +kernel) rfl rfl (Nat.le_of_ble_eq_true rfl) dX1_empty_7 (fun H locs hP hD hS => ?_)
  have hP : va_P (dC, dI) zCl (wM h dA (nI (N)) ks as_ bs (nI (0)) (nI (0)) kn mk) H := hP
  have hD : va_D A (wM h dA (nI (N)) ks as_ bs (nI (0)) (nI (0)) kn mk) := hD
  exact W.vret hx hb hr (fun t9 ht9 hW9 => ⟨⟨(), rfl, trivial, by rw [ht9]; exact hP, va_K.moved hW9.alike hK, hD⟩, hS.F ht9⟩) hS.2.2 dX1_empty_10
set_option maxHeartbeats 8000000 in
set_option maxRecDepth 100000 in
theorem met_X1_load (l : Launch) (dC : Nat → ClassId) (dI : Nat → Nat → Nat) (h : Nat → Nat) (dA : ClassId) (sz : Nat) (N : Nat) (C : zC) (ks as_ bs : Nat → Int32) (ln dg kn : Int32) (mk : Nat → Int32) (xi : Int32) (hN : N ≤ 3) (hC : zReps N C ks as_ bs) (h_r : zKn N C kn mk) : zMetI (S := Int32 × Int32 × (Nat → Int32)) l yX1_load (ws_ yX1_load cX1_load 3 (some .int)) ({ frames := 6, cells := 0, slots := 0, locals := 143 }) (dC, dI) dA (wM h dA (nI (N)) ks as_ bs ln dg kn mk) sz [.ref (h 0), .int (xi)] (fun r u => zMks N C u.2.2 ∧ ((∃ k, zMk N C xi k ∧ r = nI (zln k) ∧ u.1 = nI (zln k) ∧ u.2.1 = nI (k - zst (zln k))) ∨ (r = -4 ∧ u.1 = ln ∧ u.2.1 = dg ∧ zMn N C xi))) (fun u => wM h dA (nI N) ks as_ bs u.1 u.2.1 (nI 1) u.2.2) := by
  refine Met.ofW (cc := cX1_load) (maxL := 3) (ret := (some .int)) (by decide) rfl ?_
  intro p e s m args below meth c s₁ B hml hv
  obtain ⟨rfl, hsz, hP, hK, hD0⟩ := hv
  have hx := B.exec
  have hb := B.bytes
  have hr := B.returns
  have hts := atoms_spec (ws := ws_ yX1_load cX1_load 3 (some .int)) B.pre
  have hts : ∀ w ∈ lw_all, w.before _ s = true := fun w h => hts w (List.mem_cons_of_mem _ h)
  have hown : s.vm.findClass RX1 = some m.cls := findClass_of_methodNamed B.named
  have hlocks := B.notSynchronized
  subst hsz
  have hD := hD0.self (sz := s.heap.size)
  generalize hAe : va_A (wM h dA (nI (N)) ks as_ bs ln dg kn mk) s.heap.size = A at hD ⊢
  have hA : ∀ q : Nat, s.heap.size ≤ q → A q := fun q h => by rw [← hAe]; exact Or.inr h
  have hS : va_S A s.heap s.heap [] := va_S.rf
  clear hD0 hAe
  have hl := lv_entry ([.ref (h 0), .int (xi)]) (n := 3) (Nat.le_of_ble_eq_true rfl)
  rw [lg_entry_eq]
  generalize (lg_sl ([.ref (h 0), .int (xi)]) ++ List.replicate (3 - (lg_sl ([.ref (h 0), .int (xi)])).length) Slot.unset).toArray = ls at hl ⊢
  have hl : lv_has ls 3 [(0, .ref (h 0)), (1, .int (xi))] := hl
  refine lv_aload_n hx hb dX1_load_0 rfl (lv_at hl 0 rfl) ?_
  refine lv_iload_n hx hb dX1_load_1 rfl (lv_at hl 1 rfl) ?_
  refine zcallMi (As := [.int (xi)]) (rest := []) (wr := []) (ci := 1) (q0 := 0) [0, 1, 2, 3, 4] [] ⟨hx, hb, hml, hown, hts⟩ (met_X1_find l dC dI h dA s.heap.size N C ks as_ bs ln dg kn mk xi hN hC h_r) (cwV 1 hts (lw_V q220 q222 qs11 q26 q223) rfl rfl rfl (by decide +kernel) ⟨Nat.le_of_ble_eq_true rfl, Nat.le_of_ble_eq_true rfl⟩) hK hP hD hS hA rfl rfl (by decide) (by decide) (by decide) rfl rfl rfl hl.1 rfl (Nat.le_of_ble_eq_true rfl) dX1_load_2 ⟨Nat.zero_le _, Nat.zero_le _⟩ (fun r_2 u_2 H locs h_2 hP hD hS => ?_)
  obtain ⟨hT, h_2⟩ := h_2
  rcases h_2 with ⟨k, hk, rfl⟩ | ⟨rfl, hno⟩
  · have hk5 := hk.1
    have hk6 := zln_le k
    have hks := zln_st k
    have hP : va_P (dC, dI) zCl (wM h dA (nI (N)) ks as_ bs ln dg (nI (1)) u_2) H := hP
    have hD : va_D A (wM h dA (nI (N)) ks as_ bs ln dg (nI (1)) u_2) := hD
    refine lv_istore_n (lv' := [(2, .int (nI (k))), (0, .ref (h 0)), (1, .int (xi))]) hx hb dX1_load_5 rfl hl (by decide) rfl (fun ls hl => ?_)
    refine lv_iload_n hx hb dX1_load_6 rfl (lv_at hl 0 rfl) ?_
    refine zn_if_ge (tgt := 13) hx hb dX1_load_7 (by decide) (by omega) ?_
    refine lv_aload_n hx hb dX1_load_13 rfl (lv_at hl 1 rfl) ?_
    refine lv_aload_n hx hb dX1_load_14 rfl (lv_at hl 1 rfl) ?_
    refine lv_iload_n hx hb dX1_load_15 rfl (lv_at hl 0 rfl) ?_
    refine zcallR (As := [.int (nI (k))]) (rest := [.ref (h 0)]) (ci := 1) (q0 := 0) ⟨hx, hb, hml, hown, hts⟩ (met_X1_lengthOf l dC dI h dA N C ks as_ bs ln dg (nI (1)) u_2 k hN hC (by omega)) (cwV 1 hts (lw_V q264 q266 qs22 q26 q267) rfl rfl rfl (by decide +kernel) ⟨Nat.le_of_ble_eq_true rfl, Nat.le_of_ble_eq_true rfl⟩) hK hP rfl rfl rfl hl.1 rfl (Nat.le_of_ble_eq_true rfl) dX1_load_16 ⟨Nat.zero_le _, Nat.zero_le _⟩ (fun r_16 h_16 => ?_)
    subst h_16
    refine va_put (D := (dC, dI)) (ci := 1) (v := .int (nI (zln k))) (ty := .int) (C := RX1) (T := TX1) (N := 8) hx hb hts in_X1 tyX1 tyX1_ok nmX1 hown hK hP hD hS 0 rfl rfl 4 (by decide) (hts _ q171) (fun _ h9 => h9) rfl (by decide +kernel) rfl rfl (Nat.le_of_ble_eq_true rfl) dX1_load_19 (fun H locs hP hD hS => ?_)
    have hP : va_P (dC, dI) zCl (wM h dA (nI (N)) ks as_ bs (nI (zln k)) dg (nI (1)) u_2) H := hP
    have hD : va_D A (wM h dA (nI (N)) ks as_ bs (nI (zln k)) dg (nI (1)) u_2) := hD
    refine lv_aload_n hx hb dX1_load_22 rfl (lv_at hl 1 rfl) ?_
    refine lv_iload_n hx hb dX1_load_23 rfl (lv_at hl 0 rfl) ?_
    refine lv_aload_n hx hb dX1_load_24 rfl (lv_at hl 1 rfl) ?_
    refine lv_aload_n hx hb dX1_load_25 rfl (lv_at hl 1 rfl) ?_
    refine va_get (D := (dC, dI)) (ci := 1) (v := .int (nI (zln k))) (C := RX1) (T := TX1) (N := 8) hx hb hts in_X1 hown hK hP 0 rfl rfl 4 (by decide) (hts _ q171) (fun _ h9 => h9) rfl dX1_load_26 ?_
    refine zcallR (As := [.int (nI (zln k))]) (rest := [.int (nI (k)), .ref (h 0)]) (ci := 1) (q0 := 0) ⟨hx, hb, hml, hown, hts⟩ (met_X1_start l dC dI h dA N C ks as_ bs (nI (zln k)) dg (nI (1)) u_2 (zln k) hN hC (by omega)) (cwV 1 hts (lw_V q228 q230 qs13 q26 q231) rfl rfl rfl (by decide +kernel) ⟨Nat.le_of_ble_eq_true rfl, Nat.le_of_ble_eq_true rfl⟩) hK hP rfl rfl rfl hl.1 rfl (Nat.le_of_ble_eq_true rfl) dX1_load_29 ⟨Nat.zero_le _, Nat.zero_le _⟩ (fun r_29 h_29 => ?_)
    subst h_29
    refine zn_isub hx hb dX1_load_32 (by omega) ?_
    refine va_put (D := (dC, dI)) (ci := 1) (v := .int (nI (k - (zst (zln k))))) (ty := .int) (C := RX1) (T := TX1) (N := 8) hx hb hts in_X1 tyX1 tyX1_ok nmX1 hown hK hP hD hS 0 rfl rfl 5 (by decide) (hts _ q172) (fun _ h9 => h9) rfl (by decide +kernel) rfl rfl (Nat.le_of_ble_eq_true rfl) dX1_load_33 (fun H locs hP hD hS => ?_)
    have hP : va_P (dC, dI) zCl (wM h dA (nI (N)) ks as_ bs (nI (zln k)) (nI (k - (zst (zln k)))) (nI (1)) u_2) H := hP
    have hD : va_D A (wM h dA (nI (N)) ks as_ bs (nI (zln k)) (nI (k - (zst (zln k)))) (nI (1)) u_2) := hD
    refine lv_aload_n hx hb dX1_load_36 rfl (lv_at hl 1 rfl) ?_
    refine va_get (D := (dC, dI)) (ci := 1) (v := .int (nI (zln k))) (C := RX1) (T := TX1) (N := 8) hx hb hts in_X1 hown hK hP 0 rfl rfl 4 (by decide) (hts _ q171) (fun _ h9 => h9) rfl dX1_load_37 ?_
    exact W.iret (v := nI (zln k)) hx hb hr (fun t9 ht9 hW9 => ⟨⟨nI (zln k), (nI (zln k), nI (k - zst (zln k)), u_2), rfl, ⟨hT, Or.inl ⟨k, hk, rfl, rfl, rfl⟩⟩, by rw [ht9]; exact hP, va_K.moved hW9.alike hK, hD⟩, hS.F ht9⟩) hS.2.2 dX1_load_40
  · have hP : va_P (dC, dI) zCl (wM h dA (nI (N)) ks as_ bs ln dg (nI (1)) u_2) H := hP
    have hD : va_D A (wM h dA (nI (N)) ks as_ bs ln dg (nI (1)) u_2) := hD
    refine lv_istore_n (lv' := [(2, .int ((-1))), (0, .ref (h 0)), (1, .int (xi))]) hx hb dX1_load_5 rfl hl (by decide) rfl (fun ls hl => ?_)
    refine lv_iload_n hx hb dX1_load_6 rfl (lv_at hl 0 rfl) ?_
    refine lv_if_ge (x := (-1)) (tgt := 13) hx hb dX1_load_7 (by decide) (fun c9 => absurd c9 (by decide)) (fun _ => ?_)
    refine lv_bipush (v := (-4)) hx hb dX1_load_10 (by decide +kernel) ?_
    exact W.iret (v := (-4)) hx hb hr (fun t9 ht9 hW9 => ⟨⟨(-4), (ln, dg, u_2), rfl, ⟨hT, Or.inr ⟨rfl, rfl, rfl, hno⟩⟩, by rw [ht9]; exact hP, va_K.moved hW9.alike hK, hD⟩, hS.F ht9⟩) hS.2.2 dX1_load_12
set_option maxHeartbeats 8000000 in
set_option maxRecDepth 100000 in
theorem met_X1_failing (l : Launch) (dC : Nat → ClassId) (dI : Nat → Nat → Nat) (h : Nat → Nat) (dA : ClassId) (sz : Nat) (N : Nat) (C : zC) (ks as_ bs : Nat → Int32) (ln dg kn : Int32) (mk : Nat → Int32) (hN : N ≤ 3) (hC : zReps N C ks as_ bs) (h_r : zKn N C kn mk) : zMetI (S := (Nat → Int32)) l yX1_failing (ws_ yX1_failing cX1_failing 1 (some .int)) ({ frames := 6, cells := 0, slots := 0, locals := 144 }) (dC, dI) dA (wM h dA (nI (N)) ks as_ bs ln dg kn mk) sz [.ref (h 0)] (fun r w => r = nI (zbt (zmk N C) 0 5461) ∧ zMks N C w) (fun w => wM h dA (nI N) ks as_ bs ln dg (nI 1) w) := by
  refine Met.ofW (cc := cX1_failing) (maxL := 1) (ret := (some .int)) (by decide) rfl ?_
  intro p e s m args below meth c s₁ B hml hv
  obtain ⟨rfl, hsz, hP, hK, hD0⟩ := hv
  have hx := B.exec
  have hb := B.bytes
  have hr := B.returns
  have hts := atoms_spec (ws := ws_ yX1_failing cX1_failing 1 (some .int)) B.pre
  have hts : ∀ w ∈ lw_all, w.before _ s = true := fun w h => hts w (List.mem_cons_of_mem _ h)
  have hown : s.vm.findClass RX1 = some m.cls := findClass_of_methodNamed B.named
  have hlocks := B.notSynchronized
  subst hsz
  have hD := hD0.self (sz := s.heap.size)
  generalize hAe : va_A (wM h dA (nI (N)) ks as_ bs ln dg kn mk) s.heap.size = A at hD ⊢
  have hA : ∀ q : Nat, s.heap.size ≤ q → A q := fun q h => by rw [← hAe]; exact Or.inr h
  have hS : va_S A s.heap s.heap [] := va_S.rf
  clear hD0 hAe
  have hl := lv_entry ([.ref (h 0)]) (n := 1) (Nat.le_of_ble_eq_true rfl)
  rw [lg_entry_eq]
  generalize (lg_sl ([.ref (h 0)]) ++ List.replicate (1 - (lg_sl ([.ref (h 0)])).length) Slot.unset).toArray = ls at hl ⊢
  have hl : lv_has ls 1 [(0, .ref (h 0))] := hl
  refine lv_aload_n hx hb dX1_failing_0 rfl (lv_at hl 0 rfl) ?_
  refine lv_iconst (v := nI (0)) hx hb dX1_failing_1 (by decide +kernel) ?_
  refine lv_sipush (v := nI (5461)) hx hb dX1_failing_2 (by decide +kernel) ?_
  refine zcallMi (As := [.int (nI (0)), .int (nI (5461))]) (rest := []) (wr := []) (ci := 1) (q0 := 0) [0, 1, 2, 3, 4] [] ⟨hx, hb, hml, hown, hts⟩ (met_X1_between l dC dI h dA s.heap.size N C ks as_ bs ln dg kn mk 0 5461 hN hC h_r (by omega) (by omega)) (cwV 2 hts (lw_V q272 q274 qs23 q26 q275) rfl rfl rfl (by decide +kernel) ⟨Nat.le_of_ble_eq_true rfl, Nat.le_of_ble_eq_true rfl⟩) hK hP hD hS hA rfl rfl (by decide) (by decide) (by decide) rfl rfl rfl hl.1 rfl (Nat.le_of_ble_eq_true rfl) dX1_failing_5 ⟨Nat.zero_le _, Nat.zero_le _⟩ (fun r_5 u_5 H locs h_5 hP hD hS => ?_)
  obtain ⟨h_5, hT⟩ := h_5
  subst h_5
  have hP : va_P (dC, dI) zCl (wM h dA (nI (N)) ks as_ bs ln dg (nI (1)) u_5) H := hP
  have hD : va_D A (wM h dA (nI (N)) ks as_ bs ln dg (nI (1)) u_5) := hD
  exact W.iret (v := nI (zbt (zmk N C) 0 (5461 - 0))) hx hb hr (fun t9 ht9 hW9 => ⟨⟨nI (zbt (zmk N C) 0 (5461 - 0)), u_5, rfl, ⟨rfl, hT⟩, by rw [ht9]; exact hP, va_K.moved hW9.alike hK, hD⟩, hS.F ht9⟩) hS.2.2 dX1_failing_8
set_option maxHeartbeats 8000000 in
set_option maxRecDepth 100000 in
theorem met_X1_failingOf (l : Launch) (dC : Nat → ClassId) (dI : Nat → Nat → Nat) (h : Nat → Nat) (dA : ClassId) (sz : Nat) (N : Nat) (C : zC) (ks as_ bs : Nat → Int32) (ln dg kn : Int32) (mk : Nat → Int32) (xi : Int32) (hN : N ≤ 3) (hC : zReps N C ks as_ bs) (h_r : zKn N C kn mk) : zMetI (S := Int32 × (Nat → Int32)) l yX1_failingOf (ws_ yX1_failingOf cX1_failingOf 4 (some .int)) ({ frames := 6, cells := 0, slots := 0, locals := 144 }) (dC, dI) dA (wM h dA (nI (N)) ks as_ bs ln dg kn mk) sz [.ref (h 0), .int (xi)] (fun r u => r = zfm N C xi ∧ zKn N C u.1 u.2) (fun u => wM h dA (nI N) ks as_ bs ln dg u.1 u.2) := by
  refine Met.ofW (cc := cX1_failingOf) (maxL := 4) (ret := (some .int)) (by decide) rfl ?_
  intro p e s m args below meth c s₁ B hml hv
  obtain ⟨rfl, hsz, hP, hK, hD0⟩ := hv
  have hx := B.exec
  have hb := B.bytes
  have hr := B.returns
  have hts := atoms_spec (ws := ws_ yX1_failingOf cX1_failingOf 4 (some .int)) B.pre
  have hts : ∀ w ∈ lw_all, w.before _ s = true := fun w h => hts w (List.mem_cons_of_mem _ h)
  have hown : s.vm.findClass RX1 = some m.cls := findClass_of_methodNamed B.named
  have hlocks := B.notSynchronized
  subst hsz
  have hD := hD0.self (sz := s.heap.size)
  generalize hAe : va_A (wM h dA (nI (N)) ks as_ bs ln dg kn mk) s.heap.size = A at hD ⊢
  have hA : ∀ q : Nat, s.heap.size ≤ q → A q := fun q h => by rw [← hAe]; exact Or.inr h
  have hS : va_S A s.heap s.heap [] := va_S.rf
  clear hD0 hAe
  have hl := lv_entry ([.ref (h 0), .int (xi)]) (n := 4) (Nat.le_of_ble_eq_true rfl)
  rw [lg_entry_eq]
  generalize (lg_sl ([.ref (h 0), .int (xi)]) ++ List.replicate (4 - (lg_sl ([.ref (h 0), .int (xi)])).length) Slot.unset).toArray = ls at hl ⊢
  have hl : lv_has ls 4 [(0, .ref (h 0)), (1, .int (xi))] := hl
  refine lv_iload_n hx hb dX1_failingOf_0 rfl (lv_at hl 1 rfl) ?_
  refine lv_if_lt (x := xi) (tgt := 10) hx hb dX1_failingOf_1 (by decide) (fun c_1 => ?_) (fun c_1 => ?_)
  · refine lv_iconst (v := nI (0)) hx hb dX1_failingOf_10 (by decide +kernel) ?_
    exact W.iret (v := nI (0)) hx hb hr (fun t9 ht9 hW9 => ⟨⟨nI (0), (kn, mk), rfl, ⟨by simp [zfm, c_1], h_r⟩, by rw [ht9]; exact hP, va_K.moved hW9.alike hK, hD⟩, hS.F ht9⟩) hS.2.2 dX1_failingOf_11
  · refine lv_iload_n hx hb dX1_failingOf_4 rfl (lv_at hl 1 rfl) ?_
    refine lv_bipush (v := nI (6)) hx hb dX1_failingOf_5 (by decide +kernel) ?_
    refine lv_icmp_le (x := xi) (y := nI (6)) (tgt := 12) hx hb dX1_failingOf_7 (by decide) (fun c_7 => ?_) (fun c_7 => ?_)
    · obtain ⟨k, hk6, rfl⟩ := nI_of2 (M := nI 6) (n := 6) (by decide +kernel) c_1 c_7
      refine lv_aload_n hx hb dX1_failingOf_12 rfl (lv_at hl 0 rfl) ?_
      refine lv_iload_n hx hb dX1_failingOf_13 rfl (lv_at hl 1 rfl) ?_
      refine zcallR (As := [.int (nI (k))]) (rest := []) (ci := 1) (q0 := 0) ⟨hx, hb, hml, hown, hts⟩ (met_X1_start l dC dI h dA N C ks as_ bs ln dg kn mk k hN hC (by omega)) (cwV 1 hts (lw_V q228 q230 qs13 q26 q231) rfl rfl rfl (by decide +kernel) ⟨Nat.le_of_ble_eq_true rfl, Nat.le_of_ble_eq_true rfl⟩) hK hP rfl rfl rfl hl.1 rfl (Nat.le_of_ble_eq_true rfl) dX1_failingOf_14 ⟨Nat.zero_le _, Nat.zero_le _⟩ (fun r_14 h_14 => ?_)
      subst h_14
      refine lv_istore_n (lv' := [(2, .int (nI (zst k))), (0, .ref (h 0)), (1, .int (nI (k)))]) hx hb dX1_failingOf_17 rfl hl (by decide) rfl (fun ls hl => ?_)
      refine lv_aload_n hx hb dX1_failingOf_18 rfl (lv_at hl 1 rfl) ?_
      refine lv_iload_n hx hb dX1_failingOf_19 rfl (lv_at hl 2 rfl) ?_
      refine lv_iconst (v := nI (1)) hx hb dX1_failingOf_20 (by decide +kernel) ?_
      refine zn_iadd hx hb dX1_failingOf_21 ?_
      refine zcallR (As := [.int (nI (k + 1))]) (rest := []) (ci := 1) (q0 := 0) ⟨hx, hb, hml, hown, hts⟩ (met_X1_start l dC dI h dA N C ks as_ bs ln dg kn mk (k + 1) hN hC (by omega)) (cwV 1 hts (lw_V q228 q230 qs13 q26 q231) rfl rfl rfl (by decide +kernel) ⟨Nat.le_of_ble_eq_true rfl, Nat.le_of_ble_eq_true rfl⟩) hK hP rfl rfl rfl hl.1 rfl (Nat.le_of_ble_eq_true rfl) dX1_failingOf_22 ⟨Nat.zero_le _, Nat.zero_le _⟩ (fun r_22 h_22 => ?_)
      subst h_22
      refine lv_istore_n (lv' := [(3, .int (nI (zst (k + 1)))), (2, .int (nI (zst k))), (0, .ref (h 0)), (1, .int (nI (k)))]) hx hb dX1_failingOf_25 rfl hl (by decide) rfl (fun ls hl => ?_)
      refine lv_aload_n hx hb dX1_failingOf_26 rfl (lv_at hl 2 rfl) ?_
      refine lv_iload_n hx hb dX1_failingOf_27 rfl (lv_at hl 1 rfl) ?_
      refine lv_iload_n hx hb dX1_failingOf_28 rfl (lv_at hl 0 rfl) ?_
      refine zcallMi (As := [.int (nI (zst k)), .int (nI (zst (k + 1)))]) (rest := []) (wr := []) (ci := 1) (q0 := 0) [0, 1, 2, 3, 4] [] ⟨hx, hb, hml, hown, hts⟩ (met_X1_between l dC dI h dA s.heap.size N C ks as_ bs ln dg kn mk (zst k) (zst (k + 1)) hN hC h_r (zst_mono (Nat.le_succ _)) (zst_7le (by omega))) (cwV 2 hts (lw_V q272 q274 qs23 q26 q275) rfl rfl rfl (by decide +kernel) ⟨Nat.le_of_ble_eq_true rfl, Nat.le_of_ble_eq_true rfl⟩) hK hP hD hS hA rfl rfl (by decide) (by decide) (by decide) rfl rfl rfl hl.1 rfl (Nat.le_of_ble_eq_true rfl) dX1_failingOf_29 ⟨Nat.zero_le _, Nat.zero_le _⟩ (fun r_29 u_29 H locs h_29 hP hD hS => ?_)
      obtain ⟨h_29, hT⟩ := h_29
      subst h_29
      have hP : va_P (dC, dI) zCl (wM h dA (nI (N)) ks as_ bs ln dg (nI (1)) u_29) H := hP
      have hD : va_D A (wM h dA (nI (N)) ks as_ bs ln dg (nI (1)) u_29) := hD
      exact W.iret (v := nI (zbt (zmk N C) (zst k) ((zst (k + 1)) - (zst k)))) hx hb hr (fun t9 ht9 hW9 => ⟨⟨nI (zbt (zmk N C) (zst k) ((zst (k + 1)) - (zst k))), (nI 1, u_29), rfl, ⟨zfm_in c_1 c_7 hk6, Or.inr ⟨rfl, hT⟩⟩, by rw [ht9]; exact hP, va_K.moved hW9.alike hK, hD⟩, hS.F ht9⟩) hS.2.2 dX1_failingOf_32
    · refine lv_iconst (v := nI (0)) hx hb dX1_failingOf_10 (by decide +kernel) ?_
      exact W.iret (v := nI (0)) hx hb hr (fun t9 ht9 hW9 => ⟨⟨nI (0), (kn, mk), rfl, ⟨by simp [zfm, c_1, c_7], h_r⟩, by rw [ht9]; exact hP, va_K.moved hW9.alike hK, hD⟩, hS.F ht9⟩) hS.2.2 dX1_failingOf_11
set_option maxHeartbeats 8000000 in
set_option maxRecDepth 100000 in
theorem met_X1_rank (l : Launch) (dC : Nat → ClassId) (dI : Nat → Nat → Nat) (h : Nat → Nat) (dA : ClassId) (sz : Nat) (N : Nat) (C : zC) (ks as_ bs : Nat → Int32) (L D : Nat) (kn : Int32) (mk : Nat → Int32) (hN : N ≤ 3) (hC : zReps N C ks as_ bs) (h_r : zKn N C kn mk) (hL : L ≤ 6) (hD4 : D < 4 ^ L) : zMetI (S := (Nat → Int32)) l yX1_rank (ws_ yX1_rank cX1_rank 2 (some .int)) ({ frames := 6, cells := 0, slots := 0, locals := 144 }) (dC, dI) dA (wM h dA (nI (N)) ks as_ bs (nI (L)) (nI (D)) kn mk) sz [.ref (h 0)] (fun r w => r = nI (zbt (zmk N C) 0 (zst L + D)) ∧ zMks N C w) (fun w => wM h dA (nI N) ks as_ bs (nI L) (nI D) (nI 1) w) := by
  refine Met.ofW (cc := cX1_rank) (maxL := 2) (ret := (some .int)) (by decide) rfl ?_
  intro p e s m args below meth c s₁ B hml hv
  obtain ⟨rfl, hsz, hP, hK, hD0⟩ := hv
  have hx := B.exec
  have hb := B.bytes
  have hr := B.returns
  have hts := atoms_spec (ws := ws_ yX1_rank cX1_rank 2 (some .int)) B.pre
  have hts : ∀ w ∈ lw_all, w.before _ s = true := fun w h => hts w (List.mem_cons_of_mem _ h)
  have hown : s.vm.findClass RX1 = some m.cls := findClass_of_methodNamed B.named
  have hlocks := B.notSynchronized
  subst hsz
  have hD := hD0.self (sz := s.heap.size)
  generalize hAe : va_A (wM h dA (nI (N)) ks as_ bs (nI (L)) (nI (D)) kn mk) s.heap.size = A at hD ⊢
  have hA : ∀ q : Nat, s.heap.size ≤ q → A q := fun q h => by rw [← hAe]; exact Or.inr h
  have hS : va_S A s.heap s.heap [] := va_S.rf
  clear hD0 hAe
  have hl := lv_entry ([.ref (h 0)]) (n := 2) (Nat.le_of_ble_eq_true rfl)
  rw [lg_entry_eq]
  generalize (lg_sl ([.ref (h 0)]) ++ List.replicate (2 - (lg_sl ([.ref (h 0)])).length) Slot.unset).toArray = ls at hl ⊢
  have hl : lv_has ls 2 [(0, .ref (h 0))] := hl
  refine lv_aload_n hx hb dX1_rank_0 rfl (lv_at hl 0 rfl) ?_
  refine lv_aload_n hx hb dX1_rank_1 rfl (lv_at hl 0 rfl) ?_
  refine va_get (D := (dC, dI)) (ci := 1) (v := .int (nI (L))) (C := RX1) (T := TX1) (N := 8) hx hb hts in_X1 hown hK hP 0 rfl rfl 4 (by decide) (hts _ q171) (fun _ h9 => h9) rfl dX1_rank_2 ?_
  refine zcallR (As := [.int (nI (L))]) (rest := []) (ci := 1) (q0 := 0) ⟨hx, hb, hml, hown, hts⟩ (met_X1_start l dC dI h dA N C ks as_ bs (nI (L)) (nI (D)) kn mk L hN hC (by omega)) (cwV 1 hts (lw_V q228 q230 qs13 q26 q231) rfl rfl rfl (by decide +kernel) ⟨Nat.le_of_ble_eq_true rfl, Nat.le_of_ble_eq_true rfl⟩) hK hP rfl rfl rfl hl.1 rfl (Nat.le_of_ble_eq_true rfl) dX1_rank_5 ⟨Nat.zero_le _, Nat.zero_le _⟩ (fun r_5 h_5 => ?_)
  subst h_5
  refine lv_aload_n hx hb dX1_rank_8 rfl (lv_at hl 0 rfl) ?_
  refine va_get (D := (dC, dI)) (ci := 1) (v := .int (nI (D))) (C := RX1) (T := TX1) (N := 8) hx hb hts in_X1 hown hK hP 0 rfl rfl 5 (by decide) (hts _ q172) (fun _ h9 => h9) rfl dX1_rank_9 ?_
  refine zn_iadd hx hb dX1_rank_12 ?_
  refine lv_istore_n (lv' := [(1, .int (nI ((zst L) + D))), (0, .ref (h 0))]) hx hb dX1_rank_13 rfl hl (by decide) rfl (fun ls hl => ?_)
  refine lv_aload_n hx hb dX1_rank_14 rfl (lv_at hl 1 rfl) ?_
  refine lv_iconst (v := nI (0)) hx hb dX1_rank_15 (by decide +kernel) ?_
  refine lv_iload_n hx hb dX1_rank_16 rfl (lv_at hl 0 rfl) ?_
  refine zcallMi (As := [.int (nI (0)), .int (nI ((zst L) + D))]) (rest := []) (wr := []) (ci := 1) (q0 := 0) [0, 1, 2, 3, 4] [] ⟨hx, hb, hml, hown, hts⟩ (met_X1_between l dC dI h dA s.heap.size N C ks as_ bs (nI (L)) (nI (D)) kn mk 0 ((zst L) + D) hN hC h_r (Nat.zero_le _) (Nat.le_of_lt (zst_b hL hD4))) (cwV 2 hts (lw_V q272 q274 qs23 q26 q275) rfl rfl rfl (by decide +kernel) ⟨Nat.le_of_ble_eq_true rfl, Nat.le_of_ble_eq_true rfl⟩) hK hP hD hS hA rfl rfl (by decide) (by decide) (by decide) rfl rfl rfl hl.1 rfl (Nat.le_of_ble_eq_true rfl) dX1_rank_17 ⟨Nat.zero_le _, Nat.zero_le _⟩ (fun r_17 u_17 H locs h_17 hP hD hS => ?_)
  obtain ⟨h_17, hT⟩ := h_17
  subst h_17
  have hP : va_P (dC, dI) zCl (wM h dA (nI (N)) ks as_ bs (nI (L)) (nI (D)) (nI (1)) u_17) H := hP
  have hD : va_D A (wM h dA (nI (N)) ks as_ bs (nI (L)) (nI (D)) (nI (1)) u_17) := hD
  exact W.iret (v := nI (zbt (zmk N C) 0 (((zst L) + D) - 0))) hx hb hr (fun t9 ht9 hW9 => ⟨⟨nI (zbt (zmk N C) 0 (((zst L) + D) - 0)), u_17, rfl, ⟨rfl, hT⟩, by rw [ht9]; exact hP, va_K.moved hW9.alike hK, hD⟩, hS.F ht9⟩) hS.2.2 dX1_rank_20
set_option maxHeartbeats 8000000 in
set_option maxRecDepth 100000 in
theorem met_X1_extending (l : Launch) (dC : Nat → ClassId) (dI : Nat → Nat → Nat) (h : Nat → Nat) (dA : ClassId) (sz : Nat) (N : Nat) (C : zC) (ks as_ bs : Nat → Int32) (L D : Nat) (kn : Int32) (mk : Nat → Int32) (hN : N ≤ 3) (hC : zReps N C ks as_ bs) (h_r : zKn N C kn mk) (hL : L ≤ 6) (hD4 : D < 4 ^ L) : zMetI (S := (Nat → Int32)) l yX1_extending (ws_ yX1_extending cX1_extending 5 (some .int)) ({ frames := 5, cells := 0, slots := 0, locals := 120 }) (dC, dI) dA (wM h dA (nI (N)) ks as_ bs (nI (L)) (nI (D)) kn mk) sz [.ref (h 0)] (fun r w => r = nI (zxo N C L D (7 - L)) ∧ zMks N C w) (fun w => wM h dA (nI N) ks as_ bs (nI L) (nI D) (nI 1) w) := by
  refine Met.ofW (cc := cX1_extending) (maxL := 5) (ret := (some .int)) (by decide) rfl ?_
  intro p e s m args below meth c s₁ B hml hv
  obtain ⟨rfl, hsz, hP, hK, hD0⟩ := hv
  have hx := B.exec
  have hb := B.bytes
  have hr := B.returns
  have hts := atoms_spec (ws := ws_ yX1_extending cX1_extending 5 (some .int)) B.pre
  have hts : ∀ w ∈ lw_all, w.before _ s = true := fun w h => hts w (List.mem_cons_of_mem _ h)
  have hown : s.vm.findClass RX1 = some m.cls := findClass_of_methodNamed B.named
  have hlocks := B.notSynchronized
  subst hsz
  have hD := hD0.self (sz := s.heap.size)
  generalize hAe : va_A (wM h dA (nI (N)) ks as_ bs (nI (L)) (nI (D)) kn mk) s.heap.size = A at hD ⊢
  have hA : ∀ q : Nat, s.heap.size ≤ q → A q := fun q h => by rw [← hAe]; exact Or.inr h
  have hS : va_S A s.heap s.heap [] := va_S.rf
  clear hD0 hAe
  have hl := lv_entry ([.ref (h 0)]) (n := 5) (Nat.le_of_ble_eq_true rfl)
  rw [lg_entry_eq]
  generalize (lg_sl ([.ref (h 0)]) ++ List.replicate (5 - (lg_sl ([.ref (h 0)])).length) Slot.unset).toArray = ls at hl ⊢
  have hl : lv_has ls 5 [(0, .ref (h 0))] := hl
  refine lv_aload_n hx hb dX1_extending_0 rfl (lv_at hl 0 rfl) ?_
  refine zcallMv (As := []) (rest := []) (wr := []) (ci := 1) (q0 := 0) [0, 1, 2, 3, 4] [] ⟨hx, hb, hml, hown, hts⟩ (met_X1_markAll l dC dI h dA s.heap.size N C ks as_ bs (nI (L)) (nI (D)) kn mk  hN hC h_r) (cwV 0 hts (lw_V q224 q226 qs12 q26 q227) rfl rfl rfl (by decide +kernel) ⟨Nat.le_of_ble_eq_true rfl, Nat.le_of_ble_eq_true rfl⟩) hK hP hD hS hA rfl rfl (by decide) (by decide) (by decide) rfl rfl rfl hl.1 rfl (Nat.le_of_ble_eq_true rfl) dX1_extending_1 ⟨Nat.zero_le _, Nat.zero_le _⟩ (fun u_1 H locs h_1 hP hD hS => ?_)
  have hP : va_P (dC, dI) zCl (wM h dA (nI (N)) ks as_ bs (nI (L)) (nI (D)) (nI (1)) u_1) H := hP
  have hD : va_D A (wM h dA (nI (N)) ks as_ bs (nI (L)) (nI (D)) (nI (1)) u_1) := hD
  have hT : zMks N C u_1 := h_1
  have hDb := Nat.lt_of_lt_of_le hD4 (z46 hL)
  refine lv_iconst (v := nI (0)) hx hb dX1_extending_4 (by decide +kernel) ?_
  refine lv_istore_n (lv' := [(1, .int (nI (0))), (0, .ref (h 0))]) hx hb dX1_extending_5 rfl hl (by decide) rfl (fun ls hl => ?_)
  refine lv_aload_n hx hb dX1_extending_6 rfl (lv_at hl 1 rfl) ?_
  refine va_get (D := (dC, dI)) (ci := 1) (v := .int (nI (L))) (C := RX1) (T := TX1) (N := 8) hx hb hts in_X1 hown hK hP 0 rfl rfl 4 (by decide) (hts _ q171) (fun _ h9 => h9) rfl dX1_extending_7 ?_
  refine lv_istore_n (lv' := [(2, .int (nI (L))), (1, .int (nI (0))), (0, .ref (h 0))]) hx hb dX1_extending_10 rfl hl (by decide) rfl (fun ls hl => ?_)
  have loop11 : ∀ (d11 : Nat) (n : Nat) (t : Nat), 7 - n < d11 → L ≤ n → n ≤ 7 → t = zxo N C L D (n - L) → ∀ (ls : Array Slot), lv_has ls 5 [(0, .ref (h 0)), (1, .int (nI (t))), (2, .int (nI (n)))] → W p l e (headSpec (ws_ yX1_extending cX1_extending 5 (some .int)) ({ frames := 5, cells := 0, slots := 0, locals := 120 })).room s m ([.ref (h 0)] : List Value).toArray below meth c H locs 0 0 (MQ below (va_Qi (S := (Nat → Int32)) (fun r w => r = nI (zxo N C L D (7 - L)) ∧ zMks N C w) (zB (dC, dI) dA A (fun w => wM h dA (nI N) ks as_ bs (nI L) (nI D) (nI 1) w)) A) ([.ref (h 0)] : List Value).toArray s 0 0 (A)) (F0 m 11 ls []) := by
    intro d11
    induction d11 with
    | zero =>
      intro n t hd11
      exact absurd hd11 (Nat.not_lt_zero _)
    | succ d11 ih11 =>
      intro n t hd11 hn1 hn ht ls hl
      refine lv_iload_n hx hb dX1_extending_11 rfl (lv_at hl 2 rfl) ?_
      refine lv_bipush (v := nI (7)) hx hb dX1_extending_12 (by decide +kernel) ?_
      refine zn_icmp_ge (tgt := 80) hx hb dX1_extending_14 (by decide) (by omega) (by omega) (fun c_14 => ?_) (fun c_14 => ?_)
      · refine lv_iload_n hx hb dX1_extending_80 rfl (lv_at hl 1 rfl) ?_
        exact W.iret (v := nI (t)) hx hb hr (fun t9 ht9 hW9 => ⟨⟨nI (t), u_1, rfl, ⟨congrArg nI (by rw [ht, show n = 7 by omega]), hT⟩, by rw [ht9]; exact hP, va_K.moved hW9.alike hK, hD⟩, hS.F ht9⟩) hS.2.2 dX1_extending_81
      · refine lv_aload_n hx hb dX1_extending_17 rfl (lv_at hl 0 rfl) ?_
        refine lv_iload_n hx hb dX1_extending_18 rfl (lv_at hl 2 rfl) ?_
        refine zcallR (As := [.int (nI (n))]) (rest := []) (ci := 1) (q0 := 0) ⟨hx, hb, hml, hown, hts⟩ (met_X1_start l dC dI h dA N C ks as_ bs (nI (L)) (nI (D)) (nI (1)) u_1 n hN hC (by omega)) (cwV 1 hts (lw_V q228 q230 qs13 q26 q231) rfl rfl rfl (by decide +kernel) ⟨Nat.le_of_ble_eq_true rfl, Nat.le_of_ble_eq_true rfl⟩) hK hP rfl rfl rfl hl.1 rfl (Nat.le_of_ble_eq_true rfl) dX1_extending_19 ⟨Nat.zero_le _, Nat.zero_le _⟩ (fun r_19 h_19 => ?_)
        subst h_19
        have hp4 := z46 (show n ≤ 6 by omega)
        refine lv_istore_n (lv' := [(3, .int (nI (zst n))), (0, .ref (h 0)), (1, .int (nI (t))), (2, .int (nI (n)))]) hx hb dX1_extending_22 rfl hl (by decide) rfl (fun ls hl => ?_)
        refine lv_iconst (v := nI (0)) hx hb dX1_extending_23 (by decide +kernel) ?_
        refine lv_istore (lv' := [(4, .int (nI (0))), (3, .int (nI (zst n))), (0, .ref (h 0)), (1, .int (nI (t))), (2, .int (nI (n)))]) hx hb dX1_extending_24 hl (by decide) rfl (fun ls hl => ?_)
        have loop26 : ∀ (d26 : Nat) (j : Nat) (t2 : Nat), 4 ^ n - j < d26 → j ≤ 4 ^ n → t2 = t + zxi N C n L D j → ∀ (ls : Array Slot), lv_has ls 5 [(0, .ref (h 0)), (1, .int (nI (t2))), (2, .int (nI (n))), (3, .int (nI (zst n))), (4, .int (nI (j)))] → W p l e (headSpec (ws_ yX1_extending cX1_extending 5 (some .int)) ({ frames := 5, cells := 0, slots := 0, locals := 120 })).room s m ([.ref (h 0)] : List Value).toArray below meth c H locs 0 0 (MQ below (va_Qi (S := (Nat → Int32)) (fun r w => r = nI (zxo N C L D (7 - L)) ∧ zMks N C w) (zB (dC, dI) dA A (fun w => wM h dA (nI N) ks as_ bs (nI L) (nI D) (nI 1) w)) A) ([.ref (h 0)] : List Value).toArray s 0 0 (A)) (F0 m 26 ls []) := by
          intro d26
          induction d26 with
          | zero =>
            intro j t2 hd26
            exact absurd hd26 (Nat.not_lt_zero _)
          | succ d26 ih26 =>
            intro j t2 hd26 hj ht2 ls hl
            refine lv_iload hx hb dX1_extending_26 (lv_at hl 4 rfl) ?_
            refine lv_iconst (v := nI (1)) hx hb dX1_extending_28 (by decide +kernel) ?_
            refine lv_iconst (v := nI (2)) hx hb dX1_extending_29 (by decide +kernel) ?_
            refine lv_iload_n hx hb dX1_extending_30 rfl (lv_at hl 2 rfl) ?_
            refine zn_imul hx hb dX1_extending_31 ?_
            refine zn_ishl (v := 4 ^ n) hx hb dX1_extending_32 (by omega) (by rw [Nat.one_mul, z24]) (Nat.lt_of_le_of_lt hp4 (by decide)) ?_
            refine zn_icmp_ge (tgt := 74) hx hb dX1_extending_33 (by decide) (by omega) (by omega) (fun c_33 => ?_) (fun c_33 => ?_)
            · refine zn_iinc (a := n) (b := 1) (k := 2) (lv' := [(2, .int (nI (n + 1))), (0, .ref (h 0)), (1, .int (nI (t2))), (3, .int (nI (zst n))), (4, .int (nI (j)))]) hx hb dX1_extending_74 hl rfl (by decide) rfl (fun ls hl => ?_)
              refine lv_goto (tgt := 11) hx hb dX1_extending_77 (by decide) ?_
              exact ih11  (n + 1) t2 (by omega) (by omega) (by omega) (by rw [zxo_step hn1, ht2, show j = 4 ^ n by omega, ht]) _ (lv_sub hl [1, 2, 0] rfl)
            · have hkb := zst_b (show n ≤ 6 by omega) c_33
              refine lv_aload_n hx hb dX1_extending_36 rfl (lv_at hl 0 rfl) ?_
              refine lv_iload_n hx hb dX1_extending_37 rfl (lv_at hl 3 rfl) ?_
              refine lv_iload hx hb dX1_extending_38 (lv_at hl 4 rfl) ?_
              refine zn_iadd hx hb dX1_extending_40 ?_
              refine zcallR (As := [.int (nI ((zst n) + j))]) (rest := []) (ci := 1) (q0 := 0) ⟨hx, hb, hml, hown, hts⟩ (met_X1_marked l dC dI h dA N C ks as_ bs (nI (L)) (nI (D)) (nI (1)) u_1 ((zst n) + j) hN hC hkb) (cwV 1 hts (lw_V q260 q262 qs21 q26 q263) rfl rfl rfl (by decide +kernel) ⟨Nat.le_of_ble_eq_true rfl, Nat.le_of_ble_eq_true rfl⟩) hK hP rfl rfl rfl hl.1 rfl (Nat.le_of_ble_eq_true rfl) dX1_extending_41 ⟨Nat.zero_le _, Nat.zero_le _⟩ (fun r_41 h_41 => ?_)
              subst h_41
              have hz := hT (zst n + j) hkb
              refine zn_if_eq (tgt := 68) hx hb dX1_extending_44 (by decide) (zb_lt _) (fun c_44 => ?_) (fun c_44 => ?_)
              · have c_44 : (zbit (u_1 (((zst n) + j) / 32)) (((zst n) + j) % 32)) = false := zb_f c_44
                refine zn_iinc (a := j) (b := 1) (k := 4) (lv' := [(4, .int (nI (j + 1))), (0, .ref (h 0)), (1, .int (nI (t2))), (2, .int (nI (n))), (3, .int (nI (zst n)))]) hx hb dX1_extending_68 hl rfl (by decide) rfl (fun ls hl => ?_)
                refine lv_goto (tgt := 26) hx hb dX1_extending_71 (by decide) ?_
                exact ih26  (j + 1) t2 (by omega) (by omega) (by show _ = t + (zxi N C n L D j + (zmk N C (zst n + j) && decide (j / 4 ^ (n - L) = D)).toNat); rw [← hz, c_44, ht2]; rfl) _ (lv_sub hl [1, 2, 3, 4, 0] rfl)
              · have c_44 : (zbit (u_1 (((zst n) + j) / 32)) (((zst n) + j) % 32)) = true := zb_t c_44
                refine lv_iload hx hb dX1_extending_47 (lv_at hl 4 rfl) ?_
                refine lv_iconst (v := nI (2)) hx hb dX1_extending_49 (by decide +kernel) ?_
                refine lv_iload_n hx hb dX1_extending_50 rfl (lv_at hl 2 rfl) ?_
                refine lv_aload_n hx hb dX1_extending_51 rfl (lv_at hl 0 rfl) ?_
                refine va_get (D := (dC, dI)) (ci := 1) (v := .int (nI (L))) (C := RX1) (T := TX1) (N := 8) hx hb hts in_X1 hown hK hP 0 rfl rfl 4 (by decide) (hts _ q171) (fun _ h9 => h9) rfl dX1_extending_52 ?_
                refine zn_isub hx hb dX1_extending_55 (by omega) ?_
                refine zn_imul hx hb dX1_extending_56 ?_
                refine zn_ishr (v := j / 4 ^ (n - L)) hx hb dX1_extending_57 (by omega) (by omega) (by rw [z24]) ?_
                refine lv_aload_n hx hb dX1_extending_58 rfl (lv_at hl 0 rfl) ?_
                refine va_get (D := (dC, dI)) (ci := 1) (v := .int (nI (D))) (C := RX1) (T := TX1) (N := 8) hx hb hts in_X1 hown hK hP 0 rfl rfl 5 (by decide) (hts _ q172) (fun _ h9 => h9) rfl dX1_extending_59 ?_
                refine zn_icmp_ne (tgt := 68) hx hb dX1_extending_62 (by decide) (Nat.lt_of_le_of_lt (Nat.div_le_self _ _) (by omega)) (by omega) (fun c_62 => ?_) (fun c_62 => ?_)
                · refine zn_iinc (a := j) (b := 1) (k := 4) (lv' := [(4, .int (nI (j + 1))), (0, .ref (h 0)), (1, .int (nI (t2))), (2, .int (nI (n))), (3, .int (nI (zst n)))]) hx hb dX1_extending_68 hl rfl (by decide) rfl (fun ls hl => ?_)
                  refine lv_goto (tgt := 26) hx hb dX1_extending_71 (by decide) ?_
                  exact ih26  (j + 1) t2 (by omega) (by omega) (by show _ = t + (zxi N C n L D j + (zmk N C (zst n + j) && decide (j / 4 ^ (n - L) = D)).toNat); rw [← hz, c_44, ht2]; simp [c_62, Nat.add_assoc]) _ (lv_sub hl [1, 2, 3, 4, 0] rfl)
                · refine zn_iinc (a := t2) (b := 1) (k := 1) (lv' := [(1, .int (nI (t2 + 1))), (0, .ref (h 0)), (2, .int (nI (n))), (3, .int (nI (zst n))), (4, .int (nI (j)))]) hx hb dX1_extending_65 hl rfl (by decide) rfl (fun ls hl => ?_)
                  refine zn_iinc (a := j) (b := 1) (k := 4) (lv' := [(4, .int (nI (j + 1))), (1, .int (nI (t2 + 1))), (0, .ref (h 0)), (2, .int (nI (n))), (3, .int (nI (zst n)))]) hx hb dX1_extending_68 hl rfl (by decide) rfl (fun ls hl => ?_)
                  refine lv_goto (tgt := 26) hx hb dX1_extending_71 (by decide) ?_
                  exact ih26  (j + 1) (t2 + 1) (by omega) (by omega) (by show _ = t + (zxi N C n L D j + (zmk N C (zst n + j) && decide (j / 4 ^ (n - L) = D)).toNat); rw [← hz, c_44, ht2]; simp [c_62, Nat.add_assoc]) _ (lv_sub hl [2, 1, 3, 4, 0] rfl)
        exact loop26 (_ + 1) 0 t (Nat.lt_succ_self _) (Nat.zero_le _) rfl _ (lv_sub hl [2, 3, 4, 1, 0] rfl)
  exact loop11 (_ + 1) L 0 (Nat.lt_succ_self _) (Nat.le_refl _) (by omega) (by rw [Nat.sub_self]; rfl) _ (lv_sub hl [2, 1, 0] rfl)
set_option maxHeartbeats 8000000 in
set_option maxRecDepth 100000 in
theorem met_X1_leastLength (l : Launch) (dC : Nat → ClassId) (dI : Nat → Nat → Nat) (h : Nat → Nat) (dA : ClassId) (sz : Nat) (N : Nat) (C : zC) (ks as_ bs : Nat → Int32) (ln dg kn : Int32) (mk : Nat → Int32) (hN : N ≤ 3) (hC : zReps N C ks as_ bs) (h_r : zKn N C kn mk) : zMetI (S := (Nat → Int32)) l yX1_leastLength (ws_ yX1_leastLength cX1_leastLength 2 (some .int)) ({ frames := 6, cells := 0, slots := 0, locals := 143 }) (dC, dI) dA (wM h dA (nI (N)) ks as_ bs ln dg kn mk) sz [.ref (h 0)] (fun r w => zMks N C w ∧ ((∃ k, zMk N C (nI 0) k ∧ r = nI (zln k)) ∨ (r = -4 ∧ zMn N C (nI 0)))) (fun w => wM h dA (nI N) ks as_ bs ln dg (nI 1) w) := by
  refine Met.ofW (cc := cX1_leastLength) (maxL := 2) (ret := (some .int)) (by decide) rfl ?_
  intro p e s m args below meth c s₁ B hml hv
  obtain ⟨rfl, hsz, hP, hK, hD0⟩ := hv
  have hx := B.exec
  have hb := B.bytes
  have hr := B.returns
  have hts := atoms_spec (ws := ws_ yX1_leastLength cX1_leastLength 2 (some .int)) B.pre
  have hts : ∀ w ∈ lw_all, w.before _ s = true := fun w h => hts w (List.mem_cons_of_mem _ h)
  have hown : s.vm.findClass RX1 = some m.cls := findClass_of_methodNamed B.named
  have hlocks := B.notSynchronized
  subst hsz
  have hD := hD0.self (sz := s.heap.size)
  generalize hAe : va_A (wM h dA (nI (N)) ks as_ bs ln dg kn mk) s.heap.size = A at hD ⊢
  have hA : ∀ q : Nat, s.heap.size ≤ q → A q := fun q h => by rw [← hAe]; exact Or.inr h
  have hS : va_S A s.heap s.heap [] := va_S.rf
  clear hD0 hAe
  have hl := lv_entry ([.ref (h 0)]) (n := 2) (Nat.le_of_ble_eq_true rfl)
  rw [lg_entry_eq]
  generalize (lg_sl ([.ref (h 0)]) ++ List.replicate (2 - (lg_sl ([.ref (h 0)])).length) Slot.unset).toArray = ls at hl ⊢
  have hl : lv_has ls 2 [(0, .ref (h 0))] := hl
  refine lv_aload_n hx hb dX1_leastLength_0 rfl (lv_at hl 0 rfl) ?_
  refine lv_iconst (v := nI (0)) hx hb dX1_leastLength_1 (by decide +kernel) ?_
  refine zcallMi (As := [.int (nI (0))]) (rest := []) (wr := []) (ci := 1) (q0 := 0) [0, 1, 2, 3, 4] [] ⟨hx, hb, hml, hown, hts⟩ (met_X1_find l dC dI h dA s.heap.size N C ks as_ bs ln dg kn mk (nI (0)) hN hC h_r) (cwV 1 hts (lw_V q220 q222 qs11 q26 q223) rfl rfl rfl (by decide +kernel) ⟨Nat.le_of_ble_eq_true rfl, Nat.le_of_ble_eq_true rfl⟩) hK hP hD hS hA rfl rfl (by decide) (by decide) (by decide) rfl rfl rfl hl.1 rfl (Nat.le_of_ble_eq_true rfl) dX1_leastLength_2 ⟨Nat.zero_le _, Nat.zero_le _⟩ (fun r_2 u_2 H locs h_2 hP hD hS => ?_)
  obtain ⟨hT, h_2⟩ := h_2
  rcases h_2 with ⟨k, hk, rfl⟩ | ⟨rfl, hno⟩
  · have hk5 := hk.1
    have hk6 := zln_le k
    have hks := zln_st k
    have hP : va_P (dC, dI) zCl (wM h dA (nI (N)) ks as_ bs ln dg (nI (1)) u_2) H := hP
    have hD : va_D A (wM h dA (nI (N)) ks as_ bs ln dg (nI (1)) u_2) := hD
    refine lv_istore_n (lv' := [(1, .int (nI (k))), (0, .ref (h 0))]) hx hb dX1_leastLength_5 rfl hl (by decide) rfl (fun ls hl => ?_)
    refine lv_iload_n hx hb dX1_leastLength_6 rfl (lv_at hl 0 rfl) ?_
    refine zn_if_ge (tgt := 15) hx hb dX1_leastLength_7 (by decide) (by omega) ?_
    refine lv_aload_n hx hb dX1_leastLength_15 rfl (lv_at hl 1 rfl) ?_
    refine lv_iload_n hx hb dX1_leastLength_16 rfl (lv_at hl 0 rfl) ?_
    refine zcallR (As := [.int (nI (k))]) (rest := []) (ci := 1) (q0 := 0) ⟨hx, hb, hml, hown, hts⟩ (met_X1_lengthOf l dC dI h dA N C ks as_ bs ln dg (nI (1)) u_2 k hN hC (by omega)) (cwV 1 hts (lw_V q264 q266 qs22 q26 q267) rfl rfl rfl (by decide +kernel) ⟨Nat.le_of_ble_eq_true rfl, Nat.le_of_ble_eq_true rfl⟩) hK hP rfl rfl rfl hl.1 rfl (Nat.le_of_ble_eq_true rfl) dX1_leastLength_17 ⟨Nat.zero_le _, Nat.zero_le _⟩ (fun r_17 h_17 => ?_)
    subst h_17
    exact W.iret (v := nI (zln k)) hx hb hr (fun t9 ht9 hW9 => ⟨⟨nI (zln k), u_2, rfl, ⟨hT, Or.inl ⟨k, hk, rfl⟩⟩, by rw [ht9]; exact hP, va_K.moved hW9.alike hK, hD⟩, hS.F ht9⟩) hS.2.2 dX1_leastLength_20
  · have hP : va_P (dC, dI) zCl (wM h dA (nI (N)) ks as_ bs ln dg (nI (1)) u_2) H := hP
    have hD : va_D A (wM h dA (nI (N)) ks as_ bs ln dg (nI (1)) u_2) := hD
    refine lv_istore_n (lv' := [(1, .int ((-1))), (0, .ref (h 0))]) hx hb dX1_leastLength_5 rfl hl (by decide) rfl (fun ls hl => ?_)
    refine lv_iload_n hx hb dX1_leastLength_6 rfl (lv_at hl 0 rfl) ?_
    refine lv_if_ge (x := (-1)) (tgt := 15) hx hb dX1_leastLength_7 (by decide) (fun c9 => absurd c9 (by decide)) (fun _ => ?_)
    refine lv_bipush (v := (-4)) hx hb dX1_leastLength_10 (by decide +kernel) ?_
    refine lv_goto (tgt := 20) hx hb dX1_leastLength_12 (by decide) ?_
    exact W.iret (v := (-4)) hx hb hr (fun t9 ht9 hW9 => ⟨⟨(-4), u_2, rfl, ⟨hT, Or.inr ⟨rfl, hno⟩⟩, by rw [ht9]; exact hP, va_K.moved hW9.alike hK, hD⟩, hS.F ht9⟩) hS.2.2 dX1_leastLength_20
set_option maxHeartbeats 8000000 in
set_option maxRecDepth 100000 in
theorem met_X1_least (l : Launch) (dC : Nat → ClassId) (dI : Nat → Nat → Nat) (h : Nat → Nat) (dA : ClassId) (sz : Nat) (N : Nat) (C : zC) (ks as_ bs : Nat → Int32) (ln dg kn : Int32) (mk : Nat → Int32) (xi : Int32) (hN : N ≤ 3) (hC : zReps N C ks as_ bs) (h_r : zKn N C kn mk) : zMetI (S := (Nat → Int32)) l yX1_least (ws_ yX1_least cX1_least 4 (some .int)) ({ frames := 6, cells := 0, slots := 0, locals := 143 }) (dC, dI) dA (wM h dA (nI (N)) ks as_ bs ln dg kn mk) sz [.ref (h 0), .int (xi)] (fun r w => zMks N C w ∧ ((∃ k, zMk N C (nI 0) k ∧ r = zel (zat (zln k) (k - zst (zln k))) (zln k) xi) ∨ (r = -4 ∧ zMn N C (nI 0)))) (fun w => wM h dA (nI N) ks as_ bs ln dg (nI 1) w) := by
  refine Met.ofW (cc := cX1_least) (maxL := 4) (ret := (some .int)) (by decide) rfl ?_
  intro p e s m args below meth c s₁ B hml hv
  obtain ⟨rfl, hsz, hP, hK, hD0⟩ := hv
  have hx := B.exec
  have hb := B.bytes
  have hr := B.returns
  have hts := atoms_spec (ws := ws_ yX1_least cX1_least 4 (some .int)) B.pre
  have hts : ∀ w ∈ lw_all, w.before _ s = true := fun w h => hts w (List.mem_cons_of_mem _ h)
  have hown : s.vm.findClass RX1 = some m.cls := findClass_of_methodNamed B.named
  have hlocks := B.notSynchronized
  subst hsz
  have hD := hD0.self (sz := s.heap.size)
  generalize hAe : va_A (wM h dA (nI (N)) ks as_ bs ln dg kn mk) s.heap.size = A at hD ⊢
  have hA : ∀ q : Nat, s.heap.size ≤ q → A q := fun q h => by rw [← hAe]; exact Or.inr h
  have hS : va_S A s.heap s.heap [] := va_S.rf
  clear hD0 hAe
  have hl := lv_entry ([.ref (h 0), .int (xi)]) (n := 4) (Nat.le_of_ble_eq_true rfl)
  rw [lg_entry_eq]
  generalize (lg_sl ([.ref (h 0), .int (xi)]) ++ List.replicate (4 - (lg_sl ([.ref (h 0), .int (xi)])).length) Slot.unset).toArray = ls at hl ⊢
  have hl : lv_has ls 4 [(0, .ref (h 0)), (1, .int (xi))] := hl
  refine lv_aload_n hx hb dX1_least_0 rfl (lv_at hl 0 rfl) ?_
  refine lv_iconst (v := nI (0)) hx hb dX1_least_1 (by decide +kernel) ?_
  refine zcallMi (As := [.int (nI (0))]) (rest := []) (wr := []) (ci := 1) (q0 := 0) [0, 1, 2, 3, 4] [] ⟨hx, hb, hml, hown, hts⟩ (met_X1_find l dC dI h dA s.heap.size N C ks as_ bs ln dg kn mk (nI (0)) hN hC h_r) (cwV 1 hts (lw_V q220 q222 qs11 q26 q223) rfl rfl rfl (by decide +kernel) ⟨Nat.le_of_ble_eq_true rfl, Nat.le_of_ble_eq_true rfl⟩) hK hP hD hS hA rfl rfl (by decide) (by decide) (by decide) rfl rfl rfl hl.1 rfl (Nat.le_of_ble_eq_true rfl) dX1_least_2 ⟨Nat.zero_le _, Nat.zero_le _⟩ (fun r_2 u_2 H locs h_2 hP hD hS => ?_)
  obtain ⟨hT, h_2⟩ := h_2
  rcases h_2 with ⟨k, hk, rfl⟩ | ⟨rfl, hno⟩
  · have hk5 := hk.1
    have hk6 := zln_le k
    have hks := zln_st k
    have hP : va_P (dC, dI) zCl (wM h dA (nI (N)) ks as_ bs ln dg (nI (1)) u_2) H := hP
    have hD : va_D A (wM h dA (nI (N)) ks as_ bs ln dg (nI (1)) u_2) := hD
    refine lv_istore_n (lv' := [(2, .int (nI (k))), (0, .ref (h 0)), (1, .int (xi))]) hx hb dX1_least_5 rfl hl (by decide) rfl (fun ls hl => ?_)
    refine lv_iload_n hx hb dX1_least_6 rfl (lv_at hl 0 rfl) ?_
    refine zn_if_ge (tgt := 13) hx hb dX1_least_7 (by decide) (by omega) ?_
    refine lv_aload_n hx hb dX1_least_13 rfl (lv_at hl 1 rfl) ?_
    refine lv_iload_n hx hb dX1_least_14 rfl (lv_at hl 0 rfl) ?_
    refine zcallR (As := [.int (nI (k))]) (rest := []) (ci := 1) (q0 := 0) ⟨hx, hb, hml, hown, hts⟩ (met_X1_lengthOf l dC dI h dA N C ks as_ bs ln dg (nI (1)) u_2 k hN hC (by omega)) (cwV 1 hts (lw_V q264 q266 qs22 q26 q267) rfl rfl rfl (by decide +kernel) ⟨Nat.le_of_ble_eq_true rfl, Nat.le_of_ble_eq_true rfl⟩) hK hP rfl rfl rfl hl.1 rfl (Nat.le_of_ble_eq_true rfl) dX1_least_15 ⟨Nat.zero_le _, Nat.zero_le _⟩ (fun r_15 h_15 => ?_)
    subst h_15
    refine lv_istore_n (lv' := [(3, .int (nI (zln k))), (2, .int (nI (k))), (0, .ref (h 0)), (1, .int (xi))]) hx hb dX1_least_18 rfl hl (by decide) rfl (fun ls hl => ?_)
    refine lv_iload_n hx hb dX1_least_19 rfl (lv_at hl 3 rfl) ?_
    refine lv_if_lt (x := xi) (tgt := 28) hx hb dX1_least_20 (by decide) (fun c_20 => ?_) (fun c_20 => ?_)
    · refine lv_bipush (v := (-4)) hx hb dX1_least_28 (by decide +kernel) ?_
      exact W.iret (v := (-4)) hx hb hr (fun t9 ht9 hW9 => ⟨⟨(-4), u_2, rfl, ⟨hT, Or.inl ⟨k, hk, by simp [zel, c_20]⟩⟩, by rw [ht9]; exact hP, va_K.moved hW9.alike hK, hD⟩, hS.F ht9⟩) hS.2.2 dX1_least_30
    · refine lv_iload_n hx hb dX1_least_23 rfl (lv_at hl 3 rfl) ?_
      refine lv_iload_n hx hb dX1_least_24 rfl (lv_at hl 0 rfl) ?_
      refine lv_icmp_lt (x := xi) (y := nI (zln k)) (tgt := 31) hx hb dX1_least_25 (by decide) (fun c_25 => ?_) (fun c_25 => ?_)
      · obtain ⟨j, hj, rfl⟩ := zix c_20 c_25 (by omega)
        refine lv_aload_n hx hb dX1_least_31 rfl (lv_at hl 2 rfl) ?_
        refine lv_iload_n hx hb dX1_least_32 rfl (lv_at hl 0 rfl) ?_
        refine lv_iload_n hx hb dX1_least_33 rfl (lv_at hl 1 rfl) ?_
        refine lv_aload_n hx hb dX1_least_34 rfl (lv_at hl 2 rfl) ?_
        refine lv_iload_n hx hb dX1_least_35 rfl (lv_at hl 0 rfl) ?_
        refine zcallR (As := [.int (nI (zln k))]) (rest := [.int (nI (k)), .int (nI (zln k)), .ref (h 0)]) (ci := 1) (q0 := 0) ⟨hx, hb, hml, hown, hts⟩ (met_X1_start l dC dI h dA N C ks as_ bs ln dg (nI (1)) u_2 (zln k) hN hC (by omega)) (cwV 1 hts (lw_V q228 q230 qs13 q26 q231) rfl rfl rfl (by decide +kernel) ⟨Nat.le_of_ble_eq_true rfl, Nat.le_of_ble_eq_true rfl⟩) hK hP rfl rfl rfl hl.1 rfl (Nat.le_of_ble_eq_true rfl) dX1_least_36 ⟨Nat.zero_le _, Nat.zero_le _⟩ (fun r_36 h_36 => ?_)
        subst h_36
        refine zn_isub hx hb dX1_least_39 (by omega) ?_
        refine lv_iload_n hx hb dX1_least_40 rfl (lv_at hl 3 rfl) ?_
        refine zcallR (As := [.int (nI (zln k)), .int (nI (k - (zst (zln k)))), .int (nI (j))]) (rest := []) (ci := 1) (q0 := 0) ⟨hx, hb, hml, hown, hts⟩ (met_X1_at l dC dI h dA N C ks as_ bs ln dg (nI (1)) u_2 (zln k) (k - (zst (zln k))) j hN hC hk6 (Nat.lt_of_lt_of_le (zln_lt hk5) (z46 hk6)) hj) (cwV 3 hts (lw_V q244 q246 qs17 q26 q247) rfl rfl rfl (by decide +kernel) ⟨Nat.le_of_ble_eq_true rfl, Nat.le_of_ble_eq_true rfl⟩) hK hP rfl rfl rfl hl.1 rfl (Nat.le_of_ble_eq_true rfl) dX1_least_41 ⟨Nat.zero_le _, Nat.zero_le _⟩ (fun r_41 h_41 => ?_)
        subst h_41
        exact W.iret (v := nI (zat (zln k) (k - (zst (zln k))) j)) hx hb hr (fun t9 ht9 hW9 => ⟨⟨nI (zat (zln k) (k - (zst (zln k))) j), u_2, rfl, ⟨hT, Or.inl ⟨k, hk, zel_in (f := zat (zln k) (k - zst (zln k))) hj (by omega)⟩⟩, by rw [ht9]; exact hP, va_K.moved hW9.alike hK, hD⟩, hS.F ht9⟩) hS.2.2 dX1_least_44
      · refine lv_bipush (v := (-4)) hx hb dX1_least_28 (by decide +kernel) ?_
        exact W.iret (v := (-4)) hx hb hr (fun t9 ht9 hW9 => ⟨⟨(-4), u_2, rfl, ⟨hT, Or.inl ⟨k, hk, by simp [zel, c_20, c_25]⟩⟩, by rw [ht9]; exact hP, va_K.moved hW9.alike hK, hD⟩, hS.F ht9⟩) hS.2.2 dX1_least_30
  · have hP : va_P (dC, dI) zCl (wM h dA (nI (N)) ks as_ bs ln dg (nI (1)) u_2) H := hP
    have hD : va_D A (wM h dA (nI (N)) ks as_ bs ln dg (nI (1)) u_2) := hD
    refine lv_istore_n (lv' := [(2, .int ((-1))), (0, .ref (h 0)), (1, .int (xi))]) hx hb dX1_least_5 rfl hl (by decide) rfl (fun ls hl => ?_)
    refine lv_iload_n hx hb dX1_least_6 rfl (lv_at hl 0 rfl) ?_
    refine lv_if_ge (x := (-1)) (tgt := 13) hx hb dX1_least_7 (by decide) (fun c9 => absurd c9 (by decide)) (fun _ => ?_)
    refine lv_bipush (v := (-4)) hx hb dX1_least_10 (by decide +kernel) ?_
    exact W.iret (v := (-4)) hx hb hr (fun t9 ht9 hW9 => ⟨⟨(-4), u_2, rfl, ⟨hT, Or.inr ⟨rfl, hno⟩⟩, by rw [ht9]; exact hP, va_K.moved hW9.alike hK, hD⟩, hS.F ht9⟩) hS.2.2 dX1_least_12
end
section
/-! the constructors (written by gen/inits.py) -/
set_option maxHeartbeats 8000000 in
set_option maxRecDepth 100000 in
/-- the constructor: fields 0, arrays of 0 -/
theorem met_X0_init (l : Launch) (dC : Nat → ClassId) (dI : Nat → Nat → Nat) (q sz : Nat) : Met l yX0_init (ws_ yX0_init cX0_init 1 none) ({ frames := 1, cells := 6, slots := 2261, locals := 12 }) (va_Pc [.ref q] (fun U => U.heap.size = sz ∧ va_P (dC, dI) zCl [(q, .inr (0, [.int (nI 0), .null, .null, .null, .int (nI 0), .null, .int (nI 0), .null, .int (nI 0), .null]))] U.heap ∧ va_K (dC, dI) zCl [] U ∧ va_D (fun _ => True) [(q, .inr (0, [.int (nI 0), .null, .null, .null, .int (nI 0), .null, .int (nI 0), .null, .int (nI 0), .null]))])) (va_Qv (fun u : (Nat → Nat) × ClassId => u.1 0 = q) (fun u t => va_P (dC, dI) zCl (wX u.1 u.2 (nI 0) (fun _ => nI 0) (fun _ => nI 0) (fun _ => nI 0) (nI 0) (fun _ => nI 0) (nI 0) (fun _ => nI 0) (nI 0) (fun _ => nI 0)) t.heap ∧ va_K (dC, dI) zCl [(u.2, .int)] t ∧ va_D (va_A [(q, .inr (0, [.int (nI 0), .null, .null, .null, .int (nI 0), .null, .int (nI 0), .null, .int (nI 0), .null]))] sz) (wX u.1 u.2 (nI 0) (fun _ => nI 0) (fun _ => nI 0) (fun _ => nI 0) (nI 0) (fun _ => nI 0) (nI 0) (fun _ => nI 0) (nI 0) (fun _ => nI 0))) (va_A [(q, .inr (0, [.int (nI 0), .null, .null, .null, .int (nI 0), .null, .int (nI 0), .null, .int (nI 0), .null]))] sz)) 6 2261 (va_A [(q, .inr (0, [.int (nI 0), .null, .null, .null, .int (nI 0), .null, .int (nI 0), .null, .int (nI 0), .null]))] sz) := by
  refine Met.ofW (cc := cX0_init) (maxL := 1) (ret := none) (by decide) rfl ?_
  intro p e s m args below meth c s₁ B hml hv
  obtain ⟨rfl, hsz, hP, hK, hD0⟩ := hv
  have hx := B.exec
  have hb := B.bytes
  have hr := B.returns
  have hts := atoms_spec (ws := ws_ yX0_init cX0_init 1 none) B.pre
  have hts : ∀ w ∈ lw_all, w.before _ s = true := fun w h => hts w (List.mem_cons_of_mem _ h)
  have hown : s.vm.findClass RX0 = some m.cls := findClass_of_methodNamed B.named
  have hlocks := B.notSynchronized
  have hin : meth.name = "<init>" := (name_of_methodNamed B.named B.method).1
  subst hsz
  have hD := hD0.self (sz := s.heap.size)
  generalize hAe : va_A [(q, .inr (0, [.int (nI 0), .null, .null, .null, .int (nI 0), .null, .int (nI 0), .null, .int (nI 0), .null]))] s.heap.size = A at hD ⊢
  have hA : ∀ q : Nat, s.heap.size ≤ q → A q := fun q h => by rw [← hAe]; exact Or.inr h
  have hS : va_S A s.heap s.heap [] := va_S.rf
  clear hD0 hAe
  have hl := lv_entry ([.ref q]) (n := 1) (Nat.le_of_ble_eq_true rfl)
  rw [lg_entry_eq]
  generalize (lg_sl ([.ref q]) ++ List.replicate (1 - (lg_sl ([.ref q])).length) Slot.unset).toArray = ls at hl ⊢
  have hl : lv_has ls 1 [(0, .ref q)] := hl
  refine lv_aload_n hx hb dX0_init_0 rfl (lv_at hl 0 rfl) ?_
  refine W.objInit hx hb hown (hts _ q32) (hts _ q33) (hts _ q34) rfl (by rw [hml]; exact hl.1) rfl dX0_init_1 (Nat.le_of_ble_eq_true rfl) (Nat.le_of_ble_eq_true rfl) ?_
  refine W.eq (g2 := F0 m 4 ls []) rfl ?_
  refine lv_aload_n hx hb dX0_init_4 rfl (lv_at hl 0 rfl) ?_
  refine lv_iconst (v := nI (3)) hx hb dX0_init_5 (by decide +kernel) ?_
  refine va_newa (atype := .int) (ty := .int) (a0 := (3, .inl (fun _ => nI 0))) (N' := 3) hx hb (hts _ q66) rfl hK hP hD hS hA (fun _ => rfl) (by decide +kernel) (by decide +kernel) (by decide) (Nat.le_of_ble_eq_true rfl) (Nat.le_of_ble_eq_true rfl) dX0_init_6 (fun q1 cA H hK hP hD hS => ?_)
  have hP : va_P (dC, dI) zCl [(q, .inr (0, [.int (nI 0), .null, .null, .null, .int (nI 0), .null, .int (nI 0), .null, .int (nI 0), .null])), (q1, .inl (cA, 3, .inl (fun _ => nI 0)))] H := hP
  have hD : va_D A [(q, .inr (0, [.int (nI 0), .null, .null, .null, .int (nI 0), .null, .int (nI 0), .null, .int (nI 0), .null])), (q1, .inl (cA, 3, .inl (fun _ => nI 0)))] := hD
  refine W.widen (k := 1) (n := 3) (Nat.le_of_ble_eq_true rfl) (Nat.le_of_ble_eq_true rfl) ?_
  refine va_putF (D := (dC, dI)) (ci := 0) (v := .ref q1) (ty := .array .int) (C := RX0) (T := TX0) (N := 10) hx hb hts in_X0 tyX0 tyX0_ok nmX0 hown hK hP hD hS 0 rfl rfl 1 (by decide) (hts _ q36) (fun _ h9 => h9) rfl hin rfl (by decide +kernel) rfl rfl (Nat.le_of_ble_eq_true rfl) dX0_init_8 (fun H locs hP hD hS => ?_)
  have hP : va_P (dC, dI) zCl [(q, .inr (0, [.int (nI 0), .ref q1, .null, .null, .int (nI 0), .null, .int (nI 0), .null, .int (nI 0), .null])), (q1, .inl (cA, 3, .inl (fun _ => nI 0)))] H := hP
  have hD : va_D A [(q, .inr (0, [.int (nI 0), .ref q1, .null, .null, .int (nI 0), .null, .int (nI 0), .null, .int (nI 0), .null])), (q1, .inl (cA, 3, .inl (fun _ => nI 0)))] := hD
  refine lv_aload_n hx hb dX0_init_11 rfl (lv_at hl 0 rfl) ?_
  refine lv_iconst (v := nI (3)) hx hb dX0_init_12 (by decide +kernel) ?_
  refine va_newa (atype := .int) (ty := .int) (a0 := (3, .inl (fun _ => nI 0))) (N' := 3) hx hb (hts _ q66) rfl hK hP hD hS hA (fun _ => rfl) (by decide +kernel) (by decide +kernel) (by decide) (Nat.le_of_ble_eq_true rfl) (Nat.le_of_ble_eq_true rfl) dX0_init_13 (fun q2 cB H hK hP hD hS => ?_)
  have e9 : cB = cA := Option.some.inj ((show s.vm.findClass _ = some cB from (hK.2 1 _ rfl).2).symm.trans (show s.vm.findClass _ = some cA from (hK.2 0 _ rfl).2))
  subst cB
  have hK : va_K (dC, dI) zCl [(cA, .int)] s := hK.sub [0] rfl
  have hP : va_P (dC, dI) zCl [(q, .inr (0, [.int (nI 0), .ref q1, .null, .null, .int (nI 0), .null, .int (nI 0), .null, .int (nI 0), .null])), (q1, .inl (cA, 3, .inl (fun _ => nI 0))), (q2, .inl (cA, 3, .inl (fun _ => nI 0)))] H := hP
  have hD : va_D A [(q, .inr (0, [.int (nI 0), .ref q1, .null, .null, .int (nI 0), .null, .int (nI 0), .null, .int (nI 0), .null])), (q1, .inl (cA, 3, .inl (fun _ => nI 0))), (q2, .inl (cA, 3, .inl (fun _ => nI 0)))] := hD
  refine W.widen (k := 2) (n := 6) (Nat.le_of_ble_eq_true rfl) (Nat.le_of_ble_eq_true rfl) ?_
  refine va_putF (D := (dC, dI)) (ci := 0) (v := .ref q2) (ty := .array .int) (C := RX0) (T := TX0) (N := 10) hx hb hts in_X0 tyX0 tyX0_ok nmX0 hown hK hP hD hS 0 rfl rfl 2 (by decide) (hts _ q37) (fun _ h9 => h9) rfl hin rfl (by decide +kernel) rfl rfl (Nat.le_of_ble_eq_true rfl) dX0_init_15 (fun H locs hP hD hS => ?_)
  have hP : va_P (dC, dI) zCl [(q, .inr (0, [.int (nI 0), .ref q1, .ref q2, .null, .int (nI 0), .null, .int (nI 0), .null, .int (nI 0), .null])), (q1, .inl (cA, 3, .inl (fun _ => nI 0))), (q2, .inl (cA, 3, .inl (fun _ => nI 0)))] H := hP
  have hD : va_D A [(q, .inr (0, [.int (nI 0), .ref q1, .ref q2, .null, .int (nI 0), .null, .int (nI 0), .null, .int (nI 0), .null])), (q1, .inl (cA, 3, .inl (fun _ => nI 0))), (q2, .inl (cA, 3, .inl (fun _ => nI 0)))] := hD
  refine lv_aload_n hx hb dX0_init_18 rfl (lv_at hl 0 rfl) ?_
  refine lv_iconst (v := nI (3)) hx hb dX0_init_19 (by decide +kernel) ?_
  refine va_newa (atype := .int) (ty := .int) (a0 := (3, .inl (fun _ => nI 0))) (N' := 3) hx hb (hts _ q66) rfl hK hP hD hS hA (fun _ => rfl) (by decide +kernel) (by decide +kernel) (by decide) (Nat.le_of_ble_eq_true rfl) (Nat.le_of_ble_eq_true rfl) dX0_init_20 (fun q3 cB H hK hP hD hS => ?_)
  have e9 : cB = cA := Option.some.inj ((show s.vm.findClass _ = some cB from (hK.2 1 _ rfl).2).symm.trans (show s.vm.findClass _ = some cA from (hK.2 0 _ rfl).2))
  subst cB
  have hK : va_K (dC, dI) zCl [(cA, .int)] s := hK.sub [0] rfl
  have hP : va_P (dC, dI) zCl [(q, .inr (0, [.int (nI 0), .ref q1, .ref q2, .null, .int (nI 0), .null, .int (nI 0), .null, .int (nI 0), .null])), (q1, .inl (cA, 3, .inl (fun _ => nI 0))), (q2, .inl (cA, 3, .inl (fun _ => nI 0))), (q3, .inl (cA, 3, .inl (fun _ => nI 0)))] H := hP
  have hD : va_D A [(q, .inr (0, [.int (nI 0), .ref q1, .ref q2, .null, .int (nI 0), .null, .int (nI 0), .null, .int (nI 0), .null])), (q1, .inl (cA, 3, .inl (fun _ => nI 0))), (q2, .inl (cA, 3, .inl (fun _ => nI 0))), (q3, .inl (cA, 3, .inl (fun _ => nI 0)))] := hD
  refine W.widen (k := 3) (n := 9) (Nat.le_of_ble_eq_true rfl) (Nat.le_of_ble_eq_true rfl) ?_
  refine va_putF (D := (dC, dI)) (ci := 0) (v := .ref q3) (ty := .array .int) (C := RX0) (T := TX0) (N := 10) hx hb hts in_X0 tyX0 tyX0_ok nmX0 hown hK hP hD hS 0 rfl rfl 3 (by decide) (hts _ q38) (fun _ h9 => h9) rfl hin rfl (by decide +kernel) rfl rfl (Nat.le_of_ble_eq_true rfl) dX0_init_22 (fun H locs hP hD hS => ?_)
  have hP : va_P (dC, dI) zCl [(q, .inr (0, [.int (nI 0), .ref q1, .ref q2, .ref q3, .int (nI 0), .null, .int (nI 0), .null, .int (nI 0), .null])), (q1, .inl (cA, 3, .inl (fun _ => nI 0))), (q2, .inl (cA, 3, .inl (fun _ => nI 0))), (q3, .inl (cA, 3, .inl (fun _ => nI 0)))] H := hP
  have hD : va_D A [(q, .inr (0, [.int (nI 0), .ref q1, .ref q2, .ref q3, .int (nI 0), .null, .int (nI 0), .null, .int (nI 0), .null])), (q1, .inl (cA, 3, .inl (fun _ => nI 0))), (q2, .inl (cA, 3, .inl (fun _ => nI 0))), (q3, .inl (cA, 3, .inl (fun _ => nI 0)))] := hD
  refine lv_aload_n hx hb dX0_init_25 rfl (lv_at hl 0 rfl) ?_
  refine lv_bipush (v := nI (6)) hx hb dX0_init_26 (by decide +kernel) ?_
  refine va_newa (atype := .int) (ty := .int) (a0 := (6, .inl (fun _ => nI 0))) (N' := 6) hx hb (hts _ q66) rfl hK hP hD hS hA (fun _ => rfl) (by decide +kernel) (by decide +kernel) (by decide) (Nat.le_of_ble_eq_true rfl) (Nat.le_of_ble_eq_true rfl) dX0_init_28 (fun q4 cB H hK hP hD hS => ?_)
  have e9 : cB = cA := Option.some.inj ((show s.vm.findClass _ = some cB from (hK.2 1 _ rfl).2).symm.trans (show s.vm.findClass _ = some cA from (hK.2 0 _ rfl).2))
  subst cB
  have hK : va_K (dC, dI) zCl [(cA, .int)] s := hK.sub [0] rfl
  have hP : va_P (dC, dI) zCl [(q, .inr (0, [.int (nI 0), .ref q1, .ref q2, .ref q3, .int (nI 0), .null, .int (nI 0), .null, .int (nI 0), .null])), (q1, .inl (cA, 3, .inl (fun _ => nI 0))), (q2, .inl (cA, 3, .inl (fun _ => nI 0))), (q3, .inl (cA, 3, .inl (fun _ => nI 0))), (q4, .inl (cA, 6, .inl (fun _ => nI 0)))] H := hP
  have hD : va_D A [(q, .inr (0, [.int (nI 0), .ref q1, .ref q2, .ref q3, .int (nI 0), .null, .int (nI 0), .null, .int (nI 0), .null])), (q1, .inl (cA, 3, .inl (fun _ => nI 0))), (q2, .inl (cA, 3, .inl (fun _ => nI 0))), (q3, .inl (cA, 3, .inl (fun _ => nI 0))), (q4, .inl (cA, 6, .inl (fun _ => nI 0)))] := hD
  refine W.widen (k := 4) (n := 15) (Nat.le_of_ble_eq_true rfl) (Nat.le_of_ble_eq_true rfl) ?_
  refine va_putF (D := (dC, dI)) (ci := 0) (v := .ref q4) (ty := .array .int) (C := RX0) (T := TX0) (N := 10) hx hb hts in_X0 tyX0 tyX0_ok nmX0 hown hK hP hD hS 0 rfl rfl 5 (by decide) (hts _ q40) (fun _ h9 => h9) rfl hin rfl (by decide +kernel) rfl rfl (Nat.le_of_ble_eq_true rfl) dX0_init_30 (fun H locs hP hD hS => ?_)
  have hP : va_P (dC, dI) zCl [(q, .inr (0, [.int (nI 0), .ref q1, .ref q2, .ref q3, .int (nI 0), .ref q4, .int (nI 0), .null, .int (nI 0), .null])), (q1, .inl (cA, 3, .inl (fun _ => nI 0))), (q2, .inl (cA, 3, .inl (fun _ => nI 0))), (q3, .inl (cA, 3, .inl (fun _ => nI 0))), (q4, .inl (cA, 6, .inl (fun _ => nI 0)))] H := hP
  have hD : va_D A [(q, .inr (0, [.int (nI 0), .ref q1, .ref q2, .ref q3, .int (nI 0), .ref q4, .int (nI 0), .null, .int (nI 0), .null])), (q1, .inl (cA, 3, .inl (fun _ => nI 0))), (q2, .inl (cA, 3, .inl (fun _ => nI 0))), (q3, .inl (cA, 3, .inl (fun _ => nI 0))), (q4, .inl (cA, 6, .inl (fun _ => nI 0)))] := hD
  refine lv_aload_n hx hb dX0_init_33 rfl (lv_at hl 0 rfl) ?_
  refine lv_bipush (v := nI (6)) hx hb dX0_init_34 (by decide +kernel) ?_
  refine va_newa (atype := .int) (ty := .int) (a0 := (6, .inl (fun _ => nI 0))) (N' := 6) hx hb (hts _ q66) rfl hK hP hD hS hA (fun _ => rfl) (by decide +kernel) (by decide +kernel) (by decide) (Nat.le_of_ble_eq_true rfl) (Nat.le_of_ble_eq_true rfl) dX0_init_36 (fun q5 cB H hK hP hD hS => ?_)
  have e9 : cB = cA := Option.some.inj ((show s.vm.findClass _ = some cB from (hK.2 1 _ rfl).2).symm.trans (show s.vm.findClass _ = some cA from (hK.2 0 _ rfl).2))
  subst cB
  have hK : va_K (dC, dI) zCl [(cA, .int)] s := hK.sub [0] rfl
  have hP : va_P (dC, dI) zCl [(q, .inr (0, [.int (nI 0), .ref q1, .ref q2, .ref q3, .int (nI 0), .ref q4, .int (nI 0), .null, .int (nI 0), .null])), (q1, .inl (cA, 3, .inl (fun _ => nI 0))), (q2, .inl (cA, 3, .inl (fun _ => nI 0))), (q3, .inl (cA, 3, .inl (fun _ => nI 0))), (q4, .inl (cA, 6, .inl (fun _ => nI 0))), (q5, .inl (cA, 6, .inl (fun _ => nI 0)))] H := hP
  have hD : va_D A [(q, .inr (0, [.int (nI 0), .ref q1, .ref q2, .ref q3, .int (nI 0), .ref q4, .int (nI 0), .null, .int (nI 0), .null])), (q1, .inl (cA, 3, .inl (fun _ => nI 0))), (q2, .inl (cA, 3, .inl (fun _ => nI 0))), (q3, .inl (cA, 3, .inl (fun _ => nI 0))), (q4, .inl (cA, 6, .inl (fun _ => nI 0))), (q5, .inl (cA, 6, .inl (fun _ => nI 0)))] := hD
  refine W.widen (k := 5) (n := 21) (Nat.le_of_ble_eq_true rfl) (Nat.le_of_ble_eq_true rfl) ?_
  refine va_putF (D := (dC, dI)) (ci := 0) (v := .ref q5) (ty := .array .int) (C := RX0) (T := TX0) (N := 10) hx hb hts in_X0 tyX0 tyX0_ok nmX0 hown hK hP hD hS 0 rfl rfl 7 (by decide) (hts _ q42) (fun _ h9 => h9) rfl hin rfl (by decide +kernel) rfl rfl (Nat.le_of_ble_eq_true rfl) dX0_init_38 (fun H locs hP hD hS => ?_)
  have hP : va_P (dC, dI) zCl [(q, .inr (0, [.int (nI 0), .ref q1, .ref q2, .ref q3, .int (nI 0), .ref q4, .int (nI 0), .ref q5, .int (nI 0), .null])), (q1, .inl (cA, 3, .inl (fun _ => nI 0))), (q2, .inl (cA, 3, .inl (fun _ => nI 0))), (q3, .inl (cA, 3, .inl (fun _ => nI 0))), (q4, .inl (cA, 6, .inl (fun _ => nI 0))), (q5, .inl (cA, 6, .inl (fun _ => nI 0)))] H := hP
  have hD : va_D A [(q, .inr (0, [.int (nI 0), .ref q1, .ref q2, .ref q3, .int (nI 0), .ref q4, .int (nI 0), .ref q5, .int (nI 0), .null])), (q1, .inl (cA, 3, .inl (fun _ => nI 0))), (q2, .inl (cA, 3, .inl (fun _ => nI 0))), (q3, .inl (cA, 3, .inl (fun _ => nI 0))), (q4, .inl (cA, 6, .inl (fun _ => nI 0))), (q5, .inl (cA, 6, .inl (fun _ => nI 0)))] := hD
  refine lv_aload_n hx hb dX0_init_41 rfl (lv_at hl 0 rfl) ?_
  refine lv_sipush (v := nI (2240)) hx hb dX0_init_42 (by decide +kernel) ?_
  refine va_newa (atype := .int) (ty := .int) (a0 := (2240, .inl (fun _ => nI 0))) (N' := 2240) hx hb (hts _ q66) rfl hK hP hD hS hA (fun _ => rfl) (by decide +kernel) (by decide +kernel) (by decide) (Nat.le_of_ble_eq_true rfl) (Nat.le_of_ble_eq_true rfl) dX0_init_45 (fun q6 cB H hK hP hD hS => ?_)
  have e9 : cB = cA := Option.some.inj ((show s.vm.findClass _ = some cB from (hK.2 1 _ rfl).2).symm.trans (show s.vm.findClass _ = some cA from (hK.2 0 _ rfl).2))
  subst cB
  have hK : va_K (dC, dI) zCl [(cA, .int)] s := hK.sub [0] rfl
  have hP : va_P (dC, dI) zCl [(q, .inr (0, [.int (nI 0), .ref q1, .ref q2, .ref q3, .int (nI 0), .ref q4, .int (nI 0), .ref q5, .int (nI 0), .null])), (q1, .inl (cA, 3, .inl (fun _ => nI 0))), (q2, .inl (cA, 3, .inl (fun _ => nI 0))), (q3, .inl (cA, 3, .inl (fun _ => nI 0))), (q4, .inl (cA, 6, .inl (fun _ => nI 0))), (q5, .inl (cA, 6, .inl (fun _ => nI 0))), (q6, .inl (cA, 2240, .inl (fun _ => nI 0)))] H := hP
  have hD : va_D A [(q, .inr (0, [.int (nI 0), .ref q1, .ref q2, .ref q3, .int (nI 0), .ref q4, .int (nI 0), .ref q5, .int (nI 0), .null])), (q1, .inl (cA, 3, .inl (fun _ => nI 0))), (q2, .inl (cA, 3, .inl (fun _ => nI 0))), (q3, .inl (cA, 3, .inl (fun _ => nI 0))), (q4, .inl (cA, 6, .inl (fun _ => nI 0))), (q5, .inl (cA, 6, .inl (fun _ => nI 0))), (q6, .inl (cA, 2240, .inl (fun _ => nI 0)))] := hD
  refine W.widen (k := 6) (n := 2261) (Nat.le_of_ble_eq_true rfl) (Nat.le_of_ble_eq_true rfl) ?_
  refine va_putF (D := (dC, dI)) (ci := 0) (v := .ref q6) (ty := .array .int) (C := RX0) (T := TX0) (N := 10) hx hb hts in_X0 tyX0 tyX0_ok nmX0 hown hK hP hD hS 0 rfl rfl 9 (by decide) (hts _ q44) (fun _ h9 => h9) rfl hin rfl (by decide +kernel) rfl rfl (Nat.le_of_ble_eq_true rfl) dX0_init_47 (fun H locs hP hD hS => ?_)
  have hP : va_P (dC, dI) zCl [(q, .inr (0, [.int (nI 0), .ref q1, .ref q2, .ref q3, .int (nI 0), .ref q4, .int (nI 0), .ref q5, .int (nI 0), .ref q6])), (q1, .inl (cA, 3, .inl (fun _ => nI 0))), (q2, .inl (cA, 3, .inl (fun _ => nI 0))), (q3, .inl (cA, 3, .inl (fun _ => nI 0))), (q4, .inl (cA, 6, .inl (fun _ => nI 0))), (q5, .inl (cA, 6, .inl (fun _ => nI 0))), (q6, .inl (cA, 2240, .inl (fun _ => nI 0)))] H := hP
  have hD : va_D A [(q, .inr (0, [.int (nI 0), .ref q1, .ref q2, .ref q3, .int (nI 0), .ref q4, .int (nI 0), .ref q5, .int (nI 0), .ref q6])), (q1, .inl (cA, 3, .inl (fun _ => nI 0))), (q2, .inl (cA, 3, .inl (fun _ => nI 0))), (q3, .inl (cA, 3, .inl (fun _ => nI 0))), (q4, .inl (cA, 6, .inl (fun _ => nI 0))), (q5, .inl (cA, 6, .inl (fun _ => nI 0))), (q6, .inl (cA, 2240, .inl (fun _ => nI 0)))] := hD
  refine lv_aload_n hx hb dX0_init_50 rfl (lv_at hl 0 rfl) ?_
  refine lv_iconst (v := nI (0)) hx hb dX0_init_51 (by decide +kernel) ?_
  refine va_put (D := (dC, dI)) (ci := 0) (v := .int (nI 0)) (ty := .boolean) (C := RX0) (T := TX0) (N := 10) hx hb hts in_X0 tyX0 tyX0_ok nmX0 hown hK hP hD hS 0 rfl rfl 8 (by decide) (hts _ q43) (fun _ h9 => h9) rfl (by decide +kernel) rfl rfl (Nat.le_of_ble_eq_true rfl) dX0_init_52 (fun H locs hP hD hS => ?_)
  have hP : va_P (dC, dI) zCl [(q, .inr (0, [.int (nI 0), .ref q1, .ref q2, .ref q3, .int (nI 0), .ref q4, .int (nI 0), .ref q5, .int (nI 0), .ref q6])), (q1, .inl (cA, 3, .inl (fun _ => nI 0))), (q2, .inl (cA, 3, .inl (fun _ => nI 0))), (q3, .inl (cA, 3, .inl (fun _ => nI 0))), (q4, .inl (cA, 6, .inl (fun _ => nI 0))), (q5, .inl (cA, 6, .inl (fun _ => nI 0))), (q6, .inl (cA, 2240, .inl (fun _ => nI 0)))] H := hP
  have hD : va_D A [(q, .inr (0, [.int (nI 0), .ref q1, .ref q2, .ref q3, .int (nI 0), .ref q4, .int (nI 0), .ref q5, .int (nI 0), .ref q6])), (q1, .inl (cA, 3, .inl (fun _ => nI 0))), (q2, .inl (cA, 3, .inl (fun _ => nI 0))), (q3, .inl (cA, 3, .inl (fun _ => nI 0))), (q4, .inl (cA, 6, .inl (fun _ => nI 0))), (q5, .inl (cA, 6, .inl (fun _ => nI 0))), (q6, .inl (cA, 2240, .inl (fun _ => nI 0)))] := hD
  exact W.vret hx hb hr (fun t9 ht9 hW9 => ⟨⟨(fun k => List.getD [q, q1, q2, q3, q4, q5, q6] k 0, cA), rfl, rfl, by rw [ht9]; exact hP, va_K.moved hW9.alike hK, hD⟩, hS.F ht9⟩) hS.2.2 dX0_init_55
set_option maxHeartbeats 8000000 in
set_option maxRecDepth 100000 in
/-- the constructor: fields 0, arrays of 0 -/
theorem met_X1_init (l : Launch) (dC : Nat → ClassId) (dI : Nat → Nat → Nat) (q sz : Nat) : Met l yX1_init (ws_ yX1_init cX1_init 1 none) ({ frames := 1, cells := 4, slots := 180, locals := 12 }) (va_Pc [.ref q] (fun U => U.heap.size = sz ∧ va_P (dC, dI) zCl [(q, .inr (1, [.int (nI 0), .null, .null, .null, .int (nI 0), .int (nI 0), .int (nI 0), .null]))] U.heap ∧ va_K (dC, dI) zCl [] U ∧ va_D (fun _ => True) [(q, .inr (1, [.int (nI 0), .null, .null, .null, .int (nI 0), .int (nI 0), .int (nI 0), .null]))])) (va_Qv (fun u : (Nat → Nat) × ClassId => u.1 0 = q) (fun u t => va_P (dC, dI) zCl (wM u.1 u.2 (nI 0) (fun _ => nI 0) (fun _ => nI 0) (fun _ => nI 0) (nI 0) (nI 0) (nI 0) (fun _ => nI 0)) t.heap ∧ va_K (dC, dI) zCl [(u.2, .int)] t ∧ va_D (va_A [(q, .inr (1, [.int (nI 0), .null, .null, .null, .int (nI 0), .int (nI 0), .int (nI 0), .null]))] sz) (wM u.1 u.2 (nI 0) (fun _ => nI 0) (fun _ => nI 0) (fun _ => nI 0) (nI 0) (nI 0) (nI 0) (fun _ => nI 0))) (va_A [(q, .inr (1, [.int (nI 0), .null, .null, .null, .int (nI 0), .int (nI 0), .int (nI 0), .null]))] sz)) 4 180 (va_A [(q, .inr (1, [.int (nI 0), .null, .null, .null, .int (nI 0), .int (nI 0), .int (nI 0), .null]))] sz) := by
  refine Met.ofW (cc := cX1_init) (maxL := 1) (ret := none) (by decide) rfl ?_
  intro p e s m args below meth c s₁ B hml hv
  obtain ⟨rfl, hsz, hP, hK, hD0⟩ := hv
  have hx := B.exec
  have hb := B.bytes
  have hr := B.returns
  have hts := atoms_spec (ws := ws_ yX1_init cX1_init 1 none) B.pre
  have hts : ∀ w ∈ lw_all, w.before _ s = true := fun w h => hts w (List.mem_cons_of_mem _ h)
  have hown : s.vm.findClass RX1 = some m.cls := findClass_of_methodNamed B.named
  have hlocks := B.notSynchronized
  have hin : meth.name = "<init>" := (name_of_methodNamed B.named B.method).1
  subst hsz
  have hD := hD0.self (sz := s.heap.size)
  generalize hAe : va_A [(q, .inr (1, [.int (nI 0), .null, .null, .null, .int (nI 0), .int (nI 0), .int (nI 0), .null]))] s.heap.size = A at hD ⊢
  have hA : ∀ q : Nat, s.heap.size ≤ q → A q := fun q h => by rw [← hAe]; exact Or.inr h
  have hS : va_S A s.heap s.heap [] := va_S.rf
  clear hD0 hAe
  have hl := lv_entry ([.ref q]) (n := 1) (Nat.le_of_ble_eq_true rfl)
  rw [lg_entry_eq]
  generalize (lg_sl ([.ref q]) ++ List.replicate (1 - (lg_sl ([.ref q])).length) Slot.unset).toArray = ls at hl ⊢
  have hl : lv_has ls 1 [(0, .ref q)] := hl
  refine lv_aload_n hx hb dX1_init_0 rfl (lv_at hl 0 rfl) ?_
  refine W.objInit hx hb hown (hts _ q166) (hts _ q33) (hts _ q34) rfl (by rw [hml]; exact hl.1) rfl dX1_init_1 (Nat.le_of_ble_eq_true rfl) (Nat.le_of_ble_eq_true rfl) ?_
  refine W.eq (g2 := F0 m 4 ls []) rfl ?_
  refine lv_aload_n hx hb dX1_init_4 rfl (lv_at hl 0 rfl) ?_
  refine lv_iconst (v := nI (3)) hx hb dX1_init_5 (by decide +kernel) ?_
  refine va_newa (atype := .int) (ty := .int) (a0 := (3, .inl (fun _ => nI 0))) (N' := 3) hx hb (hts _ q66) rfl hK hP hD hS hA (fun _ => rfl) (by decide +kernel) (by decide +kernel) (by decide) (Nat.le_of_ble_eq_true rfl) (Nat.le_of_ble_eq_true rfl) dX1_init_6 (fun q1 cA H hK hP hD hS => ?_)
  have hP : va_P (dC, dI) zCl [(q, .inr (1, [.int (nI 0), .null, .null, .null, .int (nI 0), .int (nI 0), .int (nI 0), .null])), (q1, .inl (cA, 3, .inl (fun _ => nI 0)))] H := hP
  have hD : va_D A [(q, .inr (1, [.int (nI 0), .null, .null, .null, .int (nI 0), .int (nI 0), .int (nI 0), .null])), (q1, .inl (cA, 3, .inl (fun _ => nI 0)))] := hD
  refine W.widen (k := 1) (n := 3) (Nat.le_of_ble_eq_true rfl) (Nat.le_of_ble_eq_true rfl) ?_
  refine va_putF (D := (dC, dI)) (ci := 1) (v := .ref q1) (ty := .array .int) (C := RX1) (T := TX1) (N := 8) hx hb hts in_X1 tyX1 tyX1_ok nmX1 hown hK hP hD hS 0 rfl rfl 1 (by decide) (hts _ q168) (fun _ h9 => h9) rfl hin rfl (by decide +kernel) rfl rfl (Nat.le_of_ble_eq_true rfl) dX1_init_8 (fun H locs hP hD hS => ?_)
  have hP : va_P (dC, dI) zCl [(q, .inr (1, [.int (nI 0), .ref q1, .null, .null, .int (nI 0), .int (nI 0), .int (nI 0), .null])), (q1, .inl (cA, 3, .inl (fun _ => nI 0)))] H := hP
  have hD : va_D A [(q, .inr (1, [.int (nI 0), .ref q1, .null, .null, .int (nI 0), .int (nI 0), .int (nI 0), .null])), (q1, .inl (cA, 3, .inl (fun _ => nI 0)))] := hD
  refine lv_aload_n hx hb dX1_init_11 rfl (lv_at hl 0 rfl) ?_
  refine lv_iconst (v := nI (3)) hx hb dX1_init_12 (by decide +kernel) ?_
  refine va_newa (atype := .int) (ty := .int) (a0 := (3, .inl (fun _ => nI 0))) (N' := 3) hx hb (hts _ q66) rfl hK hP hD hS hA (fun _ => rfl) (by decide +kernel) (by decide +kernel) (by decide) (Nat.le_of_ble_eq_true rfl) (Nat.le_of_ble_eq_true rfl) dX1_init_13 (fun q2 cB H hK hP hD hS => ?_)
  have e9 : cB = cA := Option.some.inj ((show s.vm.findClass _ = some cB from (hK.2 1 _ rfl).2).symm.trans (show s.vm.findClass _ = some cA from (hK.2 0 _ rfl).2))
  subst cB
  have hK : va_K (dC, dI) zCl [(cA, .int)] s := hK.sub [0] rfl
  have hP : va_P (dC, dI) zCl [(q, .inr (1, [.int (nI 0), .ref q1, .null, .null, .int (nI 0), .int (nI 0), .int (nI 0), .null])), (q1, .inl (cA, 3, .inl (fun _ => nI 0))), (q2, .inl (cA, 3, .inl (fun _ => nI 0)))] H := hP
  have hD : va_D A [(q, .inr (1, [.int (nI 0), .ref q1, .null, .null, .int (nI 0), .int (nI 0), .int (nI 0), .null])), (q1, .inl (cA, 3, .inl (fun _ => nI 0))), (q2, .inl (cA, 3, .inl (fun _ => nI 0)))] := hD
  refine W.widen (k := 2) (n := 6) (Nat.le_of_ble_eq_true rfl) (Nat.le_of_ble_eq_true rfl) ?_
  refine va_putF (D := (dC, dI)) (ci := 1) (v := .ref q2) (ty := .array .int) (C := RX1) (T := TX1) (N := 8) hx hb hts in_X1 tyX1 tyX1_ok nmX1 hown hK hP hD hS 0 rfl rfl 2 (by decide) (hts _ q169) (fun _ h9 => h9) rfl hin rfl (by decide +kernel) rfl rfl (Nat.le_of_ble_eq_true rfl) dX1_init_15 (fun H locs hP hD hS => ?_)
  have hP : va_P (dC, dI) zCl [(q, .inr (1, [.int (nI 0), .ref q1, .ref q2, .null, .int (nI 0), .int (nI 0), .int (nI 0), .null])), (q1, .inl (cA, 3, .inl (fun _ => nI 0))), (q2, .inl (cA, 3, .inl (fun _ => nI 0)))] H := hP
  have hD : va_D A [(q, .inr (1, [.int (nI 0), .ref q1, .ref q2, .null, .int (nI 0), .int (nI 0), .int (nI 0), .null])), (q1, .inl (cA, 3, .inl (fun _ => nI 0))), (q2, .inl (cA, 3, .inl (fun _ => nI 0)))] := hD
  refine lv_aload_n hx hb dX1_init_18 rfl (lv_at hl 0 rfl) ?_
  refine lv_iconst (v := nI (3)) hx hb dX1_init_19 (by decide +kernel) ?_
  refine va_newa (atype := .int) (ty := .int) (a0 := (3, .inl (fun _ => nI 0))) (N' := 3) hx hb (hts _ q66) rfl hK hP hD hS hA (fun _ => rfl) (by decide +kernel) (by decide +kernel) (by decide) (Nat.le_of_ble_eq_true rfl) (Nat.le_of_ble_eq_true rfl) dX1_init_20 (fun q3 cB H hK hP hD hS => ?_)
  have e9 : cB = cA := Option.some.inj ((show s.vm.findClass _ = some cB from (hK.2 1 _ rfl).2).symm.trans (show s.vm.findClass _ = some cA from (hK.2 0 _ rfl).2))
  subst cB
  have hK : va_K (dC, dI) zCl [(cA, .int)] s := hK.sub [0] rfl
  have hP : va_P (dC, dI) zCl [(q, .inr (1, [.int (nI 0), .ref q1, .ref q2, .null, .int (nI 0), .int (nI 0), .int (nI 0), .null])), (q1, .inl (cA, 3, .inl (fun _ => nI 0))), (q2, .inl (cA, 3, .inl (fun _ => nI 0))), (q3, .inl (cA, 3, .inl (fun _ => nI 0)))] H := hP
  have hD : va_D A [(q, .inr (1, [.int (nI 0), .ref q1, .ref q2, .null, .int (nI 0), .int (nI 0), .int (nI 0), .null])), (q1, .inl (cA, 3, .inl (fun _ => nI 0))), (q2, .inl (cA, 3, .inl (fun _ => nI 0))), (q3, .inl (cA, 3, .inl (fun _ => nI 0)))] := hD
  refine W.widen (k := 3) (n := 9) (Nat.le_of_ble_eq_true rfl) (Nat.le_of_ble_eq_true rfl) ?_
  refine va_putF (D := (dC, dI)) (ci := 1) (v := .ref q3) (ty := .array .int) (C := RX1) (T := TX1) (N := 8) hx hb hts in_X1 tyX1 tyX1_ok nmX1 hown hK hP hD hS 0 rfl rfl 3 (by decide) (hts _ q170) (fun _ h9 => h9) rfl hin rfl (by decide +kernel) rfl rfl (Nat.le_of_ble_eq_true rfl) dX1_init_22 (fun H locs hP hD hS => ?_)
  have hP : va_P (dC, dI) zCl [(q, .inr (1, [.int (nI 0), .ref q1, .ref q2, .ref q3, .int (nI 0), .int (nI 0), .int (nI 0), .null])), (q1, .inl (cA, 3, .inl (fun _ => nI 0))), (q2, .inl (cA, 3, .inl (fun _ => nI 0))), (q3, .inl (cA, 3, .inl (fun _ => nI 0)))] H := hP
  have hD : va_D A [(q, .inr (1, [.int (nI 0), .ref q1, .ref q2, .ref q3, .int (nI 0), .int (nI 0), .int (nI 0), .null])), (q1, .inl (cA, 3, .inl (fun _ => nI 0))), (q2, .inl (cA, 3, .inl (fun _ => nI 0))), (q3, .inl (cA, 3, .inl (fun _ => nI 0)))] := hD
  refine lv_aload_n hx hb dX1_init_25 rfl (lv_at hl 0 rfl) ?_
  refine lv_sipush (v := nI (171)) hx hb dX1_init_26 (by decide +kernel) ?_
  refine va_newa (atype := .int) (ty := .int) (a0 := (171, .inl (fun _ => nI 0))) (N' := 171) hx hb (hts _ q66) rfl hK hP hD hS hA (fun _ => rfl) (by decide +kernel) (by decide +kernel) (by decide) (Nat.le_of_ble_eq_true rfl) (Nat.le_of_ble_eq_true rfl) dX1_init_29 (fun q4 cB H hK hP hD hS => ?_)
  have e9 : cB = cA := Option.some.inj ((show s.vm.findClass _ = some cB from (hK.2 1 _ rfl).2).symm.trans (show s.vm.findClass _ = some cA from (hK.2 0 _ rfl).2))
  subst cB
  have hK : va_K (dC, dI) zCl [(cA, .int)] s := hK.sub [0] rfl
  have hP : va_P (dC, dI) zCl [(q, .inr (1, [.int (nI 0), .ref q1, .ref q2, .ref q3, .int (nI 0), .int (nI 0), .int (nI 0), .null])), (q1, .inl (cA, 3, .inl (fun _ => nI 0))), (q2, .inl (cA, 3, .inl (fun _ => nI 0))), (q3, .inl (cA, 3, .inl (fun _ => nI 0))), (q4, .inl (cA, 171, .inl (fun _ => nI 0)))] H := hP
  have hD : va_D A [(q, .inr (1, [.int (nI 0), .ref q1, .ref q2, .ref q3, .int (nI 0), .int (nI 0), .int (nI 0), .null])), (q1, .inl (cA, 3, .inl (fun _ => nI 0))), (q2, .inl (cA, 3, .inl (fun _ => nI 0))), (q3, .inl (cA, 3, .inl (fun _ => nI 0))), (q4, .inl (cA, 171, .inl (fun _ => nI 0)))] := hD
  refine W.widen (k := 4) (n := 180) (Nat.le_of_ble_eq_true rfl) (Nat.le_of_ble_eq_true rfl) ?_
  refine va_putF (D := (dC, dI)) (ci := 1) (v := .ref q4) (ty := .array .int) (C := RX1) (T := TX1) (N := 8) hx hb hts in_X1 tyX1 tyX1_ok nmX1 hown hK hP hD hS 0 rfl rfl 7 (by decide) (hts _ q174) (fun _ h9 => h9) rfl hin rfl (by decide +kernel) rfl rfl (Nat.le_of_ble_eq_true rfl) dX1_init_31 (fun H locs hP hD hS => ?_)
  have hP : va_P (dC, dI) zCl [(q, .inr (1, [.int (nI 0), .ref q1, .ref q2, .ref q3, .int (nI 0), .int (nI 0), .int (nI 0), .ref q4])), (q1, .inl (cA, 3, .inl (fun _ => nI 0))), (q2, .inl (cA, 3, .inl (fun _ => nI 0))), (q3, .inl (cA, 3, .inl (fun _ => nI 0))), (q4, .inl (cA, 171, .inl (fun _ => nI 0)))] H := hP
  have hD : va_D A [(q, .inr (1, [.int (nI 0), .ref q1, .ref q2, .ref q3, .int (nI 0), .int (nI 0), .int (nI 0), .ref q4])), (q1, .inl (cA, 3, .inl (fun _ => nI 0))), (q2, .inl (cA, 3, .inl (fun _ => nI 0))), (q3, .inl (cA, 3, .inl (fun _ => nI 0))), (q4, .inl (cA, 171, .inl (fun _ => nI 0)))] := hD
  exact W.vret hx hb hr (fun t9 ht9 hW9 => ⟨⟨(fun k => List.getD [q, q1, q2, q3, q4] k 0, cA), rfl, rfl, by rw [ht9]; exact hP, va_K.moved hW9.alike hK, hD⟩, hS.F ht9⟩) hS.2.2 dX1_init_34
end
section
/-! the plain law, second half: a state's parts are the reference's words; numbers of lists -/
theorem znx_hi {C : zC} {N s x : Nat} (hN : N ≤ 3) (hx : x < 4) (h : ∀ j, j < N → zG (C j)) : znx C s x N / 64 = x := by
  obtain ⟨lo, h1, h2⟩ := znx_form C s x hx N h
  have h3 : 4 ^ N ≤ 4 ^ 3 := Nat.pow_le_pow_right (by decide) hN
  omega
theorem znx_dig {C : zC} {s x : Nat} (hx : x < 4) : ∀ (i : Nat) {c : Nat}, i ≤ 3 → (∀ j, j < i → zG (C j)) → c < i → znx C s x i / 4 ^ c % 4 = zgo (C c) (s / 4 ^ c % 4) (s / 64) x
  | 0, c, _, _, hc => by omega
  | i + 1, c, hi, h, hc => by
    obtain ⟨lo, h1, h2⟩ := znx_form C s x hx i (fun j hj => h j (by omega))
    have h3 := zgo_lt (s := s / 4 ^ i % 4) (l := s / 64) (x := x) (h i (by omega)) (Nat.mod_lt _ (by decide)) hx
    have h4 : znx C s x (i + 1) = znx C s x i + zgo (C i) (s / 4 ^ i % 4) (s / 64) x * 4 ^ i := rfl
    rcases Nat.lt_or_ge c i with q | q
    · rw [← znx_dig hx i (by omega) (fun j hj => h j (by omega)) q, h4]
      generalize zgo (C i) (s / 4 ^ i % 4) (s / 64) x = z
      generalize znx C s x i = m
      rcases (show (i = 1 ∧ c = 0) ∨ (i = 2 ∧ c = 0) ∨ (i = 2 ∧ c = 1) by omega) with ⟨e1, e2⟩ | ⟨e1, e2⟩ | ⟨e1, e2⟩ <;> subst e1 <;> subst e2 <;> omega
    · have e : c = i := by omega
      subst e
      rw [h4, h2]
      generalize zgo (C c) (s / 4 ^ c % 4) (s / 64) x = z at h3
      rcases (show c = 0 ∨ c = 1 ∨ c = 2 by omega) with e | e | e <;> subst e <;> omega
/-- a condition's part of the state behind i elements -/
def zph (c : Nat × Nat × Nat) (n l i : Nat) : Nat :=
  if c.1 = 0 then zsm n l i % c.2.1
  else if c.1 = 1 then min (zoc n l c.2.1 i) c.2.2
  else if c.1 = 2 then min (zoc n l c.2.1 i) (c.2.2 + 1)
  else if c.1 = 3 ∨ c.1 = 4 then (zpr n l c.2.1 c.2.2 (i - 1)).toNat
  else if c.1 = 5 then (if i = 0 then 0 else if c.2.1 ≤ zat n l 0 then 1 else 2)
  else if c.1 = 6 then 0
  else if c.1 = 7 then min i c.2.1
  else if c.1 = 8 then (zri n l (i - 1)).toNat
  else zoc n l c.2.1 i % 2
def zla (n l i : Nat) : Nat := if i = 0 then 4 else zat n l (i - 1)
theorem zkinds {k : Nat} (h : k ≤ 9) : k = 0 ∨ k = 1 ∨ k = 2 ∨ k = 3 ∨ k = 4 ∨ k = 5 ∨ k = 6 ∨ k = 7 ∨ k = 8 ∨ k = 9 := by omega
theorem zph_0 {c : Nat × Nat × Nat} (hg : zG c) (n l : Nat) : zph c n l 0 = 0 := by
  obtain ⟨k, a, b⟩ := c
  have h9 := hg.1
  rcases zkinds h9 with h | h | h | h | h | h | h | h | h | h <;> dsimp only at h <;> subst h <;> simp [zph, zsm, zoc, zpr, zri]
theorem zpr_step {n l a b i : Nat} (ha : a ≤ 3) : (if zla n l i = a ∧ zat n l i = b then 1 else (zpr n l a b (i - 1)).toNat) = (zpr n l a b (i + 1 - 1)).toNat := by
  rw [Nat.add_sub_cancel]
  cases i with
  | zero =>
    have h : zla n l 0 = 4 := rfl
    rw [h, if_neg (by omega)]
  | succ j =>
    have h : zla n l (j + 1) = zat n l j := rfl
    rw [h, Nat.add_sub_cancel]
    show _ = (zpr n l a b j || decide (zat n l j = a ∧ zat n l (j + 1) = b)).toNat
    by_cases hc : zat n l j = a ∧ zat n l (j + 1) = b
    · rw [if_pos hc, decide_eq_true hc, Bool.or_true]
      rfl
    · rw [if_neg hc, decide_eq_false hc, Bool.or_false]
theorem zri_step {n l i : Nat} : (if zla n l i < zat n l i then 1 else (zri n l (i - 1)).toNat) = (zri n l (i + 1 - 1)).toNat := by
  rw [Nat.add_sub_cancel]
  have hx := zat_lt n l i
  cases i with
  | zero =>
    have h : zla n l 0 = 4 := rfl
    rw [h, if_neg (by omega)]
  | succ j =>
    have h : zla n l (j + 1) = zat n l j := rfl
    rw [h, Nat.add_sub_cancel]
    show _ = (zri n l j || decide (zat n l j < zat n l (j + 1))).toNat
    by_cases hc : zat n l j < zat n l (j + 1)
    · rw [if_pos hc, decide_eq_true hc, Bool.or_true]
      rfl
    · rw [if_neg hc, decide_eq_false hc, Bool.or_false]
theorem zla_4 (n l i : Nat) : zla n l i ≠ 4 ↔ i ≠ 0 := by
  unfold zla
  split
  · omega
  · have := zat_lt n l (i - 1)
    omega
theorem zph_s {c : Nat × Nat × Nat} (hg : zG c) (n l i : Nat) : zgo c (zph c n l i) (zla n l i) (zat n l i) = zph c n l (i + 1) := by
  obtain ⟨k, a, b⟩ := c
  obtain ⟨h9, h0, h1, h2, h3, h4⟩ := hg
  dsimp only at h9 h0 h1 h2 h3 h4
  rcases zkinds h9 with h | h | h | h | h | h | h | h | h | h <;> subst h
  · show (zsm n l i % a + zat n l i) % a = (zsm n l i + zat n l i) % a
    rw [Nat.mod_add_mod]
  · show (if zat n l i = a ∧ min (zoc n l a i) b < b then min (zoc n l a i) b + 1 else min (zoc n l a i) b) = min (zoc n l a i + if zat n l i = a then 1 else 0) b
    (repeat' split) <;> omega
  · show (if zat n l i = a ∧ min (zoc n l a i) (b + 1) ≤ b then min (zoc n l a i) (b + 1) + 1 else min (zoc n l a i) (b + 1)) = min (zoc n l a i + if zat n l i = a then 1 else 0) (b + 1)
    (repeat' split) <;> omega
  · exact zpr_step (h1 (by decide))
  · exact zpr_step (h1 (by decide))
  · show (if zla n l i ≠ 4 then (if i = 0 then 0 else if a ≤ zat n l 0 then 1 else 2) else if a ≤ zat n l i then 1 else 2) = (if i + 1 = 0 then 0 else if a ≤ zat n l 0 then 1 else 2)
    rw [if_neg (Nat.succ_ne_zero i)]
    by_cases hi : i = 0
    · subst hi
      rw [if_neg (fun q => (zla_4 n l 0).mp q rfl)]
    · rw [if_pos ((zla_4 n l i).mpr hi), if_neg hi]
  · rfl
  · show (if min i a < a then min i a + 1 else min i a) = min (i + 1) a
    split <;> omega
  · exact zri_step
  · show (if zat n l i = a then (zoc n l a i % 2) ^^^ 1 else zoc n l a i % 2) = (zoc n l a i + if zat n l i = a then 1 else 0) % 2
    split
    · rcases Nat.mod_two_eq_zero_or_one (zoc n l a i) with q | q
      · rw [q]
        show 1 = _
        omega
      · rw [q]
        show 0 = _
        omega
    · rfl
theorem zbool_1 (b : Bool) : decide (b.toNat = 1) = b := by cases b <;> rfl
theorem zbool_0 (b : Bool) : decide (b.toNat = 0) = !b := by cases b <;> rfl
theorem zph_n {c : Nat × Nat × Nat} (hg : zG c) (n l : Nat) : zac c (zph c n l n) (zla n l n) = zmt c n l := by
  obtain ⟨k, a, b⟩ := c
  obtain ⟨h9, h0, h1, h2, h3, h4⟩ := hg
  dsimp only at h9 h0 h1 h2 h3 h4
  rcases zkinds h9 with h | h | h | h | h | h | h | h | h | h <;> subst h
  · rfl
  · show decide (min (zoc n l a n) b = b) = decide (b ≤ zoc n l a n)
    exact decide_eq_decide.mpr (by omega)
  · show decide (min (zoc n l a n) (b + 1) ≤ b) = decide (zoc n l a n ≤ b)
    exact decide_eq_decide.mpr (by omega)
  · exact zbool_1 _
  · exact zbool_0 _
  · show decide ((if n = 0 then 0 else if a ≤ zat n l 0 then 1 else 2) = 1) = decide (0 < n ∧ a ≤ zat n l 0)
    refine decide_eq_decide.mpr ?_
    (repeat' split) <;> omega
  · show decide (zla n l n ≠ 4 ∧ a ≤ zla n l n) = decide (0 < n ∧ a ≤ zat n l (n - 1))
    refine decide_eq_decide.mpr ?_
    rw [zla_4]
    unfold zla
    split <;> omega
  · show decide (min n a = a) = decide (a ≤ n)
    exact decide_eq_decide.mpr (by omega)
  · exact zbool_1 _
  · rfl
theorem zrun {N : Nat} {C : zC} (hN : N ≤ 3) (hG : ∀ j, j < N → zG (C j)) (n l : Nat) : ∀ i, zrs N C (zat n l) i / 64 = zla n l i ∧ ∀ c, c < N → zrs N C (zat n l) i / 4 ^ c % 4 = zph (C c) n l i
  | 0 => by
    refine ⟨show 256 / 64 = 4 from rfl, fun c hc => ?_⟩
    rw [zph_0 (hG c hc)]
    show 256 / 4 ^ c % 4 = 0
    rcases (show c = 0 ∨ c = 1 ∨ c = 2 by omega) with e | e | e <;> subst e <;> rfl
  | i + 1 => by
    obtain ⟨h1, h2⟩ := zrun hN hG n l i
    have hx := zat_lt n l i
    refine ⟨znx_hi hN hx hG, fun c hc => ?_⟩
    show znx C (zrs N C (zat n l) i) (zat n l i) N / 4 ^ c % 4 = _
    rw [znx_dig hx N hN hG hc, h1, h2 c hc, zph_s (hG c hc)]
theorem zak_fl {N : Nat} {C : zC} (hN : N ≤ 3) (hG : ∀ j, j < N → zG (C j)) (n l : Nat) : ∀ M, M ≤ N → zak C (zrs N C (zat n l) n) M = zfl C n l M
  | 0, _ => rfl
  | M + 1, h => by
    obtain ⟨h1, h2⟩ := zrun hN hG n l n
    show (zak C (zrs N C (zat n l) n) M && zac (C M) (zrs N C (zat n l) n / 4 ^ M % 4) (zrs N C (zat n l) n / 64)) = (zfl C n l M && zmt (C M) n l)
    rw [zak_fl hN hG n l M (by omega), h1, h2 M (by omega), zph_n (hG M (by omega))]
theorem zmk_acc {N : Nat} {C : zC} (hN : N ≤ 3) (hG : ∀ j, j < N → zG (C j)) {n j : Nat} (hn : n ≤ 6) (hj : j < 4 ^ n) : zmk N C (zst n + j) = zacc N C 256 n j := by
  rw [zmk_at hn hj, ← zak_fl hN hG n j N (Nat.le_refl _), zrs_rf]
  rfl
theorem zcn_num {N : Nat} {C : zC} (hN : N ≤ 3) (hG : ∀ j, j < N → zG (C j)) {n D : Nat} (hn : n ≤ 6) (hD : D ≤ 4 ^ n) : zcn (zmk N C) (zst n + D) = zcn (zmk N C) (zst n) + zcn (zacc N C 256 n) D := by
  rw [zcn_add, zcn_eq D (fun i hi => zmk_acc hN hG hn (show i < 4 ^ n by omega))]
theorem zcn_st {N : Nat} {C : zC} (hN : N ≤ 3) (hG : ∀ j, j < N → zG (C j)) : ∀ n, n ≤ 7 → zcn (zmk N C) (zst n) = zex N C 256 n
  | 0, _ => rfl
  | n + 1, h => by
    show zcn (zmk N C) (zst n + 4 ^ n) = zex N C 256 n + zwy N C n 256
    rw [zcn_num hN hG (by omega) (Nat.le_refl _), zcn_st hN hG n (by omega), zwy_cn]
theorem zall {N : Nat} {C : zC} (hN : N ≤ 3) (hG : ∀ j, j < N → zG (C j)) : zcn (zmk N C) 5461 = zex N C 256 7 := by
  rw [← zcn_st hN hG 7 (Nat.le_refl _), zst_7]
theorem zrank_eq {N : Nat} {C : zC} (hN : N ≤ 3) (hG : ∀ j, j < N → zG (C j)) {L D : Nat} (hL : L ≤ 6) (hD : D < 4 ^ L) : zcn (zmk N C) (zst L + D) = zrk N C (zat L D) L L := by
  rw [zcn_num hN hG hL (Nat.le_of_lt hD), zcn_st hN hG L (by omega), zrank N C L 256 D hD, zrk_2]
theorem zof_eq {N : Nat} {C : zC} (hN : N ≤ 3) (hG : ∀ j, j < N → zG (C j)) {n : Nat} (hn : n ≤ 6) : zbt (zmk N C) (zst n) (zst (n + 1) - zst n) = zwy N C n 256 := by
  have e : zst (n + 1) - zst n = 4 ^ n := by
    show zst n + 4 ^ n - zst n = 4 ^ n
    rw [Nat.add_sub_cancel_left]
  rw [e, zbt_cn, zcn_eq (4 ^ n) (fun i hi => zmk_acc hN hG hn hi), zwy_cn]
theorem zfo_fm {N : Nat} {C : zC} (hN : N ≤ 3) (hG : ∀ j, j < N → zG (C j)) (x : Int32) : zfo N C x = zfm N C x := by
  unfold zfo zfm
  by_cases h0 : x < 0
  · rw [if_pos h0, if_pos h0]
  · rw [if_neg h0, if_neg h0]
    by_cases h6 : x ≤ nI 6
    · rw [if_neg (fun q => q h6), if_neg (fun q => q h6)]
      obtain ⟨k, hk, rfl⟩ := nI_of2 (M := nI 6) (n := 6) (by decide +kernel) h0 h6
      rw [nI_clamp (show k < 2 ^ 31 by omega), zof_eq hN hG hk]
    · rw [if_pos h6, if_pos h6]
theorem zxi_cn (N : Nat) (C : zC) (n L D : Nat) : ∀ m, zxi N C n L D m = zcn (fun l => zmk N C (zst n + l) && decide (l / 4 ^ (n - L) = D)) m
  | 0 => rfl
  | m + 1 => by
    show zxi N C n L D m + _ = zcn _ m + _
    rw [zxi_cn N C n L D m]
theorem zcat_lt {L j D r : Nat} (hD : D < 4 ^ L) (hr : r < 4 ^ j) : D * 4 ^ j + r < 4 ^ (L + j) := by
  have h : (D + 1) * 4 ^ j ≤ 4 ^ L * 4 ^ j := Nat.mul_le_mul_right _ hD
  rw [Nat.succ_mul] at h
  rw [Nat.pow_add]
  omega
theorem zxi_wy {N : Nat} {C : zC} (hN : N ≤ 3) (hG : ∀ j, j < N → zG (C j)) {L j D : Nat} (hLj : L + j ≤ 6) (hD : D < 4 ^ L) : zxi N C (L + j) L D (4 ^ (L + j)) = zwy N C j (zrs N C (zat L D) L) := by
  rw [zxi_cn, Nat.add_sub_cancel_left, Nat.pow_add, zcn_blk (fun l => zmk N C (zst (L + j) + l)) (4 ^ L) hD, zwy_cn]
  refine zcn_eq (4 ^ j) (fun r hr => ?_)
  show zmk N C (zst (L + j) + (D * 4 ^ j + r)) = _
  rw [zmk_acc hN hG hLj (zcat_lt hD hr), zacc_cat hr, zrs_rf]
theorem zxo_ex {N : Nat} {C : zC} (hN : N ≤ 3) (hG : ∀ j, j < N → zG (C j)) {L D : Nat} (hD : D < 4 ^ L) : ∀ j, L + j ≤ 7 → zxo N C L D j = zex N C (zrs N C (zat L D) L) j
  | 0, _ => rfl
  | j + 1, h => by
    show zxo N C L D j + zxi N C (L + j) L D (4 ^ (L + j)) = zex N C (zrs N C (zat L D) L) j + zwy N C j (zrs N C (zat L D) L)
    rw [zxo_ex hN hG hD j (by omega), zxi_wy hN hG (by omega) hD]
-- lists by their numbers
theorem zFf_num {N : Nat} {C : zC} (hN : N ≤ 3) (hG : ∀ j, j < N → zG (C j)) {x : Int32} {L : Nat} {f : Nat → Nat} (h : zFf N C x L f) : zMk N C x (zst L + zvl f L) := by
  obtain ⟨h6, hf, hx, ha⟩ := h
  have hD := zvl_lt L hf
  have hz := zat_vl L hf
  refine ⟨zst_b h6 hD, ?_, ?_⟩
  · rw [zmk_at h6 hD, ← zak_fl hN hG L (zvl f L) N (Nat.le_refl _), zrs_eq L hz]
    exact ha
  · rw [zrank_eq hN hG h6 hD, zrk_eq L hz]
    exact hx
theorem zMk_uniq {N : Nat} {C : zC} {x : Int32} {k k' : Nat} (h : zMk N C x k) (h' : zMk N C x k') : k = k' := by
  obtain ⟨h1, h2, h3⟩ := h
  obtain ⟨g1, g2, g3⟩ := h'
  have l1 := zcn_le (zmk N C) k
  have l2 := zcn_le (zmk N C) k'
  exact zcn_uniq h2 g2 ((nI_eq (by omega) (by omega)).mp (h3.symm.trans g3))
theorem zNo_Mk {N : Nat} {C : zC} (hN : N ≤ 3) (hG : ∀ j, j < N → zG (C j)) {x : Int32} {k : Nat} (h : zNo N C x) (h' : zMk N C x k) : False := by
  obtain ⟨g1, g2, g3⟩ := h'
  have l1 := zcn_le (zmk N C) k
  rcases h with h | h
  · rw [g3] at h
    exact nI_pos (by omega) h
  · have l2 := zcn_mono (zmk N C) (show k + 1 ≤ 5461 from g1)
    have l3 : zcn (zmk N C) (k + 1) = zcn (zmk N C) k + (zmk N C k).toNat := rfl
    rw [g2] at l3
    have l4 : true.toNat = 1 := rfl
    rw [zall hN hG] at l2
    have l5 := zex_7 N C 256 (Nat.le_refl 7)
    rw [g3] at h
    have l6 := (nI_leI (by omega) (by omega)).mp h
    omega
theorem zFf_Mn {N : Nat} {C : zC} (hN : N ≤ 3) (hG : ∀ j, j < N → zG (C j)) {x : Int32} {L : Nat} {f : Nat → Nat} (h : zFf N C x L f) (h' : zMn N C x) : False := by
  obtain ⟨g1, g2, g3⟩ := zFf_num hN hG h
  exact h' _ g1 g2 g3
theorem zFf_k {N : Nat} {C : zC} (hN : N ≤ 3) (hG : ∀ j, j < N → zG (C j)) {x : Int32} {L k : Nat} {f : Nat → Nat} (h : zFf N C x L f) (h' : zMk N C x k) : zln k = L ∧ k - zst L < 4 ^ L ∧ ∀ j, j < L → zat L (k - zst L) j = f j := by
  have e := zMk_uniq h' (zFf_num hN hG h)
  obtain ⟨h6, hf, hx, ha⟩ := h
  have hD := zvl_lt L hf
  subst e
  rw [Nat.add_sub_cancel_left]
  exact ⟨zln_at h6 hD, hD, zat_vl L hf⟩
theorem zel_eq {f f' : Nat → Nat} {L : Nat} (hL : L < 2 ^ 31) (h : ∀ j, j < L → f j = f' j) (x : Int32) : zel f L x = zel f' L x := by
  unfold zel
  by_cases h0 : x < 0
  · rw [if_pos h0, if_pos h0]
  · rw [if_neg h0, if_neg h0]
    by_cases h1 : x < nI L
    · rw [if_pos h1, if_pos h1]
      obtain ⟨j, hj, rfl⟩ := zix h0 h1 hL
      rw [nI_clamp (by omega), h j hj]
    · rw [if_neg h1, if_neg h1]
-- a new condition
theorem zin_of {x : Int32} {lo hi : Nat} (hl : lo < 2 ^ 31) (hh : hi < 2 ^ 31) (h : zin x (nI lo) (nI hi) = true) : ∃ j : Nat, lo ≤ j ∧ j ≤ hi ∧ x = nI j := by
  unfold zin at h
  rw [Bool.and_eq_true, Bool.not_eq_true', Bool.not_eq_true', decide_eq_false_iff_not, decide_eq_false_iff_not] at h
  have h1 := zle_nlt h.1
  have h2 := zle_nlt h.2
  rw [Int32.le_iff_toInt_le, nI_toInt hl] at h1
  rw [Int32.le_iff_toInt_le, nI_toInt hh] at h2
  have h0 : ¬ x < 0 := by
    rw [Int32.lt_iff_toInt_lt]
    show ¬ x.toInt < 0
    omega
  obtain ⟨j, hj, rfl⟩ := nI_of h0
  rw [nI_toInt hj] at h1 h2
  exact ⟨j, by omega, by omega, rfl⟩
theorem zG_mk {k a b : Nat} (h9 : k ≤ 9) (h0 : k = 0 → 2 ≤ a ∧ a ≤ 4 ∧ b < a) (h1 : k ≠ 0 → a ≤ 3) (h2 : b ≤ 3) (h3 : k = 2 → b ≤ 2) (h4 : k = 9 → b ≤ 1) : zG (k, a, b) := ⟨h9, h0, h1, h2, h3, h4⟩
theorem zgn_rep {k : Nat} {a b : Int32} (hk : k ≤ 9) (h : zgn k a b = true) : ∃ c : Nat × Nat × Nat, zRep (nI k) a b c := by
  rcases zkinds hk with e | e | e | e | e | e | e | e | e | e <;> subst e
  · have h : (zin a (nI 2) (nI 4) && zin b (nI 0) (a - nI 1)) = true := h
    rw [Bool.and_eq_true] at h
    obtain ⟨i, i1, i2, rfl⟩ := zin_of (by decide) (by decide) h.1
    have h2 := h.2
    rw [pk_sub (show 1 ≤ i by omega)] at h2
    obtain ⟨j, j1, j2, rfl⟩ := zin_of (by decide) (by omega) h2
    exact ⟨(0, i, j), zG_mk (by omega) (by omega) (by omega) (by omega) (by omega) (by omega), rfl, fun _ => rfl, fun _ => rfl⟩
  · have h : (zin a (nI 0) (nI 3) && zin b (nI 1) (nI 3)) = true := h
    rw [Bool.and_eq_true] at h
    obtain ⟨i, i1, i2, rfl⟩ := zin_of (by decide) (by decide) h.1
    obtain ⟨j, j1, j2, rfl⟩ := zin_of (by decide) (by decide) h.2
    exact ⟨(1, i, j), zG_mk (by omega) (by omega) (by omega) (by omega) (by omega) (by omega), rfl, fun _ => rfl, fun _ => rfl⟩
  · have h : (zin a (nI 0) (nI 3) && zin b (nI 0) (nI 2)) = true := h
    rw [Bool.and_eq_true] at h
    obtain ⟨i, i1, i2, rfl⟩ := zin_of (by decide) (by decide) h.1
    obtain ⟨j, j1, j2, rfl⟩ := zin_of (by decide) (by decide) h.2
    exact ⟨(2, i, j), zG_mk (by omega) (by omega) (by omega) (by omega) (by omega) (by omega), rfl, fun _ => rfl, fun _ => rfl⟩
  · have h : (zin a (nI 0) (nI 3) && zin b (nI 0) (nI 3)) = true := h
    rw [Bool.and_eq_true] at h
    obtain ⟨i, i1, i2, rfl⟩ := zin_of (by decide) (by decide) h.1
    obtain ⟨j, j1, j2, rfl⟩ := zin_of (by decide) (by decide) h.2
    exact ⟨(3, i, j), zG_mk (by omega) (by omega) (by omega) (by omega) (by omega) (by omega), rfl, fun _ => rfl, fun _ => rfl⟩
  · have h : (zin a (nI 0) (nI 3) && zin b (nI 0) (nI 3)) = true := h
    rw [Bool.and_eq_true] at h
    obtain ⟨i, i1, i2, rfl⟩ := zin_of (by decide) (by decide) h.1
    obtain ⟨j, j1, j2, rfl⟩ := zin_of (by decide) (by decide) h.2
    exact ⟨(4, i, j), zG_mk (by omega) (by omega) (by omega) (by omega) (by omega) (by omega), rfl, fun _ => rfl, fun _ => rfl⟩
  · have h : zin a (nI 0) (nI 3) = true := h
    obtain ⟨i, i1, i2, rfl⟩ := zin_of (by decide) (by decide) h
    exact ⟨(5, i, 0), zG_mk (by omega) (by omega) (by omega) (by omega) (by omega) (by omega), rfl, fun _ => rfl, fun q => absurd q (by dsimp only; omega)⟩
  · have h : zin a (nI 0) (nI 3) = true := h
    obtain ⟨i, i1, i2, rfl⟩ := zin_of (by decide) (by decide) h
    exact ⟨(6, i, 0), zG_mk (by omega) (by omega) (by omega) (by omega) (by omega) (by omega), rfl, fun _ => rfl, fun q => absurd q (by dsimp only; omega)⟩
  · have h : zin a (nI 0) (nI 3) = true := h
    obtain ⟨i, i1, i2, rfl⟩ := zin_of (by decide) (by decide) h
    exact ⟨(7, i, 0), zG_mk (by omega) (by omega) (by omega) (by omega) (by omega) (by omega), rfl, fun _ => rfl, fun q => absurd q (by dsimp only; omega)⟩
  · exact ⟨(8, 0, 0), zG_mk (by omega) (by omega) (by omega) (by omega) (by omega) (by omega), rfl, fun q => absurd rfl q, fun q => absurd q (by dsimp only; omega)⟩
  · have h : (zin a (nI 0) (nI 3) && zin b (nI 0) (nI 1)) = true := h
    rw [Bool.and_eq_true] at h
    obtain ⟨i, i1, i2, rfl⟩ := zin_of (by decide) (by decide) h.1
    obtain ⟨j, j1, j2, rfl⟩ := zin_of (by decide) (by decide) h.2
    exact ⟨(9, i, j), zG_mk (by omega) (by omega) (by omega) (by omega) (by omega) (by omega), rfl, fun _ => rfl, fun _ => rfl⟩
theorem zreps_add {N : Nat} {C : zC} {ks as_ bs : Nat → Int32} {k a b : Int32} {c : Nat × Nat × Nat} (h : zReps N C ks as_ bs) (hc : zRep k a b c) : zReps (N + 1) (fun i => if i = N then c else C i) (upd ks N k) (upd as_ N a) (upd bs N b) := by
  intro i hi
  by_cases e : i = N
  · subst e
    rw [pk_us, pk_us, pk_us]
    simp only [if_true]
    exact hc
  · rw [pk_un e, pk_un e, pk_un e]
    simp only [if_neg e]
    exact h i (by omega)
theorem zreps_less {N M : Nat} {C : zC} {ks as_ bs : Nat → Int32} (h : zReps N C ks as_ bs) (hM : M ≤ N) : zReps M C ks as_ bs := fun i hi => h i (by omega)
end
section
/-! both classes' answers, held against each other: plain -/
def zInv (N : Nat) (C : zC) (ks as_ bs : Nat → Int32) (L D : Nat) (sg : Nat → Int32) (rd : Int32) (wy kt at_ bt : Nat → Int32) (kn : Int32) (mk : Nat → Int32) : Prop :=
  N ≤ 3 ∧ zReps N C ks as_ bs ∧ zReps N C kt at_ bt ∧ L ≤ 6 ∧ D < 4 ^ L ∧ (∀ j, j < L → sg j = nI (zat L D j) ∧ zat L D j < 4) ∧ zRdy N C rd wy ∧ zKn N C kn mk
theorem zcok_rep {N : Nat} {k a b : Int32} (h : zcok N k a b) : ∃ c : Nat × Nat × Nat, zRep k a b c := by
  obtain ⟨h0, h9, hg, -⟩ := h
  obtain ⟨j, hj, rfl⟩ := nI_of2 (M := nI 9) (n := 9) (by decide +kernel) h0 h9
  rw [nI_clamp (show j < 2 ^ 31 by omega)] at hg
  exact zgn_rep hj hg
theorem zpush_inv {L D : Nat} {sg : Nat → Int32} {x : Int32} (hD : D < 4 ^ L) (h_f : ∀ j, j < L → sg j = nI (zat L D j) ∧ zat L D j < 4) (h : zpk L x) : L + 1 ≤ 6 ∧ D * 4 + x.toNatClampNeg < 4 ^ (L + 1) ∧ ∀ j, j < L + 1 → upd sg L x j = nI (zat (L + 1) (D * 4 + x.toNatClampNeg) j) ∧ zat (L + 1) (D * 4 + x.toNatClampNeg) j < 4 := by
  obtain ⟨h0, h3, h6⟩ := h
  obtain ⟨y, hy, rfl⟩ := nI_of2 (M := nI 3) (n := 3) (by decide +kernel) h0 h3
  rw [nI_clamp (show y < 2 ^ 31 by omega)]
  refine ⟨h6, ?_, fun j hj => ⟨?_, zat_lt _ _ _⟩⟩
  · rw [Nat.pow_succ]
    omega
  · by_cases e : j = L
    · subst e
      rw [pk_us, zat_push2 (by omega)]
    · rw [pk_un e, zat_push (by omega) (by omega)]
      exact (h_f j (by omega)).1
theorem zload_join {N : Nat} {C : zC} (hN : N ≤ 3) (hG : ∀ j, j < N → zG (C j)) {x r1 r2 st1 ln2 dg2 : Int32} {L D : Nat} {sg sg1 : Nat → Int32} (hL : L ≤ 6) (hD : D < 4 ^ L) (h_f : ∀ j, j < L → sg j = nI (zat L D j) ∧ zat L D j < 4)
    (h1 : (r1 = -4 ∧ st1 = nI L ∧ sg1 = sg ∧ zNo N C x) ∨ (∃ (M : Nat) (f : Nat → Nat), zFf N C x M f ∧ r1 = nI M ∧ st1 = nI M ∧ ∀ j, j < M → sg1 j = nI (f j)))
    (h2 : (∃ k, zMk N C x k ∧ r2 = nI (zln k) ∧ ln2 = nI (zln k) ∧ dg2 = nI (k - zst (zln k))) ∨ (r2 = -4 ∧ ln2 = nI L ∧ dg2 = nI D ∧ zMn N C x)) :
    r1 = r2 ∧ ∃ M E : Nat, M ≤ 6 ∧ E < 4 ^ M ∧ st1 = nI M ∧ ln2 = nI M ∧ dg2 = nI E ∧ ∀ j, j < M → sg1 j = nI (zat M E j) ∧ zat M E j < 4 := by
  rcases h1 with ⟨a1, a2, a3, a4⟩ | ⟨M, f, a1, a2, a3, a4⟩
  · rcases h2 with ⟨k, b1, -⟩ | ⟨b1, b2, b3, b4⟩
    · exact (zNo_Mk hN hG a4 b1).elim
    · exact ⟨a1.trans b1.symm, L, D, hL, hD, a2, b2, b3, by rw [a3]; exact h_f⟩
  · rcases h2 with ⟨k, b1, b2, b3, b4⟩ | ⟨b1, b2, b3, b4⟩
    · obtain ⟨e1, e2, e3⟩ := zFf_k hN hG a1 b1
      rw [e1] at b2 b3 b4
      exact ⟨a2.trans b2.symm, M, k - zst M, a1.1, e2, a3, b3, b4, fun j hj => ⟨by rw [e3 j hj]; exact a4 j hj, zat_lt _ _ _⟩⟩
    · exact (zFf_Mn hN hG a1 b4).elim
theorem zlen_join {N : Nat} {C : zC} (hN : N ≤ 3) (hG : ∀ j, j < N → zG (C j)) {x r1 r2 : Int32} (h1 : (r1 = -4 ∧ zNo N C x) ∨ (∃ (M : Nat) (f : Nat → Nat), zFf N C x M f ∧ r1 = nI M)) (h2 : (∃ k, zMk N C x k ∧ r2 = nI (zln k)) ∨ (r2 = -4 ∧ zMn N C x)) : r1 = r2 := by
  rcases h1 with ⟨a1, a4⟩ | ⟨M, f, a1, a2⟩
  · rcases h2 with ⟨k, b1, -⟩ | ⟨b1, b4⟩
    · exact (zNo_Mk hN hG a4 b1).elim
    · exact a1.trans b1.symm
  · rcases h2 with ⟨k, b1, b2⟩ | ⟨b1, b4⟩
    · obtain ⟨e1, e2, e3⟩ := zFf_k hN hG a1 b1
      rw [e1] at b2
      exact a2.trans b2.symm
    · exact (zFf_Mn hN hG a1 b4).elim
theorem zleast_join {N : Nat} {C : zC} (hN : N ≤ 3) (hG : ∀ j, j < N → zG (C j)) {x y r1 r2 : Int32} (h1 : (r1 = -4 ∧ zNo N C x) ∨ (∃ (M : Nat) (f : Nat → Nat), zFf N C x M f ∧ r1 = zel f M y)) (h2 : (∃ k, zMk N C x k ∧ r2 = zel (zat (zln k) (k - zst (zln k))) (zln k) y) ∨ (r2 = -4 ∧ zMn N C x)) : r1 = r2 := by
  rcases h1 with ⟨a1, a4⟩ | ⟨M, f, a1, a2⟩
  · rcases h2 with ⟨k, b1, -⟩ | ⟨b1, b4⟩
    · exact (zNo_Mk hN hG a4 b1).elim
    · exact a1.trans b1.symm
  · rcases h2 with ⟨k, b1, b2⟩ | ⟨b1, b4⟩
    · obtain ⟨e1, e2, e3⟩ := zFf_k hN hG a1 b1
      rw [e1] at b2
      have h6 := a1.1
      rw [a2, b2]
      exact (zel_eq (by omega) e3 y).symm
    · exact (zFf_Mn hN hG a1 b4).elim
theorem zlaw_in {n i : Nat} (hn : n ≤ 256) (hi : i ≤ 260) (h : ¬ nI n - nI 4 < nI i) : i + 4 ≤ n := by
  rw [Int32.lt_iff_toInt_lt, pk_sub_toInt (by omega) (by decide), nI_toInt (by omega)] at h
  omega
end
section
set_option maxRecDepth 100000
/-! THE CLAIM OUT OF ONE WALK OF THE LAW'S BODY. Your part is whole_start (and what it stands on); all else here is the same for every law, but numbers. -/
def R_law : String := "ShrinkRankerLaw"
def lw_P (b : Addr) (xs : List Int32) (args : Array Value) (s : State) : Prop := args = #[.ref b] ∧ s.IntsAt b xs ∧ xs.length ≤ 256 ∧ (Jvm.Cond.and given_1 narrow_1).before args s = true
def lw_Q (_ : Array Value) (s : State) (o : Outcome) (t : State) : Prop := o = .returned (some (.int 1)) ∧ Framed s o t [] 600000 7290000
def lw_Z (below : List Frame) (a : Array Value) (s : State) : State → Prop := fun t => ∃ o, t.status = .running ∧ Ended t below o ∧ lw_Q a s o t
/-- the law's own end, with 1 on the stack, nothing written that was there before, its room as the claim has it -/
theorem lw_ret {p : Program} {l : Launch} {e : Env} {s : State} {m : MethodId} {below : List Frame} {meth : Method} {c : Code} {b : Nat} (hx : p.tables.exec = Jvm.exec) (hb : c.code = code) (hr : meth.sig.returnType = ret) (hlocks : meth.locks = false) {pc : Nat} {H : Heap} {ls : Array Slot} (hdg : decode code pc = .ok (.ireturn, 1)) : W p l e room_1 s m #[Value.ref b] below meth c H [] 600000 7290000 (lw_Z below #[Value.ref b] s) (F0 m pc ls [.int 1]) := by
  intro T hT X
  obtain ⟨fs, hret, hrun, hended, hW, hframe⟩ := X.leave (v := some (.int 1)) (hlocks := hlocks) (fun h => by rw [hr] at h; cases h)
  have hmeth' : T.vm.method? m = some meth := X.method'
  refine ⟨T.setFrames fs, ?_, .returned (some (.int 1)), hrun, hended, rfl, ⟨_, rfl⟩, hW, hframe⟩
  jvm_step X.here [X.here.top, hx, hb, hdg, hmeth', hr, ret, narrow_b1]
  (try refine ⟨rfl, ?_⟩); (try refine ⟨rfl, ?_⟩)
  first | (intro acts; rw [hret _ acts rfl rfl rfl]) | rw [hret _ _ rfl rfl rfl]
  exact Steps.refl _
/-- what holds at the law's entry: the machine, the code, the tables' words (any of lw_tbl by 'hts w (by decide +kernel)'), the script of L ints xs at the cell b, what the Statement gives of the start (any of its parts by flat_of_before) -/
def lw_At (p : Program) (s : State) (m : MethodId) (meth : Method) (c : Code) (b L : Nat) (xs : Nat → Int32) : Prop :=
  p.tables.exec = Jvm.exec ∧ c.code = code ∧ meth.sig.returnType = ret ∧ c.maxLocals = 4 ∧ s.vm.findClass R_law = some m.cls ∧ (∀ w ∈ lw_tbl, w.before #[Value.ref b] s = true) ∧ va_X b L xs s s.heap ∧ b < s.heap.size ∧ meth.locks = false ∧ (Jvm.Cond.and given_1 narrow_1).before #[Value.ref b] s = true
section
variable {p : Program} {l : Launch} {e : Env} {R : Room} {s : State} {m : MethodId} {args : Array Value} {below : List Frame} {meth : Method} {c : Code} {H : Heap} {locs : List Loc} {cells slots : Nat} {Q : State → Prop} {cc : ByteArray} {pc : Nat} {ls : Array Slot} {rest : List Value}
theorem zn_sld {A : Nat → Prop} {H0 : Heap} (hx : p.tables.exec = Jvm.exec) (hb : c.code = cc) {b L : Nat} {xs : Nat → Int32} (hX : va_X b L xs s H0) (hbl : b < H0.size) (hbA : ¬ A b) (hS : va_S A H0 H locs) {i : Nat} (hi : i < L) (hL : L < 2 ^ 31) (hdg : decode cc pc = .ok (.iaload, 1)) (kk : W p l e R s m args below meth c H locs cells slots Q (F0 m (pc + 1) ls (.int (xs i) :: rest))) : W p l e R s m args below meth c H locs cells slots Q (F0 m pc ls (.int (nI i) :: .ref b :: rest)) := va_sld hx hb hX hbl hbA hS (vp_in_nI hi hL) hdg (zn_to (by rw [nI_clamp (Nat.lt_trans hi hL)]) kk)
end
/-- the law's walk from pc on, at script place i, in any world that holds the invariant -/
def zLG (p : Program) (l : Launch) (e : Env) (s : State) (m : MethodId) (below : List Frame) (meth : Method) (c : Code) (dC : Nat → ClassId) (dI : Nat → Nat → Nat) (g h : Nat → Nat) (dA : ClassId) (b i pc : Nat) : Prop :=
  ∀ (N : Nat) (C : zC) (ks as_ bs : Nat → Int32) (L D : Nat) (sg : Nat → Int32) (fl : Int32) (fd : Nat → Int32) (rd : Int32) (wy kt at_ bt : Nat → Int32) (kn : Int32) (mk : Nat → Int32), zInv N C ks as_ bs L D sg rd wy kt at_ bt kn mk → ∀ (H : Heap) (locs : List Loc), va_P (dC, dI) zCl (wX g dA (nI N) ks as_ bs (nI L) sg fl fd rd wy ++ wM h dA (nI N) kt at_ bt (nI L) (nI D) kn mk) H → va_D (fun q : Nat => s.heap.size ≤ q) (wX g dA (nI N) ks as_ bs (nI L) sg fl fd rd wy ++ wM h dA (nI N) kt at_ bt (nI L) (nI D) kn mk) → va_S (fun q : Nat => s.heap.size ≤ q) s.heap H locs → ∀ (ls : Array Slot), lv_has ls 4 [(0, .ref b), (1, .ref (g 0)), (2, .ref (h 0)), (3, .int (nI i))] → W p l e room_1 s m #[Value.ref b] below meth c H locs 12 2459 (lw_Z below #[Value.ref b] s) (F0 m pc ls [])
end
section
/-! the law's calls, one by one (written by gen/law.py) -/
set_option maxHeartbeats 8000000 in
set_option maxRecDepth 100000 in
theorem law_condition {p : Program} {l : Launch} {e : Env} {s : State} {m : MethodId} {below : List Frame} {meth : Method} {c : Code} {dC : Nat → ClassId} {dI : Nat → Nat → Nat} {g h : Nat → Nat} {dA : ClassId} {b Ls : Nat} {xs : Nat → Int32} {i : Nat} (hLs : Ls ≤ 256) (C0 : lw_At p s m meth c b Ls xs) (hi : i + 4 ≤ Ls) (hK : va_K (dC, dI) zCl [(dA, .int)] s) (k : zLG p l e s m below meth c dC dI g h dA b i 347) : zLG p l e s m below meth c dC dI g h dA b i 100 := by
  obtain ⟨hx, hb, hr, hml, hown, hts0, hX, hbl, hlocks, hgv⟩ := id C0
  have hts : ∀ w ∈ lw_all, w.before #[Value.ref b] s = true := fun w h => hts0 w (lw_all_tbl h)
  have hA : ∀ q : Nat, s.heap.size ≤ q → (fun q : Nat => s.heap.size ≤ q) q := fun _ h => h
  have hbA : ¬ (fun q : Nat => s.heap.size ≤ q) b := Nat.not_le.mpr hbl
  intro N C ks as_ bs L D sg fl fd rd wy kt at_ bt kn mk hI H locs hP hD hS ls hl
  obtain ⟨hN, hC, hC2, hL, hD4, h_f, h_r, h_k⟩ := id hI
  have hG := zreps_G hC (Nat.le_refl N)
  refine lv_aload_n hx hb dL_law_100 rfl (lv_at hl 1 rfl) ?_
  refine lv_aload_n hx hb dL_law_101 rfl (lv_at hl 0 rfl) ?_
  refine lv_iload_n hx hb dL_law_102 rfl (lv_at hl 3 rfl) ?_
  refine lv_iconst (v := nI (1)) hx hb dL_law_103 (by decide +kernel) ?_
  refine zn_iadd hx hb dL_law_104 ?_
  refine zn_sld hx hb hX hbl hbA hS (show i + 1 < Ls by omega) (by omega) dL_law_105 ?_
  refine lv_aload_n hx hb dL_law_106 rfl (lv_at hl 0 rfl) ?_
  refine lv_iload_n hx hb dL_law_107 rfl (lv_at hl 3 rfl) ?_
  refine lv_iconst (v := nI (2)) hx hb dL_law_108 (by decide +kernel) ?_
  refine zn_iadd hx hb dL_law_109 ?_
  refine zn_sld hx hb hX hbl hbA hS (show i + 2 < Ls by omega) (by omega) dL_law_110 ?_
  refine lv_aload_n hx hb dL_law_111 rfl (lv_at hl 0 rfl) ?_
  refine lv_iload_n hx hb dL_law_112 rfl (lv_at hl 3 rfl) ?_
  refine lv_iconst (v := nI (3)) hx hb dL_law_113 (by decide +kernel) ?_
  refine zn_iadd hx hb dL_law_114 ?_
  refine zn_sld hx hb hX hbl hbA hS (show i + 3 < Ls by omega) (by omega) dL_law_115 ?_
  refine zcallMi (As := [.int (xs (i + 1)), .int (xs (i + 2)), .int (xs (i + 3))]) (rest := []) (wr := wM h dA (nI N) kt at_ bt (nI L) (nI D) kn mk) (ci := 0) (q0 := 0) [0, 1, 2, 3, 4, 5, 6] [7, 8, 9, 10, 11] ⟨hx, hb, hml, hown, hts⟩ (met_X0_condition l dC dI g dA H.size N C ks as_ bs (nI L) sg fl fd rd wy (xs (i + 1)) (xs (i + 2)) (xs (i + 3)) hN hC ) (cwV 3 hts (lw_V q67 q68 q69 q25 q70) rfl rfl rfl (by decide +kernel) ⟨Nat.le_of_ble_eq_true rfl, Nat.le_of_ble_eq_true rfl⟩) hK hP hD hS hA rfl rfl (by decide) (by decide) (by decide) rfl rfl rfl hl.1 rfl (Nat.le_of_ble_eq_true rfl) dL_law_116 ⟨by decide, by decide⟩ (fun r1 u1 H locs h1 hP hD hS => ?_)
  have hP : va_P (dC, dI) zCl (wM h dA (nI N) kt at_ bt (nI L) (nI D) kn mk ++ wX g dA u1.1 u1.2.1 u1.2.2.1 u1.2.2.2.1 (nI L) sg fl fd u1.2.2.2.2 wy) H := hP
  have hD : va_D (fun q : Nat => s.heap.size ≤ q) (wM h dA (nI N) kt at_ bt (nI L) (nI D) kn mk ++ wX g dA u1.1 u1.2.1 u1.2.2.1 u1.2.2.2.1 (nI L) sg fl fd u1.2.2.2.2 wy) := hD
  refine lv_aload_n hx hb dL_law_119 rfl (lv_at hl 2 rfl) ?_
  refine lv_aload_n hx hb dL_law_120 rfl (lv_at hl 0 rfl) ?_
  refine lv_iload_n hx hb dL_law_121 rfl (lv_at hl 3 rfl) ?_
  refine lv_iconst (v := nI (1)) hx hb dL_law_122 (by decide +kernel) ?_
  refine zn_iadd hx hb dL_law_123 ?_
  refine zn_sld hx hb hX hbl hbA hS (show i + 1 < Ls by omega) (by omega) dL_law_124 ?_
  refine lv_aload_n hx hb dL_law_125 rfl (lv_at hl 0 rfl) ?_
  refine lv_iload_n hx hb dL_law_126 rfl (lv_at hl 3 rfl) ?_
  refine lv_iconst (v := nI (2)) hx hb dL_law_127 (by decide +kernel) ?_
  refine zn_iadd hx hb dL_law_128 ?_
  refine zn_sld hx hb hX hbl hbA hS (show i + 2 < Ls by omega) (by omega) dL_law_129 ?_
  refine lv_aload_n hx hb dL_law_130 rfl (lv_at hl 0 rfl) ?_
  refine lv_iload_n hx hb dL_law_131 rfl (lv_at hl 3 rfl) ?_
  refine lv_iconst (v := nI (3)) hx hb dL_law_132 (by decide +kernel) ?_
  refine zn_iadd hx hb dL_law_133 ?_
  refine zn_sld hx hb hX hbl hbA hS (show i + 3 < Ls by omega) (by omega) dL_law_134 ?_
  refine zcallMi (As := [.int (xs (i + 1)), .int (xs (i + 2)), .int (xs (i + 3))]) (rest := [.int (r1)]) (wr := wX g dA u1.1 u1.2.1 u1.2.2.1 u1.2.2.2.1 (nI L) sg fl fd u1.2.2.2.2 wy) (ci := 1) (q0 := 0) [0, 1, 2, 3, 4] [5, 6, 7, 8, 9, 10, 11] ⟨hx, hb, hml, hown, hts⟩ (met_X1_condition l dC dI h dA H.size N C kt at_ bt (nI L) (nI D) kn mk (xs (i + 1)) (xs (i + 2)) (xs (i + 3)) hN hC2 ) (cwV 3 hts (lw_V q192 q193 q194 q26 q195) rfl rfl rfl (by decide +kernel) ⟨Nat.le_of_ble_eq_true rfl, Nat.le_of_ble_eq_true rfl⟩) hK hP hD hS hA rfl rfl (by decide) (by decide) (by decide) rfl rfl rfl hl.1 rfl (Nat.le_of_ble_eq_true rfl) dL_law_135 ⟨by decide, by decide⟩ (fun r2 u2 H locs h2 hP hD hS => ?_)
  have hP : va_P (dC, dI) zCl (wX g dA u1.1 u1.2.1 u1.2.2.1 u1.2.2.2.1 (nI L) sg fl fd u1.2.2.2.2 wy ++ wM h dA u2.1 u2.2.1 u2.2.2.1 u2.2.2.2.1 (nI L) (nI D) u2.2.2.2.2 mk) H := hP
  have hD : va_D (fun q : Nat => s.heap.size ≤ q) (wX g dA u1.1 u1.2.1 u1.2.2.1 u1.2.2.2.1 (nI L) sg fl fd u1.2.2.2.2 wy ++ wM h dA u2.1 u2.2.1 u2.2.2.1 u2.2.2.2.1 (nI L) (nI D) u2.2.2.2.2 mk) := hD
  obtain ⟨e1, p1, n1⟩ := h1
  obtain ⟨e2, p2, n2⟩ := h2
  have heq : r1 = r2 := e1.trans e2.symm
  refine lv_icmp_eq (x := r1) (y := r2) (tgt := 347) hx hb dL_law_138 (by decide) (fun _ => ?_) (fun c9 => absurd heq c9)
  by_cases hok : zcok N (xs (i + 1)) (xs (i + 2)) (xs (i + 3))
  · have q1 := p1 hok
    have q2 := p2 hok
    subst u1
    subst u2
    obtain ⟨cv, hcv⟩ := zcok_rep hok
    exact k (N + 1) ((fun j => if j = N then cv else C j)) (upd ks N (xs (i + 1))) (upd as_ N (xs (i + 2))) (upd bs N (xs (i + 3))) L D sg fl fd (nI 0) wy (upd kt N (xs (i + 1))) (upd at_ N (xs (i + 2))) (upd bt N (xs (i + 3))) (nI 0) mk ⟨hok.2.2.2, zreps_add hC hcv, zreps_add hC2 hcv, hL, hD4, h_f, Or.inl rfl, Or.inl rfl⟩ _ _ hP hD hS _ hl
  · have q1 := n1 hok
    have q2 := n2 hok
    subst u1
    subst u2
    exact k N C ks as_ bs L D sg fl fd rd wy kt at_ bt kn mk hI _ _ hP hD hS _ hl
set_option maxHeartbeats 8000000 in
set_option maxRecDepth 100000 in
theorem law_drop {p : Program} {l : Launch} {e : Env} {s : State} {m : MethodId} {below : List Frame} {meth : Method} {c : Code} {dC : Nat → ClassId} {dI : Nat → Nat → Nat} {g h : Nat → Nat} {dA : ClassId} {b Ls : Nat} {xs : Nat → Int32} {i : Nat} (hLs : Ls ≤ 256) (C0 : lw_At p s m meth c b Ls xs) (hi : i + 4 ≤ Ls) (hK : va_K (dC, dI) zCl [(dA, .int)] s) (k : zLG p l e s m below meth c dC dI g h dA b i 347) : zLG p l e s m below meth c dC dI g h dA b i 143 := by
  obtain ⟨hx, hb, hr, hml, hown, hts0, hX, hbl, hlocks, hgv⟩ := id C0
  have hts : ∀ w ∈ lw_all, w.before #[Value.ref b] s = true := fun w h => hts0 w (lw_all_tbl h)
  have hA : ∀ q : Nat, s.heap.size ≤ q → (fun q : Nat => s.heap.size ≤ q) q := fun _ h => h
  have hbA : ¬ (fun q : Nat => s.heap.size ≤ q) b := Nat.not_le.mpr hbl
  intro N C ks as_ bs L D sg fl fd rd wy kt at_ bt kn mk hI H locs hP hD hS ls hl
  obtain ⟨hN, hC, hC2, hL, hD4, h_f, h_r, h_k⟩ := id hI
  have hG := zreps_G hC (Nat.le_refl N)
  refine lv_aload_n hx hb dL_law_143 rfl (lv_at hl 1 rfl) ?_
  refine zcallMi (As := []) (rest := []) (wr := wM h dA (nI N) kt at_ bt (nI L) (nI D) kn mk) (ci := 0) (q0 := 0) [0, 1, 2, 3, 4, 5, 6] [7, 8, 9, 10, 11] ⟨hx, hb, hml, hown, hts⟩ (met_X0_drop l dC dI g dA H.size N C ks as_ bs (nI L) sg fl fd rd wy  hN hC ) (cwV 0 hts (lw_V q77 q78 q79 q25 q80) rfl rfl rfl (by decide +kernel) ⟨Nat.le_of_ble_eq_true rfl, Nat.le_of_ble_eq_true rfl⟩) hK hP hD hS hA rfl rfl (by decide) (by decide) (by decide) rfl rfl rfl hl.1 rfl (Nat.le_of_ble_eq_true rfl) dL_law_144 ⟨by decide, by decide⟩ (fun r1 u1 H locs h1 hP hD hS => ?_)
  have hP : va_P (dC, dI) zCl (wM h dA (nI N) kt at_ bt (nI L) (nI D) kn mk ++ wX g dA u1.1 ks as_ bs (nI L) sg fl fd u1.2 wy) H := hP
  have hD : va_D (fun q : Nat => s.heap.size ≤ q) (wM h dA (nI N) kt at_ bt (nI L) (nI D) kn mk ++ wX g dA u1.1 ks as_ bs (nI L) sg fl fd u1.2 wy) := hD
  refine lv_aload_n hx hb dL_law_147 rfl (lv_at hl 2 rfl) ?_
  refine zcallMi (As := []) (rest := [.int (r1)]) (wr := wX g dA u1.1 ks as_ bs (nI L) sg fl fd u1.2 wy) (ci := 1) (q0 := 0) [0, 1, 2, 3, 4] [5, 6, 7, 8, 9, 10, 11] ⟨hx, hb, hml, hown, hts⟩ (met_X1_drop l dC dI h dA H.size N C kt at_ bt (nI L) (nI D) kn mk  hN hC2 ) (cwV 0 hts (lw_V q204 q205 q206 q26 q207) rfl rfl rfl (by decide +kernel) ⟨Nat.le_of_ble_eq_true rfl, Nat.le_of_ble_eq_true rfl⟩) hK hP hD hS hA rfl rfl (by decide) (by decide) (by decide) rfl rfl rfl hl.1 rfl (Nat.le_of_ble_eq_true rfl) dL_law_148 ⟨by decide, by decide⟩ (fun r2 u2 H locs h2 hP hD hS => ?_)
  have hP : va_P (dC, dI) zCl (wX g dA u1.1 ks as_ bs (nI L) sg fl fd u1.2 wy ++ wM h dA u2.1 kt at_ bt (nI L) (nI D) u2.2 mk) H := hP
  have hD : va_D (fun q : Nat => s.heap.size ≤ q) (wX g dA u1.1 ks as_ bs (nI L) sg fl fd u1.2 wy ++ wM h dA u2.1 kt at_ bt (nI L) (nI D) u2.2 mk) := hD
  obtain ⟨e1, q1⟩ := h1
  obtain ⟨e2, q2⟩ := h2
  have heq : r1 = r2 := e1.trans e2.symm
  refine lv_icmp_eq (x := r1) (y := r2) (tgt := 347) hx hb dL_law_151 (by decide) (fun _ => ?_) (fun c9 => absurd heq c9)
  by_cases hz : N = 0
  · rw [if_pos hz] at q1 q2
    subst u1
    subst u2
    exact k N C ks as_ bs L D sg fl fd rd wy kt at_ bt kn mk hI _ _ hP hD hS _ hl
  · rw [if_neg hz] at q1 q2
    subst u1
    subst u2
    exact k (N - 1) C ks as_ bs L D sg fl fd (nI 0) wy kt at_ bt (nI 0) mk ⟨by omega, zreps_less hC (by omega), zreps_less hC2 (by omega), hL, hD4, h_f, Or.inl rfl, Or.inl rfl⟩ _ _ hP hD hS _ hl
set_option maxHeartbeats 8000000 in
set_option maxRecDepth 100000 in
theorem law_push {p : Program} {l : Launch} {e : Env} {s : State} {m : MethodId} {below : List Frame} {meth : Method} {c : Code} {dC : Nat → ClassId} {dI : Nat → Nat → Nat} {g h : Nat → Nat} {dA : ClassId} {b Ls : Nat} {xs : Nat → Int32} {i : Nat} (hLs : Ls ≤ 256) (C0 : lw_At p s m meth c b Ls xs) (hi : i + 4 ≤ Ls) (hK : va_K (dC, dI) zCl [(dA, .int)] s) (k : zLG p l e s m below meth c dC dI g h dA b i 347) : zLG p l e s m below meth c dC dI g h dA b i 156 := by
  obtain ⟨hx, hb, hr, hml, hown, hts0, hX, hbl, hlocks, hgv⟩ := id C0
  have hts : ∀ w ∈ lw_all, w.before #[Value.ref b] s = true := fun w h => hts0 w (lw_all_tbl h)
  have hA : ∀ q : Nat, s.heap.size ≤ q → (fun q : Nat => s.heap.size ≤ q) q := fun _ h => h
  have hbA : ¬ (fun q : Nat => s.heap.size ≤ q) b := Nat.not_le.mpr hbl
  intro N C ks as_ bs L D sg fl fd rd wy kt at_ bt kn mk hI H locs hP hD hS ls hl
  obtain ⟨hN, hC, hC2, hL, hD4, h_f, h_r, h_k⟩ := id hI
  have hG := zreps_G hC (Nat.le_refl N)
  refine lv_aload_n hx hb dL_law_156 rfl (lv_at hl 1 rfl) ?_
  refine lv_aload_n hx hb dL_law_157 rfl (lv_at hl 0 rfl) ?_
  refine lv_iload_n hx hb dL_law_158 rfl (lv_at hl 3 rfl) ?_
  refine lv_iconst (v := nI (1)) hx hb dL_law_159 (by decide +kernel) ?_
  refine zn_iadd hx hb dL_law_160 ?_
  refine zn_sld hx hb hX hbl hbA hS (show i + 1 < Ls by omega) (by omega) dL_law_161 ?_
  refine zcallMi (As := [.int (xs (i + 1))]) (rest := []) (wr := wM h dA (nI N) kt at_ bt (nI L) (nI D) kn mk) (ci := 0) (q0 := 0) [0, 1, 2, 3, 4, 5, 6] [7, 8, 9, 10, 11] ⟨hx, hb, hml, hown, hts⟩ (met_X0_push l dC dI g dA H.size N C ks as_ bs L sg fl fd rd wy (xs (i + 1)) hN hC hL) (cwV 1 hts (lw_V q81 q82 q83 q25 q84) rfl rfl rfl (by decide +kernel) ⟨Nat.le_of_ble_eq_true rfl, Nat.le_of_ble_eq_true rfl⟩) hK hP hD hS hA rfl rfl (by decide) (by decide) (by decide) rfl rfl rfl hl.1 rfl (Nat.le_of_ble_eq_true rfl) dL_law_162 ⟨by decide, by decide⟩ (fun r1 u1 H locs h1 hP hD hS => ?_)
  have hP : va_P (dC, dI) zCl (wM h dA (nI N) kt at_ bt (nI L) (nI D) kn mk ++ wX g dA (nI N) ks as_ bs u1.1 u1.2 fl fd rd wy) H := hP
  have hD : va_D (fun q : Nat => s.heap.size ≤ q) (wM h dA (nI N) kt at_ bt (nI L) (nI D) kn mk ++ wX g dA (nI N) ks as_ bs u1.1 u1.2 fl fd rd wy) := hD
  refine lv_aload_n hx hb dL_law_165 rfl (lv_at hl 2 rfl) ?_
  refine lv_aload_n hx hb dL_law_166 rfl (lv_at hl 0 rfl) ?_
  refine lv_iload_n hx hb dL_law_167 rfl (lv_at hl 3 rfl) ?_
  refine lv_iconst (v := nI (1)) hx hb dL_law_168 (by decide +kernel) ?_
  refine zn_iadd hx hb dL_law_169 ?_
  refine zn_sld hx hb hX hbl hbA hS (show i + 1 < Ls by omega) (by omega) dL_law_170 ?_
  refine zcallMi (As := [.int (xs (i + 1))]) (rest := [.int (r1)]) (wr := wX g dA (nI N) ks as_ bs u1.1 u1.2 fl fd rd wy) (ci := 1) (q0 := 0) [0, 1, 2, 3, 4] [5, 6, 7, 8, 9, 10, 11] ⟨hx, hb, hml, hown, hts⟩ (met_X1_push l dC dI h dA H.size N C kt at_ bt L D kn mk (xs (i + 1)) hN hC2 hL) (cwV 1 hts (lw_V q208 q209 q210 q26 q211) rfl rfl rfl (by decide +kernel) ⟨Nat.le_of_ble_eq_true rfl, Nat.le_of_ble_eq_true rfl⟩) hK hP hD hS hA rfl rfl (by decide) (by decide) (by decide) rfl rfl rfl hl.1 rfl (Nat.le_of_ble_eq_true rfl) dL_law_171 ⟨by decide, by decide⟩ (fun r2 u2 H locs h2 hP hD hS => ?_)
  have hP : va_P (dC, dI) zCl (wX g dA (nI N) ks as_ bs u1.1 u1.2 fl fd rd wy ++ wM h dA (nI N) kt at_ bt u2.1 u2.2 kn mk) H := hP
  have hD : va_D (fun q : Nat => s.heap.size ≤ q) (wX g dA (nI N) ks as_ bs u1.1 u1.2 fl fd rd wy ++ wM h dA (nI N) kt at_ bt u2.1 u2.2 kn mk) := hD
  obtain ⟨e1, p1, n1⟩ := h1
  obtain ⟨e2, p2, n2⟩ := h2
  have heq : r1 = r2 := e1.trans e2.symm
  refine lv_icmp_eq (x := r1) (y := r2) (tgt := 347) hx hb dL_law_174 (by decide) (fun _ => ?_) (fun c9 => absurd heq c9)
  by_cases hok : zpk L (xs (i + 1))
  · have q1 := p1 hok
    have q2 := p2 hok
    subst u1
    subst u2
    obtain ⟨v1, v2, v3⟩ := zpush_inv hD4 h_f hok
    exact k N C ks as_ bs (L + 1) (D * 4 + (xs (i + 1)).toNatClampNeg) (upd sg L (xs (i + 1))) fl fd rd wy kt at_ bt kn mk ⟨hN, hC, hC2, v1, v2, v3, h_r, h_k⟩ _ _ hP hD hS _ hl
  · have q1 := n1 hok
    have q2 := n2 hok
    subst u1
    subst u2
    exact k N C ks as_ bs L D sg fl fd rd wy kt at_ bt kn mk hI _ _ hP hD hS _ hl
set_option maxHeartbeats 8000000 in
set_option maxRecDepth 100000 in
theorem law_empty {p : Program} {l : Launch} {e : Env} {s : State} {m : MethodId} {below : List Frame} {meth : Method} {c : Code} {dC : Nat → ClassId} {dI : Nat → Nat → Nat} {g h : Nat → Nat} {dA : ClassId} {b Ls : Nat} {xs : Nat → Int32} {i : Nat} (hLs : Ls ≤ 256) (C0 : lw_At p s m meth c b Ls xs) (hi : i + 4 ≤ Ls) (hK : va_K (dC, dI) zCl [(dA, .int)] s) (k : zLG p l e s m below meth c dC dI g h dA b i 347) : zLG p l e s m below meth c dC dI g h dA b i 179 := by
  obtain ⟨hx, hb, hr, hml, hown, hts0, hX, hbl, hlocks, hgv⟩ := id C0
  have hts : ∀ w ∈ lw_all, w.before #[Value.ref b] s = true := fun w h => hts0 w (lw_all_tbl h)
  have hA : ∀ q : Nat, s.heap.size ≤ q → (fun q : Nat => s.heap.size ≤ q) q := fun _ h => h
  have hbA : ¬ (fun q : Nat => s.heap.size ≤ q) b := Nat.not_le.mpr hbl
  intro N C ks as_ bs L D sg fl fd rd wy kt at_ bt kn mk hI H locs hP hD hS ls hl
  obtain ⟨hN, hC, hC2, hL, hD4, h_f, h_r, h_k⟩ := id hI
  have hG := zreps_G hC (Nat.le_refl N)
  refine lv_aload_n hx hb dL_law_179 rfl (lv_at hl 1 rfl) ?_
  refine zcallMv (As := []) (rest := []) (wr := wM h dA (nI N) kt at_ bt (nI L) (nI D) kn mk) (ci := 0) (q0 := 0) [0, 1, 2, 3, 4, 5, 6] [7, 8, 9, 10, 11] ⟨hx, hb, hml, hown, hts⟩ (met_X0_empty l dC dI g dA H.size N C ks as_ bs (nI L) sg fl fd rd wy  hN hC ) (cwV 0 hts (lw_V q85 q86 q87 q25 q88) rfl rfl rfl (by decide +kernel) ⟨Nat.le_of_ble_eq_true rfl, Nat.le_of_ble_eq_true rfl⟩) hK hP hD hS hA rfl rfl (by decide) (by decide) (by decide) rfl rfl rfl hl.1 rfl (Nat.le_of_ble_eq_true rfl) dL_law_180 ⟨by decide, by decide⟩ (fun u1 H locs h1 hP hD hS => ?_)
  have hP : va_P (dC, dI) zCl (wM h dA (nI N) kt at_ bt (nI L) (nI D) kn mk ++ wX g dA (nI N) ks as_ bs (nI 0) sg fl fd rd wy) H := hP
  have hD : va_D (fun q : Nat => s.heap.size ≤ q) (wM h dA (nI N) kt at_ bt (nI L) (nI D) kn mk ++ wX g dA (nI N) ks as_ bs (nI 0) sg fl fd rd wy) := hD
  refine lv_aload_n hx hb dL_law_183 rfl (lv_at hl 2 rfl) ?_
  refine zcallMv (As := []) (rest := []) (wr := wX g dA (nI N) ks as_ bs (nI 0) sg fl fd rd wy) (ci := 1) (q0 := 0) [0, 1, 2, 3, 4] [5, 6, 7, 8, 9, 10, 11] ⟨hx, hb, hml, hown, hts⟩ (met_X1_empty l dC dI h dA H.size N C kt at_ bt (nI L) (nI D) kn mk  hN hC2 ) (cwV 0 hts (lw_V q212 q213 q214 q26 q215) rfl rfl rfl (by decide +kernel) ⟨Nat.le_of_ble_eq_true rfl, Nat.le_of_ble_eq_true rfl⟩) hK hP hD hS hA rfl rfl (by decide) (by decide) (by decide) rfl rfl rfl hl.1 rfl (Nat.le_of_ble_eq_true rfl) dL_law_184 ⟨by decide, by decide⟩ (fun u2 H locs h2 hP hD hS => ?_)
  have hP : va_P (dC, dI) zCl (wX g dA (nI N) ks as_ bs (nI 0) sg fl fd rd wy ++ wM h dA (nI N) kt at_ bt (nI 0) (nI 0) kn mk) H := hP
  have hD : va_D (fun q : Nat => s.heap.size ≤ q) (wX g dA (nI N) ks as_ bs (nI 0) sg fl fd rd wy ++ wM h dA (nI N) kt at_ bt (nI 0) (nI 0) kn mk) := hD
  refine lv_goto (tgt := 347) hx hb dL_law_187 (by decide) ?_
  exact k N C ks as_ bs 0 0 sg fl fd rd wy kt at_ bt kn mk ⟨hN, hC, hC2, by decide, by decide, fun j hj => absurd hj (Nat.not_lt_zero _), h_r, h_k⟩ _ _ hP hD hS _ hl
set_option maxHeartbeats 8000000 in
set_option maxRecDepth 100000 in
theorem law_load {p : Program} {l : Launch} {e : Env} {s : State} {m : MethodId} {below : List Frame} {meth : Method} {c : Code} {dC : Nat → ClassId} {dI : Nat → Nat → Nat} {g h : Nat → Nat} {dA : ClassId} {b Ls : Nat} {xs : Nat → Int32} {i : Nat} (hLs : Ls ≤ 256) (C0 : lw_At p s m meth c b Ls xs) (hi : i + 4 ≤ Ls) (hK : va_K (dC, dI) zCl [(dA, .int)] s) (k : zLG p l e s m below meth c dC dI g h dA b i 347) : zLG p l e s m below meth c dC dI g h dA b i 190 := by
  obtain ⟨hx, hb, hr, hml, hown, hts0, hX, hbl, hlocks, hgv⟩ := id C0
  have hts : ∀ w ∈ lw_all, w.before #[Value.ref b] s = true := fun w h => hts0 w (lw_all_tbl h)
  have hA : ∀ q : Nat, s.heap.size ≤ q → (fun q : Nat => s.heap.size ≤ q) q := fun _ h => h
  have hbA : ¬ (fun q : Nat => s.heap.size ≤ q) b := Nat.not_le.mpr hbl
  intro N C ks as_ bs L D sg fl fd rd wy kt at_ bt kn mk hI H locs hP hD hS ls hl
  obtain ⟨hN, hC, hC2, hL, hD4, h_f, h_r, h_k⟩ := id hI
  have hG := zreps_G hC (Nat.le_refl N)
  refine lv_aload_n hx hb dL_law_190 rfl (lv_at hl 1 rfl) ?_
  refine lv_aload_n hx hb dL_law_191 rfl (lv_at hl 0 rfl) ?_
  refine lv_iload_n hx hb dL_law_192 rfl (lv_at hl 3 rfl) ?_
  refine lv_iconst (v := nI (1)) hx hb dL_law_193 (by decide +kernel) ?_
  refine zn_iadd hx hb dL_law_194 ?_
  refine zn_sld hx hb hX hbl hbA hS (show i + 1 < Ls by omega) (by omega) dL_law_195 ?_
  refine zcallMi (As := [.int (xs (i + 1))]) (rest := []) (wr := wM h dA (nI N) kt at_ bt (nI L) (nI D) kn mk) (ci := 0) (q0 := 0) [0, 1, 2, 3, 4, 5, 6] [7, 8, 9, 10, 11] ⟨hx, hb, hml, hown, hts⟩ (met_X0_load l dC dI g dA H.size N C ks as_ bs (nI L) sg fl fd rd wy (xs (i + 1)) hN hC h_r) (cwV 1 hts (lw_V q89 q90 q91 q25 q92) rfl rfl rfl (by decide +kernel) ⟨Nat.le_of_ble_eq_true rfl, Nat.le_of_ble_eq_true rfl⟩) hK hP hD hS hA rfl rfl (by decide) (by decide) (by decide) rfl rfl rfl hl.1 rfl (Nat.le_of_ble_eq_true rfl) dL_law_196 ⟨by decide, by decide⟩ (fun r1 u1 H locs h1 hP hD hS => ?_)
  obtain ⟨st1, sg1, fl1, fd1, wy1⟩ := u1
  dsimp only at h1
  have hP : va_P (dC, dI) zCl (wM h dA (nI N) kt at_ bt (nI L) (nI D) kn mk ++ wX g dA (nI N) ks as_ bs st1 sg1 fl1 fd1 (nI 1) wy1) H := hP
  have hD : va_D (fun q : Nat => s.heap.size ≤ q) (wM h dA (nI N) kt at_ bt (nI L) (nI D) kn mk ++ wX g dA (nI N) ks as_ bs st1 sg1 fl1 fd1 (nI 1) wy1) := hD
  refine lv_aload_n hx hb dL_law_199 rfl (lv_at hl 2 rfl) ?_
  refine lv_aload_n hx hb dL_law_200 rfl (lv_at hl 0 rfl) ?_
  refine lv_iload_n hx hb dL_law_201 rfl (lv_at hl 3 rfl) ?_
  refine lv_iconst (v := nI (1)) hx hb dL_law_202 (by decide +kernel) ?_
  refine zn_iadd hx hb dL_law_203 ?_
  refine zn_sld hx hb hX hbl hbA hS (show i + 1 < Ls by omega) (by omega) dL_law_204 ?_
  refine zcallMi (As := [.int (xs (i + 1))]) (rest := [.int (r1)]) (wr := wX g dA (nI N) ks as_ bs st1 sg1 fl1 fd1 (nI 1) wy1) (ci := 1) (q0 := 0) [0, 1, 2, 3, 4] [5, 6, 7, 8, 9, 10, 11] ⟨hx, hb, hml, hown, hts⟩ (met_X1_load l dC dI h dA H.size N C kt at_ bt (nI L) (nI D) kn mk (xs (i + 1)) hN hC2 h_k) (cwV 1 hts (lw_V q216 q217 q218 q26 q219) rfl rfl rfl (by decide +kernel) ⟨Nat.le_of_ble_eq_true rfl, Nat.le_of_ble_eq_true rfl⟩) hK hP hD hS hA rfl rfl (by decide) (by decide) (by decide) rfl rfl rfl hl.1 rfl (Nat.le_of_ble_eq_true rfl) dL_law_205 ⟨by decide, by decide⟩ (fun r2 u2 H locs h2 hP hD hS => ?_)
  obtain ⟨ln2, dg2, mk2⟩ := u2
  dsimp only at h2
  have hP : va_P (dC, dI) zCl (wX g dA (nI N) ks as_ bs st1 sg1 fl1 fd1 (nI 1) wy1 ++ wM h dA (nI N) kt at_ bt ln2 dg2 (nI 1) mk2) H := hP
  have hD : va_D (fun q : Nat => s.heap.size ≤ q) (wX g dA (nI N) ks as_ bs st1 sg1 fl1 fd1 (nI 1) wy1 ++ wM h dA (nI N) kt at_ bt ln2 dg2 (nI 1) mk2) := hD
  obtain ⟨hT1, h1⟩ := h1
  obtain ⟨hT2, h2⟩ := h2
  obtain ⟨heq, M, E, v1, v2, v3, v4, v5, v6⟩ := zload_join hN hG hL hD4 h_f h1 h2
  refine lv_icmp_eq (x := r1) (y := r2) (tgt := 347) hx hb dL_law_208 (by decide) (fun _ => ?_) (fun c9 => absurd heq c9)
  subst v3
  subst v4
  subst v5
  exact k N C ks as_ bs M E sg1 fl1 fd1 (nI 1) wy1 kt at_ bt (nI 1) mk2 ⟨hN, hC, hC2, v1, v2, v6, Or.inr ⟨rfl, hT1⟩, Or.inr ⟨rfl, hT2⟩⟩ _ _ hP hD hS _ hl
set_option maxHeartbeats 8000000 in
set_option maxRecDepth 100000 in
theorem law_failing {p : Program} {l : Launch} {e : Env} {s : State} {m : MethodId} {below : List Frame} {meth : Method} {c : Code} {dC : Nat → ClassId} {dI : Nat → Nat → Nat} {g h : Nat → Nat} {dA : ClassId} {b Ls : Nat} {xs : Nat → Int32} {i : Nat} (hLs : Ls ≤ 256) (C0 : lw_At p s m meth c b Ls xs) (hi : i + 4 ≤ Ls) (hK : va_K (dC, dI) zCl [(dA, .int)] s) (k : zLG p l e s m below meth c dC dI g h dA b i 347) : zLG p l e s m below meth c dC dI g h dA b i 213 := by
  obtain ⟨hx, hb, hr, hml, hown, hts0, hX, hbl, hlocks, hgv⟩ := id C0
  have hts : ∀ w ∈ lw_all, w.before #[Value.ref b] s = true := fun w h => hts0 w (lw_all_tbl h)
  have hA : ∀ q : Nat, s.heap.size ≤ q → (fun q : Nat => s.heap.size ≤ q) q := fun _ h => h
  have hbA : ¬ (fun q : Nat => s.heap.size ≤ q) b := Nat.not_le.mpr hbl
  intro N C ks as_ bs L D sg fl fd rd wy kt at_ bt kn mk hI H locs hP hD hS ls hl
  obtain ⟨hN, hC, hC2, hL, hD4, h_f, h_r, h_k⟩ := id hI
  have hG := zreps_G hC (Nat.le_refl N)
  refine lv_aload_n hx hb dL_law_213 rfl (lv_at hl 1 rfl) ?_
  refine zcallMi (As := []) (rest := []) (wr := wM h dA (nI N) kt at_ bt (nI L) (nI D) kn mk) (ci := 0) (q0 := 0) [0, 1, 2, 3, 4, 5, 6] [7, 8, 9, 10, 11] ⟨hx, hb, hml, hown, hts⟩ (met_X0_failing l dC dI g dA H.size N C ks as_ bs (nI L) sg fl fd rd wy  hN hC h_r) (cwV 0 hts (lw_V q125 q126 q127 q25 q128) rfl rfl rfl (by decide +kernel) ⟨Nat.le_of_ble_eq_true rfl, Nat.le_of_ble_eq_true rfl⟩) hK hP hD hS hA rfl rfl (by decide) (by decide) (by decide) rfl rfl rfl hl.1 rfl (Nat.le_of_ble_eq_true rfl) dL_law_214 ⟨by decide, by decide⟩ (fun r1 u1 H locs h1 hP hD hS => ?_)
  have hP : va_P (dC, dI) zCl (wM h dA (nI N) kt at_ bt (nI L) (nI D) kn mk ++ wX g dA (nI N) ks as_ bs (nI L) sg fl fd (nI 1) u1) H := hP
  have hD : va_D (fun q : Nat => s.heap.size ≤ q) (wM h dA (nI N) kt at_ bt (nI L) (nI D) kn mk ++ wX g dA (nI N) ks as_ bs (nI L) sg fl fd (nI 1) u1) := hD
  refine lv_aload_n hx hb dL_law_217 rfl (lv_at hl 2 rfl) ?_
  refine zcallMi (As := []) (rest := [.int (r1)]) (wr := wX g dA (nI N) ks as_ bs (nI L) sg fl fd (nI 1) u1) (ci := 1) (q0 := 0) [0, 1, 2, 3, 4] [5, 6, 7, 8, 9, 10, 11] ⟨hx, hb, hml, hown, hts⟩ (met_X1_failing l dC dI h dA H.size N C kt at_ bt (nI L) (nI D) kn mk  hN hC2 h_k) (cwV 0 hts (lw_V q268 q269 q270 q26 q271) rfl rfl rfl (by decide +kernel) ⟨Nat.le_of_ble_eq_true rfl, Nat.le_of_ble_eq_true rfl⟩) hK hP hD hS hA rfl rfl (by decide) (by decide) (by decide) rfl rfl rfl hl.1 rfl (Nat.le_of_ble_eq_true rfl) dL_law_218 ⟨by decide, by decide⟩ (fun r2 u2 H locs h2 hP hD hS => ?_)
  have hP : va_P (dC, dI) zCl (wX g dA (nI N) ks as_ bs (nI L) sg fl fd (nI 1) u1 ++ wM h dA (nI N) kt at_ bt (nI L) (nI D) (nI 1) u2) H := hP
  have hD : va_D (fun q : Nat => s.heap.size ≤ q) (wX g dA (nI N) ks as_ bs (nI L) sg fl fd (nI 1) u1 ++ wM h dA (nI N) kt at_ bt (nI L) (nI D) (nI 1) u2) := hD
  obtain ⟨e1, hT1⟩ := h1
  obtain ⟨e2, hT2⟩ := h2
  have heq : r1 = r2 := by rw [e1, e2, zbt_0, zall hN hG]
  refine lv_icmp_eq (x := r1) (y := r2) (tgt := 347) hx hb dL_law_221 (by decide) (fun _ => ?_) (fun c9 => absurd heq c9)
  exact k N C ks as_ bs L D sg fl fd (nI 1) u1 kt at_ bt (nI 1) u2 ⟨hN, hC, hC2, hL, hD4, h_f, Or.inr ⟨rfl, hT1⟩, Or.inr ⟨rfl, hT2⟩⟩ _ _ hP hD hS _ hl
set_option maxHeartbeats 8000000 in
set_option maxRecDepth 100000 in
theorem law_failingOf {p : Program} {l : Launch} {e : Env} {s : State} {m : MethodId} {below : List Frame} {meth : Method} {c : Code} {dC : Nat → ClassId} {dI : Nat → Nat → Nat} {g h : Nat → Nat} {dA : ClassId} {b Ls : Nat} {xs : Nat → Int32} {i : Nat} (hLs : Ls ≤ 256) (C0 : lw_At p s m meth c b Ls xs) (hi : i + 4 ≤ Ls) (hK : va_K (dC, dI) zCl [(dA, .int)] s) (k : zLG p l e s m below meth c dC dI g h dA b i 347) : zLG p l e s m below meth c dC dI g h dA b i 226 := by
  obtain ⟨hx, hb, hr, hml, hown, hts0, hX, hbl, hlocks, hgv⟩ := id C0
  have hts : ∀ w ∈ lw_all, w.before #[Value.ref b] s = true := fun w h => hts0 w (lw_all_tbl h)
  have hA : ∀ q : Nat, s.heap.size ≤ q → (fun q : Nat => s.heap.size ≤ q) q := fun _ h => h
  have hbA : ¬ (fun q : Nat => s.heap.size ≤ q) b := Nat.not_le.mpr hbl
  intro N C ks as_ bs L D sg fl fd rd wy kt at_ bt kn mk hI H locs hP hD hS ls hl
  obtain ⟨hN, hC, hC2, hL, hD4, h_f, h_r, h_k⟩ := id hI
  have hG := zreps_G hC (Nat.le_refl N)
  refine lv_aload_n hx hb dL_law_226 rfl (lv_at hl 1 rfl) ?_
  refine lv_aload_n hx hb dL_law_227 rfl (lv_at hl 0 rfl) ?_
  refine lv_iload_n hx hb dL_law_228 rfl (lv_at hl 3 rfl) ?_
  refine lv_iconst (v := nI (1)) hx hb dL_law_229 (by decide +kernel) ?_
  refine zn_iadd hx hb dL_law_230 ?_
  refine zn_sld hx hb hX hbl hbA hS (show i + 1 < Ls by omega) (by omega) dL_law_231 ?_
  refine zcallMi (As := [.int (xs (i + 1))]) (rest := []) (wr := wM h dA (nI N) kt at_ bt (nI L) (nI D) kn mk) (ci := 0) (q0 := 0) [0, 1, 2, 3, 4, 5, 6] [7, 8, 9, 10, 11] ⟨hx, hb, hml, hown, hts⟩ (met_X0_failingOf l dC dI g dA H.size N C ks as_ bs (nI L) sg fl fd rd wy (xs (i + 1)) hN hC h_r) (cwV 1 hts (lw_V q129 q130 q131 q25 q132) rfl rfl rfl (by decide +kernel) ⟨Nat.le_of_ble_eq_true rfl, Nat.le_of_ble_eq_true rfl⟩) hK hP hD hS hA rfl rfl (by decide) (by decide) (by decide) rfl rfl rfl hl.1 rfl (Nat.le_of_ble_eq_true rfl) dL_law_232 ⟨by decide, by decide⟩ (fun r1 u1 H locs h1 hP hD hS => ?_)
  obtain ⟨rd1, wy1⟩ := u1
  dsimp only at h1
  have hP : va_P (dC, dI) zCl (wM h dA (nI N) kt at_ bt (nI L) (nI D) kn mk ++ wX g dA (nI N) ks as_ bs (nI L) sg fl fd rd1 wy1) H := hP
  have hD : va_D (fun q : Nat => s.heap.size ≤ q) (wM h dA (nI N) kt at_ bt (nI L) (nI D) kn mk ++ wX g dA (nI N) ks as_ bs (nI L) sg fl fd rd1 wy1) := hD
  refine lv_aload_n hx hb dL_law_235 rfl (lv_at hl 2 rfl) ?_
  refine lv_aload_n hx hb dL_law_236 rfl (lv_at hl 0 rfl) ?_
  refine lv_iload_n hx hb dL_law_237 rfl (lv_at hl 3 rfl) ?_
  refine lv_iconst (v := nI (1)) hx hb dL_law_238 (by decide +kernel) ?_
  refine zn_iadd hx hb dL_law_239 ?_
  refine zn_sld hx hb hX hbl hbA hS (show i + 1 < Ls by omega) (by omega) dL_law_240 ?_
  refine zcallMi (As := [.int (xs (i + 1))]) (rest := [.int (r1)]) (wr := wX g dA (nI N) ks as_ bs (nI L) sg fl fd rd1 wy1) (ci := 1) (q0 := 0) [0, 1, 2, 3, 4] [5, 6, 7, 8, 9, 10, 11] ⟨hx, hb, hml, hown, hts⟩ (met_X1_failingOf l dC dI h dA H.size N C kt at_ bt (nI L) (nI D) kn mk (xs (i + 1)) hN hC2 h_k) (cwV 1 hts (lw_V q276 q277 q278 q26 q279) rfl rfl rfl (by decide +kernel) ⟨Nat.le_of_ble_eq_true rfl, Nat.le_of_ble_eq_true rfl⟩) hK hP hD hS hA rfl rfl (by decide) (by decide) (by decide) rfl rfl rfl hl.1 rfl (Nat.le_of_ble_eq_true rfl) dL_law_241 ⟨by decide, by decide⟩ (fun r2 u2 H locs h2 hP hD hS => ?_)
  obtain ⟨kn2, mk2⟩ := u2
  dsimp only at h2
  have hP : va_P (dC, dI) zCl (wX g dA (nI N) ks as_ bs (nI L) sg fl fd rd1 wy1 ++ wM h dA (nI N) kt at_ bt (nI L) (nI D) kn2 mk2) H := hP
  have hD : va_D (fun q : Nat => s.heap.size ≤ q) (wX g dA (nI N) ks as_ bs (nI L) sg fl fd rd1 wy1 ++ wM h dA (nI N) kt at_ bt (nI L) (nI D) kn2 mk2) := hD
  obtain ⟨e1, hT1⟩ := h1
  obtain ⟨e2, hT2⟩ := h2
  have heq : r1 = r2 := by rw [e1, e2, zfo_fm hN hG]
  refine lv_icmp_eq (x := r1) (y := r2) (tgt := 347) hx hb dL_law_244 (by decide) (fun _ => ?_) (fun c9 => absurd heq c9)
  exact k N C ks as_ bs L D sg fl fd rd1 wy1 kt at_ bt kn2 mk2 ⟨hN, hC, hC2, hL, hD4, h_f, hT1, hT2⟩ _ _ hP hD hS _ hl
set_option maxHeartbeats 8000000 in
set_option maxRecDepth 100000 in
theorem law_fails {p : Program} {l : Launch} {e : Env} {s : State} {m : MethodId} {below : List Frame} {meth : Method} {c : Code} {dC : Nat → ClassId} {dI : Nat → Nat → Nat} {g h : Nat → Nat} {dA : ClassId} {b Ls : Nat} {xs : Nat → Int32} {i : Nat} (hLs : Ls ≤ 256) (C0 : lw_At p s m meth c b Ls xs) (hi : i + 4 ≤ Ls) (hK : va_K (dC, dI) zCl [(dA, .int)] s) (k : zLG p l e s m below meth c dC dI g h dA b i 347) : zLG p l e s m below meth c dC dI g h dA b i 249 := by
  obtain ⟨hx, hb, hr, hml, hown, hts0, hX, hbl, hlocks, hgv⟩ := id C0
  have hts : ∀ w ∈ lw_all, w.before #[Value.ref b] s = true := fun w h => hts0 w (lw_all_tbl h)
  have hA : ∀ q : Nat, s.heap.size ≤ q → (fun q : Nat => s.heap.size ≤ q) q := fun _ h => h
  have hbA : ¬ (fun q : Nat => s.heap.size ≤ q) b := Nat.not_le.mpr hbl
  intro N C ks as_ bs L D sg fl fd rd wy kt at_ bt kn mk hI H locs hP hD hS ls hl
  obtain ⟨hN, hC, hC2, hL, hD4, h_f, h_r, h_k⟩ := id hI
  have hG := zreps_G hC (Nat.le_refl N)
  refine lv_aload_n hx hb dL_law_249 rfl (lv_at hl 1 rfl) ?_
  refine zcallR (As := []) (rest := []) (ci := 0) (q0 := 0) ⟨hx, hb, hml, hown, hts⟩ (met_X0_fails l dC dI g dA N C ks as_ bs L sg fl fd rd wy (zat L D) hN hC hL h_f) (cwV 0 hts (lw_V q133 q134 q135 q25 q136) rfl rfl rfl (by decide +kernel) ⟨Nat.le_of_ble_eq_true rfl, Nat.le_of_ble_eq_true rfl⟩) hK (hP.sub (ws' := wX g dA (nI N) ks as_ bs (nI L) sg fl fd rd wy) [0, 1, 2, 3, 4, 5, 6] rfl) rfl rfl rfl hl.1 rfl (Nat.le_of_ble_eq_true rfl) dL_law_250 ⟨by decide, by decide⟩ (fun r1 h1 => ?_)
  refine lv_aload_n hx hb dL_law_253 rfl (lv_at hl 2 rfl) ?_
  refine zcallR (As := []) (rest := [.int (r1)]) (ci := 1) (q0 := 0) ⟨hx, hb, hml, hown, hts⟩ (met_X1_fails l dC dI h dA N C kt at_ bt L D kn mk  hN hC2 hL hD4) (cwV 0 hts (lw_V q280 q281 q282 q26 q283) rfl rfl rfl (by decide +kernel) ⟨Nat.le_of_ble_eq_true rfl, Nat.le_of_ble_eq_true rfl⟩) hK (hP.sub (ws' := wM h dA (nI N) kt at_ bt (nI L) (nI D) kn mk) [7, 8, 9, 10, 11] rfl) rfl rfl rfl hl.1 rfl (Nat.le_of_ble_eq_true rfl) dL_law_254 ⟨by decide, by decide⟩ (fun r2 h2 => ?_)
  have heq : r1 = r2 := by rw [h1, h2, zak_fl hN hG L D N (Nat.le_refl _)]
  refine lv_icmp_eq (x := r1) (y := r2) (tgt := 347) hx hb dL_law_257 (by decide) (fun _ => ?_) (fun c9 => absurd heq c9)
  exact k N C ks as_ bs L D sg fl fd rd wy kt at_ bt kn mk hI _ _ hP hD hS _ hl
set_option maxHeartbeats 8000000 in
set_option maxRecDepth 100000 in
theorem law_rank {p : Program} {l : Launch} {e : Env} {s : State} {m : MethodId} {below : List Frame} {meth : Method} {c : Code} {dC : Nat → ClassId} {dI : Nat → Nat → Nat} {g h : Nat → Nat} {dA : ClassId} {b Ls : Nat} {xs : Nat → Int32} {i : Nat} (hLs : Ls ≤ 256) (C0 : lw_At p s m meth c b Ls xs) (hi : i + 4 ≤ Ls) (hK : va_K (dC, dI) zCl [(dA, .int)] s) (k : zLG p l e s m below meth c dC dI g h dA b i 347) : zLG p l e s m below meth c dC dI g h dA b i 262 := by
  obtain ⟨hx, hb, hr, hml, hown, hts0, hX, hbl, hlocks, hgv⟩ := id C0
  have hts : ∀ w ∈ lw_all, w.before #[Value.ref b] s = true := fun w h => hts0 w (lw_all_tbl h)
  have hA : ∀ q : Nat, s.heap.size ≤ q → (fun q : Nat => s.heap.size ≤ q) q := fun _ h => h
  have hbA : ¬ (fun q : Nat => s.heap.size ≤ q) b := Nat.not_le.mpr hbl
  intro N C ks as_ bs L D sg fl fd rd wy kt at_ bt kn mk hI H locs hP hD hS ls hl
  obtain ⟨hN, hC, hC2, hL, hD4, h_f, h_r, h_k⟩ := id hI
  have hG := zreps_G hC (Nat.le_refl N)
  refine lv_aload_n hx hb dL_law_262 rfl (lv_at hl 1 rfl) ?_
  refine zcallMi (As := []) (rest := []) (wr := wM h dA (nI N) kt at_ bt (nI L) (nI D) kn mk) (ci := 0) (q0 := 0) [0, 1, 2, 3, 4, 5, 6] [7, 8, 9, 10, 11] ⟨hx, hb, hml, hown, hts⟩ (met_X0_rank l dC dI g dA H.size N C ks as_ bs L sg fl fd rd wy (zat L D) hN hC h_r hL h_f) (cwV 0 hts (lw_V q141 q142 q143 q25 q144) rfl rfl rfl (by decide +kernel) ⟨Nat.le_of_ble_eq_true rfl, Nat.le_of_ble_eq_true rfl⟩) hK hP hD hS hA rfl rfl (by decide) (by decide) (by decide) rfl rfl rfl hl.1 rfl (Nat.le_of_ble_eq_true rfl) dL_law_263 ⟨by decide, by decide⟩ (fun r1 u1 H locs h1 hP hD hS => ?_)
  have hP : va_P (dC, dI) zCl (wM h dA (nI N) kt at_ bt (nI L) (nI D) kn mk ++ wX g dA (nI N) ks as_ bs (nI L) sg fl fd (nI 1) u1) H := hP
  have hD : va_D (fun q : Nat => s.heap.size ≤ q) (wM h dA (nI N) kt at_ bt (nI L) (nI D) kn mk ++ wX g dA (nI N) ks as_ bs (nI L) sg fl fd (nI 1) u1) := hD
  refine lv_aload_n hx hb dL_law_266 rfl (lv_at hl 2 rfl) ?_
  refine zcallMi (As := []) (rest := [.int (r1)]) (wr := wX g dA (nI N) ks as_ bs (nI L) sg fl fd (nI 1) u1) (ci := 1) (q0 := 0) [0, 1, 2, 3, 4] [5, 6, 7, 8, 9, 10, 11] ⟨hx, hb, hml, hown, hts⟩ (met_X1_rank l dC dI h dA H.size N C kt at_ bt L D kn mk  hN hC2 h_k hL hD4) (cwV 0 hts (lw_V q284 q285 q286 q26 q287) rfl rfl rfl (by decide +kernel) ⟨Nat.le_of_ble_eq_true rfl, Nat.le_of_ble_eq_true rfl⟩) hK hP hD hS hA rfl rfl (by decide) (by decide) (by decide) rfl rfl rfl hl.1 rfl (Nat.le_of_ble_eq_true rfl) dL_law_267 ⟨by decide, by decide⟩ (fun r2 u2 H locs h2 hP hD hS => ?_)
  have hP : va_P (dC, dI) zCl (wX g dA (nI N) ks as_ bs (nI L) sg fl fd (nI 1) u1 ++ wM h dA (nI N) kt at_ bt (nI L) (nI D) (nI 1) u2) H := hP
  have hD : va_D (fun q : Nat => s.heap.size ≤ q) (wX g dA (nI N) ks as_ bs (nI L) sg fl fd (nI 1) u1 ++ wM h dA (nI N) kt at_ bt (nI L) (nI D) (nI 1) u2) := hD
  obtain ⟨e1, hT1⟩ := h1
  obtain ⟨e2, hT2⟩ := h2
  have heq : r1 = r2 := by rw [e1, e2, zbt_0, zrank_eq hN hG hL hD4]
  refine lv_icmp_eq (x := r1) (y := r2) (tgt := 347) hx hb dL_law_270 (by decide) (fun _ => ?_) (fun c9 => absurd heq c9)
  exact k N C ks as_ bs L D sg fl fd (nI 1) u1 kt at_ bt (nI 1) u2 ⟨hN, hC, hC2, hL, hD4, h_f, Or.inr ⟨rfl, hT1⟩, Or.inr ⟨rfl, hT2⟩⟩ _ _ hP hD hS _ hl
set_option maxHeartbeats 8000000 in
set_option maxRecDepth 100000 in
theorem law_extending {p : Program} {l : Launch} {e : Env} {s : State} {m : MethodId} {below : List Frame} {meth : Method} {c : Code} {dC : Nat → ClassId} {dI : Nat → Nat → Nat} {g h : Nat → Nat} {dA : ClassId} {b Ls : Nat} {xs : Nat → Int32} {i : Nat} (hLs : Ls ≤ 256) (C0 : lw_At p s m meth c b Ls xs) (hi : i + 4 ≤ Ls) (hK : va_K (dC, dI) zCl [(dA, .int)] s) (k : zLG p l e s m below meth c dC dI g h dA b i 347) : zLG p l e s m below meth c dC dI g h dA b i 275 := by
  obtain ⟨hx, hb, hr, hml, hown, hts0, hX, hbl, hlocks, hgv⟩ := id C0
  have hts : ∀ w ∈ lw_all, w.before #[Value.ref b] s = true := fun w h => hts0 w (lw_all_tbl h)
  have hA : ∀ q : Nat, s.heap.size ≤ q → (fun q : Nat => s.heap.size ≤ q) q := fun _ h => h
  have hbA : ¬ (fun q : Nat => s.heap.size ≤ q) b := Nat.not_le.mpr hbl
  intro N C ks as_ bs L D sg fl fd rd wy kt at_ bt kn mk hI H locs hP hD hS ls hl
  obtain ⟨hN, hC, hC2, hL, hD4, h_f, h_r, h_k⟩ := id hI
  have hG := zreps_G hC (Nat.le_refl N)
  refine lv_aload_n hx hb dL_law_275 rfl (lv_at hl 1 rfl) ?_
  refine zcallMi (As := []) (rest := []) (wr := wM h dA (nI N) kt at_ bt (nI L) (nI D) kn mk) (ci := 0) (q0 := 0) [0, 1, 2, 3, 4, 5, 6] [7, 8, 9, 10, 11] ⟨hx, hb, hml, hown, hts⟩ (met_X0_extending l dC dI g dA H.size N C ks as_ bs L sg fl fd rd wy (zat L D) hN hC h_r hL h_f) (cwV 0 hts (lw_V q145 q146 q147 q25 q148) rfl rfl rfl (by decide +kernel) ⟨Nat.le_of_ble_eq_true rfl, Nat.le_of_ble_eq_true rfl⟩) hK hP hD hS hA rfl rfl (by decide) (by decide) (by decide) rfl rfl rfl hl.1 rfl (Nat.le_of_ble_eq_true rfl) dL_law_276 ⟨by decide, by decide⟩ (fun r1 u1 H locs h1 hP hD hS => ?_)
  have hP : va_P (dC, dI) zCl (wM h dA (nI N) kt at_ bt (nI L) (nI D) kn mk ++ wX g dA (nI N) ks as_ bs (nI L) sg fl fd (nI 1) u1) H := hP
  have hD : va_D (fun q : Nat => s.heap.size ≤ q) (wM h dA (nI N) kt at_ bt (nI L) (nI D) kn mk ++ wX g dA (nI N) ks as_ bs (nI L) sg fl fd (nI 1) u1) := hD
  refine lv_aload_n hx hb dL_law_279 rfl (lv_at hl 2 rfl) ?_
  refine zcallMi (As := []) (rest := [.int (r1)]) (wr := wX g dA (nI N) ks as_ bs (nI L) sg fl fd (nI 1) u1) (ci := 1) (q0 := 0) [0, 1, 2, 3, 4] [5, 6, 7, 8, 9, 10, 11] ⟨hx, hb, hml, hown, hts⟩ (met_X1_extending l dC dI h dA H.size N C kt at_ bt L D kn mk  hN hC2 h_k hL hD4) (cwV 0 hts (lw_V q288 q289 q290 q26 q291) rfl rfl rfl (by decide +kernel) ⟨Nat.le_of_ble_eq_true rfl, Nat.le_of_ble_eq_true rfl⟩) hK hP hD hS hA rfl rfl (by decide) (by decide) (by decide) rfl rfl rfl hl.1 rfl (Nat.le_of_ble_eq_true rfl) dL_law_280 ⟨by decide, by decide⟩ (fun r2 u2 H locs h2 hP hD hS => ?_)
  have hP : va_P (dC, dI) zCl (wX g dA (nI N) ks as_ bs (nI L) sg fl fd (nI 1) u1 ++ wM h dA (nI N) kt at_ bt (nI L) (nI D) (nI 1) u2) H := hP
  have hD : va_D (fun q : Nat => s.heap.size ≤ q) (wX g dA (nI N) ks as_ bs (nI L) sg fl fd (nI 1) u1 ++ wM h dA (nI N) kt at_ bt (nI L) (nI D) (nI 1) u2) := hD
  obtain ⟨e1, hT1⟩ := h1
  obtain ⟨e2, hT2⟩ := h2
  have heq : r1 = r2 := by rw [e1, e2, zxo_ex hN hG hD4 (7 - L) (by omega)]
  refine lv_icmp_eq (x := r1) (y := r2) (tgt := 347) hx hb dL_law_283 (by decide) (fun _ => ?_) (fun c9 => absurd heq c9)
  exact k N C ks as_ bs L D sg fl fd (nI 1) u1 kt at_ bt (nI 1) u2 ⟨hN, hC, hC2, hL, hD4, h_f, Or.inr ⟨rfl, hT1⟩, Or.inr ⟨rfl, hT2⟩⟩ _ _ hP hD hS _ hl
set_option maxHeartbeats 8000000 in
set_option maxRecDepth 100000 in
theorem law_leastLength {p : Program} {l : Launch} {e : Env} {s : State} {m : MethodId} {below : List Frame} {meth : Method} {c : Code} {dC : Nat → ClassId} {dI : Nat → Nat → Nat} {g h : Nat → Nat} {dA : ClassId} {b Ls : Nat} {xs : Nat → Int32} {i : Nat} (hLs : Ls ≤ 256) (C0 : lw_At p s m meth c b Ls xs) (hi : i + 4 ≤ Ls) (hK : va_K (dC, dI) zCl [(dA, .int)] s) (k : zLG p l e s m below meth c dC dI g h dA b i 347) : zLG p l e s m below meth c dC dI g h dA b i 288 := by
  obtain ⟨hx, hb, hr, hml, hown, hts0, hX, hbl, hlocks, hgv⟩ := id C0
  have hts : ∀ w ∈ lw_all, w.before #[Value.ref b] s = true := fun w h => hts0 w (lw_all_tbl h)
  have hA : ∀ q : Nat, s.heap.size ≤ q → (fun q : Nat => s.heap.size ≤ q) q := fun _ h => h
  have hbA : ¬ (fun q : Nat => s.heap.size ≤ q) b := Nat.not_le.mpr hbl
  intro N C ks as_ bs L D sg fl fd rd wy kt at_ bt kn mk hI H locs hP hD hS ls hl
  obtain ⟨hN, hC, hC2, hL, hD4, h_f, h_r, h_k⟩ := id hI
  have hG := zreps_G hC (Nat.le_refl N)
  refine lv_aload_n hx hb dL_law_288 rfl (lv_at hl 1 rfl) ?_
  refine zcallMi (As := []) (rest := []) (wr := wM h dA (nI N) kt at_ bt (nI L) (nI D) kn mk) (ci := 0) (q0 := 0) [0, 1, 2, 3, 4, 5, 6] [7, 8, 9, 10, 11] ⟨hx, hb, hml, hown, hts⟩ (met_X0_leastLength l dC dI g dA H.size N C ks as_ bs (nI L) sg fl fd rd wy  hN hC h_r) (cwV 0 hts (lw_V q149 q150 q151 q25 q152) rfl rfl rfl (by decide +kernel) ⟨Nat.le_of_ble_eq_true rfl, Nat.le_of_ble_eq_true rfl⟩) hK hP hD hS hA rfl rfl (by decide) (by decide) (by decide) rfl rfl rfl hl.1 rfl (Nat.le_of_ble_eq_true rfl) dL_law_289 ⟨by decide, by decide⟩ (fun r1 u1 H locs h1 hP hD hS => ?_)
  obtain ⟨fl1, fd1, wy1⟩ := u1
  dsimp only at h1
  have hP : va_P (dC, dI) zCl (wM h dA (nI N) kt at_ bt (nI L) (nI D) kn mk ++ wX g dA (nI N) ks as_ bs (nI L) sg fl1 fd1 (nI 1) wy1) H := hP
  have hD : va_D (fun q : Nat => s.heap.size ≤ q) (wM h dA (nI N) kt at_ bt (nI L) (nI D) kn mk ++ wX g dA (nI N) ks as_ bs (nI L) sg fl1 fd1 (nI 1) wy1) := hD
  refine lv_aload_n hx hb dL_law_292 rfl (lv_at hl 2 rfl) ?_
  refine zcallMi (As := []) (rest := [.int (r1)]) (wr := wX g dA (nI N) ks as_ bs (nI L) sg fl1 fd1 (nI 1) wy1) (ci := 1) (q0 := 0) [0, 1, 2, 3, 4] [5, 6, 7, 8, 9, 10, 11] ⟨hx, hb, hml, hown, hts⟩ (met_X1_leastLength l dC dI h dA H.size N C kt at_ bt (nI L) (nI D) kn mk  hN hC2 h_k) (cwV 0 hts (lw_V q292 q293 q294 q26 q295) rfl rfl rfl (by decide +kernel) ⟨Nat.le_of_ble_eq_true rfl, Nat.le_of_ble_eq_true rfl⟩) hK hP hD hS hA rfl rfl (by decide) (by decide) (by decide) rfl rfl rfl hl.1 rfl (Nat.le_of_ble_eq_true rfl) dL_law_293 ⟨by decide, by decide⟩ (fun r2 u2 H locs h2 hP hD hS => ?_)
  have hP : va_P (dC, dI) zCl (wX g dA (nI N) ks as_ bs (nI L) sg fl1 fd1 (nI 1) wy1 ++ wM h dA (nI N) kt at_ bt (nI L) (nI D) (nI 1) u2) H := hP
  have hD : va_D (fun q : Nat => s.heap.size ≤ q) (wX g dA (nI N) ks as_ bs (nI L) sg fl1 fd1 (nI 1) wy1 ++ wM h dA (nI N) kt at_ bt (nI L) (nI D) (nI 1) u2) := hD
  obtain ⟨hT1, h1⟩ := h1
  obtain ⟨hT2, h2⟩ := h2
  have heq : r1 = r2 := zlen_join hN hG h1 h2
  refine lv_icmp_eq (x := r1) (y := r2) (tgt := 347) hx hb dL_law_296 (by decide) (fun _ => ?_) (fun c9 => absurd heq c9)
  exact k N C ks as_ bs L D sg fl1 fd1 (nI 1) wy1 kt at_ bt (nI 1) u2 ⟨hN, hC, hC2, hL, hD4, h_f, Or.inr ⟨rfl, hT1⟩, Or.inr ⟨rfl, hT2⟩⟩ _ _ hP hD hS _ hl
set_option maxHeartbeats 8000000 in
set_option maxRecDepth 100000 in
theorem law_least {p : Program} {l : Launch} {e : Env} {s : State} {m : MethodId} {below : List Frame} {meth : Method} {c : Code} {dC : Nat → ClassId} {dI : Nat → Nat → Nat} {g h : Nat → Nat} {dA : ClassId} {b Ls : Nat} {xs : Nat → Int32} {i : Nat} (hLs : Ls ≤ 256) (C0 : lw_At p s m meth c b Ls xs) (hi : i + 4 ≤ Ls) (hK : va_K (dC, dI) zCl [(dA, .int)] s) (k : zLG p l e s m below meth c dC dI g h dA b i 347) : zLG p l e s m below meth c dC dI g h dA b i 301 := by
  obtain ⟨hx, hb, hr, hml, hown, hts0, hX, hbl, hlocks, hgv⟩ := id C0
  have hts : ∀ w ∈ lw_all, w.before #[Value.ref b] s = true := fun w h => hts0 w (lw_all_tbl h)
  have hA : ∀ q : Nat, s.heap.size ≤ q → (fun q : Nat => s.heap.size ≤ q) q := fun _ h => h
  have hbA : ¬ (fun q : Nat => s.heap.size ≤ q) b := Nat.not_le.mpr hbl
  intro N C ks as_ bs L D sg fl fd rd wy kt at_ bt kn mk hI H locs hP hD hS ls hl
  obtain ⟨hN, hC, hC2, hL, hD4, h_f, h_r, h_k⟩ := id hI
  have hG := zreps_G hC (Nat.le_refl N)
  refine lv_aload_n hx hb dL_law_301 rfl (lv_at hl 1 rfl) ?_
  refine lv_aload_n hx hb dL_law_302 rfl (lv_at hl 0 rfl) ?_
  refine lv_iload_n hx hb dL_law_303 rfl (lv_at hl 3 rfl) ?_
  refine lv_iconst (v := nI (1)) hx hb dL_law_304 (by decide +kernel) ?_
  refine zn_iadd hx hb dL_law_305 ?_
  refine zn_sld hx hb hX hbl hbA hS (show i + 1 < Ls by omega) (by omega) dL_law_306 ?_
  refine zcallMi (As := [.int (xs (i + 1))]) (rest := []) (wr := wM h dA (nI N) kt at_ bt (nI L) (nI D) kn mk) (ci := 0) (q0 := 0) [0, 1, 2, 3, 4, 5, 6] [7, 8, 9, 10, 11] ⟨hx, hb, hml, hown, hts⟩ (met_X0_least l dC dI g dA H.size N C ks as_ bs (nI L) sg fl fd rd wy (xs (i + 1)) hN hC h_r) (cwV 1 hts (lw_V q153 q154 q155 q25 q156) rfl rfl rfl (by decide +kernel) ⟨Nat.le_of_ble_eq_true rfl, Nat.le_of_ble_eq_true rfl⟩) hK hP hD hS hA rfl rfl (by decide) (by decide) (by decide) rfl rfl rfl hl.1 rfl (Nat.le_of_ble_eq_true rfl) dL_law_307 ⟨by decide, by decide⟩ (fun r1 u1 H locs h1 hP hD hS => ?_)
  obtain ⟨fl1, fd1, wy1⟩ := u1
  dsimp only at h1
  have hP : va_P (dC, dI) zCl (wM h dA (nI N) kt at_ bt (nI L) (nI D) kn mk ++ wX g dA (nI N) ks as_ bs (nI L) sg fl1 fd1 (nI 1) wy1) H := hP
  have hD : va_D (fun q : Nat => s.heap.size ≤ q) (wM h dA (nI N) kt at_ bt (nI L) (nI D) kn mk ++ wX g dA (nI N) ks as_ bs (nI L) sg fl1 fd1 (nI 1) wy1) := hD
  refine lv_aload_n hx hb dL_law_310 rfl (lv_at hl 2 rfl) ?_
  refine lv_aload_n hx hb dL_law_311 rfl (lv_at hl 0 rfl) ?_
  refine lv_iload_n hx hb dL_law_312 rfl (lv_at hl 3 rfl) ?_
  refine lv_iconst (v := nI (1)) hx hb dL_law_313 (by decide +kernel) ?_
  refine zn_iadd hx hb dL_law_314 ?_
  refine zn_sld hx hb hX hbl hbA hS (show i + 1 < Ls by omega) (by omega) dL_law_315 ?_
  refine zcallMi (As := [.int (xs (i + 1))]) (rest := [.int (r1)]) (wr := wX g dA (nI N) ks as_ bs (nI L) sg fl1 fd1 (nI 1) wy1) (ci := 1) (q0 := 0) [0, 1, 2, 3, 4] [5, 6, 7, 8, 9, 10, 11] ⟨hx, hb, hml, hown, hts⟩ (met_X1_least l dC dI h dA H.size N C kt at_ bt (nI L) (nI D) kn mk (xs (i + 1)) hN hC2 h_k) (cwV 1 hts (lw_V q296 q297 q298 q26 q299) rfl rfl rfl (by decide +kernel) ⟨Nat.le_of_ble_eq_true rfl, Nat.le_of_ble_eq_true rfl⟩) hK hP hD hS hA rfl rfl (by decide) (by decide) (by decide) rfl rfl rfl hl.1 rfl (Nat.le_of_ble_eq_true rfl) dL_law_316 ⟨by decide, by decide⟩ (fun r2 u2 H locs h2 hP hD hS => ?_)
  have hP : va_P (dC, dI) zCl (wX g dA (nI N) ks as_ bs (nI L) sg fl1 fd1 (nI 1) wy1 ++ wM h dA (nI N) kt at_ bt (nI L) (nI D) (nI 1) u2) H := hP
  have hD : va_D (fun q : Nat => s.heap.size ≤ q) (wX g dA (nI N) ks as_ bs (nI L) sg fl1 fd1 (nI 1) wy1 ++ wM h dA (nI N) kt at_ bt (nI L) (nI D) (nI 1) u2) := hD
  obtain ⟨hT1, h1⟩ := h1
  obtain ⟨hT2, h2⟩ := h2
  have heq : r1 = r2 := zleast_join hN hG h1 h2
  refine lv_icmp_eq (x := r1) (y := r2) (tgt := 347) hx hb dL_law_319 (by decide) (fun _ => ?_) (fun c9 => absurd heq c9)
  exact k N C ks as_ bs L D sg fl1 fd1 (nI 1) wy1 kt at_ bt (nI 1) u2 ⟨hN, hC, hC2, hL, hD4, h_f, Or.inr ⟨rfl, hT1⟩, Or.inr ⟨rfl, hT2⟩⟩ _ _ hP hD hS _ hl
set_option maxHeartbeats 8000000 in
set_option maxRecDepth 100000 in
theorem law_element {p : Program} {l : Launch} {e : Env} {s : State} {m : MethodId} {below : List Frame} {meth : Method} {c : Code} {dC : Nat → ClassId} {dI : Nat → Nat → Nat} {g h : Nat → Nat} {dA : ClassId} {b Ls : Nat} {xs : Nat → Int32} {i : Nat} (hLs : Ls ≤ 256) (C0 : lw_At p s m meth c b Ls xs) (hi : i + 4 ≤ Ls) (hK : va_K (dC, dI) zCl [(dA, .int)] s) (k : zLG p l e s m below meth c dC dI g h dA b i 347) : zLG p l e s m below meth c dC dI g h dA b i 324 := by
  obtain ⟨hx, hb, hr, hml, hown, hts0, hX, hbl, hlocks, hgv⟩ := id C0
  have hts : ∀ w ∈ lw_all, w.before #[Value.ref b] s = true := fun w h => hts0 w (lw_all_tbl h)
  have hA : ∀ q : Nat, s.heap.size ≤ q → (fun q : Nat => s.heap.size ≤ q) q := fun _ h => h
  have hbA : ¬ (fun q : Nat => s.heap.size ≤ q) b := Nat.not_le.mpr hbl
  intro N C ks as_ bs L D sg fl fd rd wy kt at_ bt kn mk hI H locs hP hD hS ls hl
  obtain ⟨hN, hC, hC2, hL, hD4, h_f, h_r, h_k⟩ := id hI
  have hG := zreps_G hC (Nat.le_refl N)
  refine lv_aload_n hx hb dL_law_324 rfl (lv_at hl 1 rfl) ?_
  refine lv_aload_n hx hb dL_law_325 rfl (lv_at hl 0 rfl) ?_
  refine lv_iload_n hx hb dL_law_326 rfl (lv_at hl 3 rfl) ?_
  refine lv_iconst (v := nI (1)) hx hb dL_law_327 (by decide +kernel) ?_
  refine zn_iadd hx hb dL_law_328 ?_
  refine zn_sld hx hb hX hbl hbA hS (show i + 1 < Ls by omega) (by omega) dL_law_329 ?_
  refine zcallR (As := [.int (xs (i + 1))]) (rest := []) (ci := 0) (q0 := 0) ⟨hx, hb, hml, hown, hts⟩ (met_X0_element l dC dI g dA N C ks as_ bs L sg fl fd rd wy (zat L D) (xs (i + 1)) hN hC hL h_f) (cwV 1 hts (lw_V q157 q158 q159 q25 q160) rfl rfl rfl (by decide +kernel) ⟨Nat.le_of_ble_eq_true rfl, Nat.le_of_ble_eq_true rfl⟩) hK (hP.sub (ws' := wX g dA (nI N) ks as_ bs (nI L) sg fl fd rd wy) [0, 1, 2, 3, 4, 5, 6] rfl) rfl rfl rfl hl.1 rfl (Nat.le_of_ble_eq_true rfl) dL_law_330 ⟨by decide, by decide⟩ (fun r1 h1 => ?_)
  refine lv_aload_n hx hb dL_law_333 rfl (lv_at hl 2 rfl) ?_
  refine lv_aload_n hx hb dL_law_334 rfl (lv_at hl 0 rfl) ?_
  refine lv_iload_n hx hb dL_law_335 rfl (lv_at hl 3 rfl) ?_
  refine lv_iconst (v := nI (1)) hx hb dL_law_336 (by decide +kernel) ?_
  refine zn_iadd hx hb dL_law_337 ?_
  refine zn_sld hx hb hX hbl hbA hS (show i + 1 < Ls by omega) (by omega) dL_law_338 ?_
  refine zcallR (As := [.int (xs (i + 1))]) (rest := [.int (r1)]) (ci := 1) (q0 := 0) ⟨hx, hb, hml, hown, hts⟩ (met_X1_element l dC dI h dA N C kt at_ bt L D kn mk (xs (i + 1)) hN hC2 hL hD4) (cwV 1 hts (lw_V q300 q301 q302 q26 q303) rfl rfl rfl (by decide +kernel) ⟨Nat.le_of_ble_eq_true rfl, Nat.le_of_ble_eq_true rfl⟩) hK (hP.sub (ws' := wM h dA (nI N) kt at_ bt (nI L) (nI D) kn mk) [7, 8, 9, 10, 11] rfl) rfl rfl rfl hl.1 rfl (Nat.le_of_ble_eq_true rfl) dL_law_339 ⟨by decide, by decide⟩ (fun r2 h2 => ?_)
  have heq : r1 = r2 := h1.trans h2.symm
  refine lv_icmp_eq (x := r1) (y := r2) (tgt := 347) hx hb dL_law_342 (by decide) (fun _ => ?_) (fun c9 => absurd heq c9)
  exact k N C ks as_ bs L D sg fl fd rd wy kt at_ bt kn mk hI _ _ hP hD hS _ hl
end
section
/-! the law's loop and its start (written by gen/law.py) -/
set_option maxHeartbeats 8000000 in
set_option maxRecDepth 100000 in
/-- the law's loop, at its head -/
theorem law_loop {p : Program} {l : Launch} {e : Env} {s : State} {m : MethodId} {below : List Frame} {meth : Method} {c : Code} {dC : Nat → ClassId} {dI : Nat → Nat → Nat} {g h : Nat → Nat} {dA : ClassId} {b Ls : Nat} {xs : Nat → Int32} (hLs : Ls ≤ 256) (C0 : lw_At p s m meth c b Ls xs) (hK : va_K (dC, dI) zCl [(dA, .int)] s) : ∀ (d i : Nat), 260 - i < d → i ≤ 260 → zLG p l e s m below meth c dC dI g h dA b i 18 := by
  obtain ⟨hx, hb, hr, hml, hown, hts0, hX, hbl, hlocks, hgv⟩ := id C0
  have hbA : ¬ (fun q : Nat => s.heap.size ≤ q) b := Nat.not_le.mpr hbl
  intro d
  induction d with
  | zero =>
    intro i hd
    exact absurd hd (Nat.not_lt_zero _)
  | succ d ih =>
    intro i hd hi N C ks as_ bs L D sg fl fd rd wy kt at_ bt kn mk hI H locs hP hD hS ls hl
    refine lv_iload_n hx hb dL_law_18 rfl (lv_at hl 3 rfl) ?_
    refine lv_aload_n hx hb dL_law_19 rfl (lv_at hl 0 rfl) ?_
    refine va_slen hx hb hX hbl hbA hS dL_law_20 ?_
    refine zn_to (show Int32.ofNat Ls = nI Ls from rfl) ?_
    refine lv_iconst (v := nI (4)) hx hb dL_law_21 (by decide +kernel) ?_
    refine lv_isub hx hb dL_law_22 ?_
    refine lv_icmp_gt (x := nI i) (y := nI Ls - nI 4) (tgt := 353) hx hb dL_law_23 (by decide) (fun _ => ?_) (fun c_23 => ?_)
    · refine lv_iconst (v := 1) hx hb dL_law_353 (by decide +kernel) ?_
      refine va_forget (fun q hq => hS.2.2 q hq) ?_
      refine W.widen (k := 600000) (n := 7290000) (by decide) (by decide) ?_
      exact lw_ret hx hb hr hlocks dL_law_354
    · have hin : i + 4 ≤ Ls := zlaw_in hLs hi c_23
      have k347 : zLG p l e s m below meth c dC dI g h dA b i 347 := by
        intro N C ks as_ bs L D sg fl fd rd wy kt at_ bt kn mk hI H locs hP hD hS ls hl
        refine zn_iinc (a := i) (b := 4) (k := 3) (lv' := [(3, .int (nI (i + 4))), (0, .ref b), (1, .ref (g 0)), (2, .ref (h 0))]) hx hb dL_law_347 hl rfl (by decide) rfl (fun ls hl => ?_)
        refine lv_goto (tgt := 18) hx hb dL_law_350 (by decide) ?_
        exact ih (i + 4) (by omega) (by omega) N C ks as_ bs L D sg fl fd rd wy kt at_ bt kn mk hI _ _ hP hD hS _ (lv_sub hl [1, 2, 3, 0] rfl)
      refine lv_aload_n hx hb dL_law_26 rfl (lv_at hl 0 rfl) ?_
      refine lv_iload_n hx hb dL_law_27 rfl (lv_at hl 3 rfl) ?_
      refine zn_sld hx hb hX hbl hbA hS (show i < Ls by omega) (by omega) dL_law_28 ?_
      refine lv_bipush (v := nI (15)) hx hb dL_law_29 (by decide +kernel) ?_
      refine lv_iand hx hb dL_law_31 ?_
      obtain ⟨j, hj, ej⟩ := pk_andE (xs i) (m := nI 15) 4 (by decide +kernel)
      refine zn_to ej ?_
      rcases (show j = 0 ∨ j = 1 ∨ j = 2 ∨ j = 3 ∨ j = 4 ∨ j = 5 ∨ j = 6 ∨ j = 7 ∨ j = 8 ∨ j = 9 ∨ j = 10 ∨ j = 11 ∨ j = 12 ∨ j = 13 ∨ j = 14 ∨ j = 15 by omega) with rfl | rfl | rfl | rfl | rfl | rfl | rfl | rfl | rfl | rfl | rfl | rfl | rfl | rfl | rfl | rfl
      · refine lv_tableIn (x := nI 0) (off := 68) (tgt := 100) hx hb dL_law_32 (by decide +kernel) (by decide +kernel) (by decide +kernel) (by decide) ?_
        exact law_condition hLs C0 hin hK k347 N C ks as_ bs L D sg fl fd rd wy kt at_ bt kn mk hI _ _ hP hD hS _ hl
      · refine lv_tableIn (x := nI 1) (off := 111) (tgt := 143) hx hb dL_law_32 (by decide +kernel) (by decide +kernel) (by decide +kernel) (by decide) ?_
        exact law_drop hLs C0 hin hK k347 N C ks as_ bs L D sg fl fd rd wy kt at_ bt kn mk hI _ _ hP hD hS _ hl
      · refine lv_tableIn (x := nI 2) (off := 124) (tgt := 156) hx hb dL_law_32 (by decide +kernel) (by decide +kernel) (by decide +kernel) (by decide) ?_
        exact law_push hLs C0 hin hK k347 N C ks as_ bs L D sg fl fd rd wy kt at_ bt kn mk hI _ _ hP hD hS _ hl
      · refine lv_tableIn (x := nI 3) (off := 147) (tgt := 179) hx hb dL_law_32 (by decide +kernel) (by decide +kernel) (by decide +kernel) (by decide) ?_
        exact law_empty hLs C0 hin hK k347 N C ks as_ bs L D sg fl fd rd wy kt at_ bt kn mk hI _ _ hP hD hS _ hl
      · refine lv_tableIn (x := nI 4) (off := 158) (tgt := 190) hx hb dL_law_32 (by decide +kernel) (by decide +kernel) (by decide +kernel) (by decide) ?_
        exact law_load hLs C0 hin hK k347 N C ks as_ bs L D sg fl fd rd wy kt at_ bt kn mk hI _ _ hP hD hS _ hl
      · refine lv_tableIn (x := nI 5) (off := 181) (tgt := 213) hx hb dL_law_32 (by decide +kernel) (by decide +kernel) (by decide +kernel) (by decide) ?_
        exact law_failing hLs C0 hin hK k347 N C ks as_ bs L D sg fl fd rd wy kt at_ bt kn mk hI _ _ hP hD hS _ hl
      · refine lv_tableIn (x := nI 6) (off := 194) (tgt := 226) hx hb dL_law_32 (by decide +kernel) (by decide +kernel) (by decide +kernel) (by decide) ?_
        exact law_failingOf hLs C0 hin hK k347 N C ks as_ bs L D sg fl fd rd wy kt at_ bt kn mk hI _ _ hP hD hS _ hl
      · refine lv_tableIn (x := nI 7) (off := 217) (tgt := 249) hx hb dL_law_32 (by decide +kernel) (by decide +kernel) (by decide +kernel) (by decide) ?_
        exact law_fails hLs C0 hin hK k347 N C ks as_ bs L D sg fl fd rd wy kt at_ bt kn mk hI _ _ hP hD hS _ hl
      · refine lv_tableIn (x := nI 8) (off := 230) (tgt := 262) hx hb dL_law_32 (by decide +kernel) (by decide +kernel) (by decide +kernel) (by decide) ?_
        exact law_rank hLs C0 hin hK k347 N C ks as_ bs L D sg fl fd rd wy kt at_ bt kn mk hI _ _ hP hD hS _ hl
      · refine lv_tableIn (x := nI 9) (off := 243) (tgt := 275) hx hb dL_law_32 (by decide +kernel) (by decide +kernel) (by decide +kernel) (by decide) ?_
        exact law_extending hLs C0 hin hK k347 N C ks as_ bs L D sg fl fd rd wy kt at_ bt kn mk hI _ _ hP hD hS _ hl
      · refine lv_tableIn (x := nI 10) (off := 256) (tgt := 288) hx hb dL_law_32 (by decide +kernel) (by decide +kernel) (by decide +kernel) (by decide) ?_
        exact law_leastLength hLs C0 hin hK k347 N C ks as_ bs L D sg fl fd rd wy kt at_ bt kn mk hI _ _ hP hD hS _ hl
      · refine lv_tableIn (x := nI 11) (off := 269) (tgt := 301) hx hb dL_law_32 (by decide +kernel) (by decide +kernel) (by decide +kernel) (by decide) ?_
        exact law_least hLs C0 hin hK k347 N C ks as_ bs L D sg fl fd rd wy kt at_ bt kn mk hI _ _ hP hD hS _ hl
      · refine lv_tableIn (x := nI 12) (off := 292) (tgt := 324) hx hb dL_law_32 (by decide +kernel) (by decide +kernel) (by decide +kernel) (by decide) ?_
        exact law_element hLs C0 hin hK k347 N C ks as_ bs L D sg fl fd rd wy kt at_ bt kn mk hI _ _ hP hD hS _ hl
      · refine lv_tableOut (x := nI 13) (tgt := 347) hx hb dL_law_32 (by decide +kernel) (by decide) ?_
        exact k347 N C ks as_ bs L D sg fl fd rd wy kt at_ bt kn mk hI _ _ hP hD hS _ hl
      · refine lv_tableOut (x := nI 14) (tgt := 347) hx hb dL_law_32 (by decide +kernel) (by decide) ?_
        exact k347 N C ks as_ bs L D sg fl fd rd wy kt at_ bt kn mk hI _ _ hP hD hS _ hl
      · refine lv_tableOut (x := nI 15) (tgt := 347) hx hb dL_law_32 (by decide +kernel) (by decide) ?_
        exact k347 N C ks as_ bs L D sg fl fd rd wy kt at_ bt kn mk hI _ _ hP hD hS _ hl
set_option maxHeartbeats 8000000 in
set_option maxRecDepth 100000 in
/-- from the entry, for every script of at most 256 ints, the law comes to its end with true -/
theorem whole_start {p : Program} {e : Env} {s : State} {m : MethodId} {below : List Frame} {meth : Method} {c : Code} (l : Launch) {b L : Nat} {xs : Nat → Int32} (hL : L ≤ 256) (C0 : lw_At p s m meth c b L xs) : W p l e room_1 s m #[Value.ref b] below meth c s.heap [] 0 0 (lw_Z below #[Value.ref b] s) (entryFrame m ([Value.ref b] : List Value).toArray 4) := by
  obtain ⟨hx, hb, hr, hml, hown, hts0, hX, hbl, hlocks, hgv⟩ := id C0
  have hts : ∀ w ∈ lw_all, w.before #[Value.ref b] s = true := fun w h => hts0 w (lw_all_tbl h)
  have hA : ∀ q : Nat, s.heap.size ≤ q → (fun q : Nat => s.heap.size ≤ q) q := fun _ h => h
  obtain ⟨c0, iS0, hKn0⟩ := u_known (C := RX0) (T := TX0) (N := 10) (n := 10) hts0 (fun w h => lw_all_tbl (in_X0 w h)) (hts0 _ (lw_all_tbl q28))
  obtain ⟨c1, iS1, hKn1⟩ := u_known (C := RX1) (T := TX1) (N := 8) (n := 8) hts0 (fun w h => lw_all_tbl (in_X1 w h)) (hts0 _ (lw_all_tbl q162))
  obtain ⟨dC, dI, hKc⟩ : ∃ (dC : Nat → ClassId) (dI : Nat → Nat → Nat), ∀ (k : Nat) (q : vw_C), zCl[k]? = some q → u_Kn s q.1 q.2.1 q.2.2 (dC k) (dI k) := by
    refine ⟨fun k => if k = 0 then c0 else c1, fun k => if k = 0 then iS0 else iS1, ?_⟩
    intro k q hq
    match k, hq with
    | 0, hq => cases hq; exact hKn0
    | 1, hq => cases hq; exact hKn1
    | k + 2, hq => simp [zCl] at hq
  have hS : va_S (fun q : Nat => s.heap.size ≤ q) s.heap s.heap [] := va_S.rf
  have hK : va_K (dC, dI) zCl [] s := ⟨hKc, fun k q h => by simp at h⟩
  have hP : va_P (dC, dI) zCl [] s.heap := fun k q h => by simp at h
  have hD : va_D (fun q : Nat => s.heap.size ≤ q) [] := ⟨fun i j p q h => by simp at h, fun k q h => by simp at h⟩
  have hl := lv_entry ([.ref b]) (n := 4) (Nat.le_of_ble_eq_true rfl)
  rw [lg_entry_eq]
  generalize (lg_sl ([.ref b]) ++ List.replicate (4 - (lg_sl ([.ref b])).length) Slot.unset).toArray = ls at hl ⊢
  have hl : lv_has ls 4 [(0, .ref b)] := hl
  refine va_new (ci := 0) (fs := [.int (nI 0), .null, .null, .null, .int (nI 0), .null, .int (nI 0), .null, .int (nI 0), .null]) (C := RX0) (T := TX0) (N := 10) hx hb hts in_X0 tyX0 tyX0_ok hown (hts _ q27) (hts _ q28) (hts _ q25) hK hP hD hS hA rfl (fun j hj => by rcases (show j = 0 ∨ j = 1 ∨ j = 2 ∨ j = 3 ∨ j = 4 ∨ j = 5 ∨ j = 6 ∨ j = 7 ∨ j = 8 ∨ j = 9 by omega) with rfl | rfl | rfl | rfl | rfl | rfl | rfl | rfl | rfl | rfl <;> rfl) (Nat.le_of_ble_eq_true rfl) (Nat.le_of_ble_eq_true rfl) dL_law_0 (fun qx H hP hD hS => ?_)
  have hP : va_P (dC, dI) zCl ([(qx, .inr (0, [.int (nI 0), .null, .null, .null, .int (nI 0), .null, .int (nI 0), .null, .int (nI 0), .null]))]) H := hP
  have hD : va_D (fun q : Nat => s.heap.size ≤ q) ([(qx, .inr (0, [.int (nI 0), .null, .null, .null, .int (nI 0), .null, .int (nI 0), .null, .int (nI 0), .null]))]) := hD
  refine W.widen (k := 1) (n := 10) (Nat.le_of_ble_eq_true rfl) (Nat.le_of_ble_eq_true rfl) ?_
  refine lv_dup hx hb dL_law_3 rfl ?_
  have hPc := hP.sub (ws' := [(qx, .inr (0, [.int (nI 0), .null, .null, .null, .int (nI 0), .null, .int (nI 0), .null, .int (nI 0), .null]))]) [0] rfl
  have hDc := hD.sub (ws' := [(qx, .inr (0, [.int (nI 0), .null, .null, .null, .int (nI 0), .null, .int (nI 0), .null, .int (nI 0), .null]))]) [0] (by decide) rfl
  have hKc := hK.sub (tys' := []) [] rfl
  have hFc := va_free (wc := [(qx, .inr (0, [.int (nI 0), .null, .null, .null, .int (nI 0), .null, .int (nI 0), .null, .int (nI 0), .null]))]) hD hS hA [0] rfl
  refine va_callv (va_runI (As := []) (rest := [.ref qx]) ⟨hx, hb, hml, hown, hts⟩ (met_X0_init l dC dI qx H.size) (cwI 0 hts (lw_meth q31) rfl rfl rfl (hts _ q25) (hts _ q29) (hts _ q30) rfl (by decide +kernel) ⟨Nat.le_of_ble_eq_true rfl, Nat.le_of_ble_eq_true rfl⟩) ⟨zfb_M, fun U hU hW => ⟨rfl, by rw [hU], by rw [hU]; exact hPc, va_K.moved hW.alike hKc, hDc.weaken (fun _ _ _ _ => trivial)⟩⟩ rfl rfl hl.1 rfl (lv_room (Nat.le_of_ble_eq_true rfl)) dL_law_4 ⟨Nat.le_of_ble_eq_true rfl, Nat.le_of_ble_eq_true rfl⟩) hS (fun q _ h => hFc q h) hFc (fun u t H1 locs ht hvm hw hB hz1 hk1 hS => ?_)
  obtain ⟨g, dA⟩ := u
  obtain ⟨hP1, hK1, hD1⟩ := hB
  dsimp only at hw
  subst hw
  rw [ht] at hP1
  have hK1 := va_K.moved hvm.symm hK1
  obtain ⟨hP, hD⟩ := va_join (wr := []) (w1 := wX g dA (nI 0) (fun _ => nI 0) (fun _ => nI 0) (fun _ => nI 0) (nI 0) (fun _ => nI 0) (nI 0) (fun _ => nI 0) (nI 0) (fun _ => nI 0)) hP hD [0] [] rfl rfl (by decide) (by decide) hk1 hFc hP1 hD1
  clear hP1 hD1 hFc hPc hDc hk1 hz1
  generalize H1 = H at hP hS ⊢
  refine W.widen (k := 7) (n := 2271) (Nat.le_of_ble_eq_true rfl) (Nat.le_of_ble_eq_true rfl) ?_
  have hK : va_K (dC, dI) zCl [(dA, .int)] s := hK1
  have hP : va_P (dC, dI) zCl (wX g dA (nI 0) (fun _ => nI 0) (fun _ => nI 0) (fun _ => nI 0) (nI 0) (fun _ => nI 0) (nI 0) (fun _ => nI 0) (nI 0) (fun _ => nI 0)) H := hP
  have hD : va_D (fun q : Nat => s.heap.size ≤ q) (wX g dA (nI 0) (fun _ => nI 0) (fun _ => nI 0) (fun _ => nI 0) (nI 0) (fun _ => nI 0) (nI 0) (fun _ => nI 0) (nI 0) (fun _ => nI 0)) := hD
  refine lv_astore_n (lv' := [(1, .ref (g 0)), (0, .ref b)]) hx hb dL_law_7 rfl hl (by decide) rfl (fun ls hl => ?_)
  refine va_new (ci := 1) (fs := [.int (nI 0), .null, .null, .null, .int (nI 0), .int (nI 0), .int (nI 0), .null]) (C := RX1) (T := TX1) (N := 8) hx hb hts in_X1 tyX1 tyX1_ok hown (hts _ q161) (hts _ q162) (hts _ q26) hK hP hD hS hA rfl (fun j hj => by rcases (show j = 0 ∨ j = 1 ∨ j = 2 ∨ j = 3 ∨ j = 4 ∨ j = 5 ∨ j = 6 ∨ j = 7 by omega) with rfl | rfl | rfl | rfl | rfl | rfl | rfl | rfl <;> rfl) (Nat.le_of_ble_eq_true rfl) (Nat.le_of_ble_eq_true rfl) dL_law_8 (fun qm H hP hD hS => ?_)
  have hP : va_P (dC, dI) zCl (wX g dA (nI 0) (fun _ => nI 0) (fun _ => nI 0) (fun _ => nI 0) (nI 0) (fun _ => nI 0) (nI 0) (fun _ => nI 0) (nI 0) (fun _ => nI 0) ++ [(qm, .inr (1, [.int (nI 0), .null, .null, .null, .int (nI 0), .int (nI 0), .int (nI 0), .null]))]) H := hP
  have hD : va_D (fun q : Nat => s.heap.size ≤ q) (wX g dA (nI 0) (fun _ => nI 0) (fun _ => nI 0) (fun _ => nI 0) (nI 0) (fun _ => nI 0) (nI 0) (fun _ => nI 0) (nI 0) (fun _ => nI 0) ++ [(qm, .inr (1, [.int (nI 0), .null, .null, .null, .int (nI 0), .int (nI 0), .int (nI 0), .null]))]) := hD
  refine W.widen (k := 8) (n := 2279) (Nat.le_of_ble_eq_true rfl) (Nat.le_of_ble_eq_true rfl) ?_
  refine lv_dup hx hb dL_law_11 rfl ?_
  have hPc := hP.sub (ws' := [(qm, .inr (1, [.int (nI 0), .null, .null, .null, .int (nI 0), .int (nI 0), .int (nI 0), .null]))]) [7] rfl
  have hDc := hD.sub (ws' := [(qm, .inr (1, [.int (nI 0), .null, .null, .null, .int (nI 0), .int (nI 0), .int (nI 0), .null]))]) [7] (by decide) rfl
  have hKc := hK.sub (tys' := []) [] rfl
  have hFc := va_free (wc := [(qm, .inr (1, [.int (nI 0), .null, .null, .null, .int (nI 0), .int (nI 0), .int (nI 0), .null]))]) hD hS hA [7] rfl
  refine va_callv (va_runI (As := []) (rest := [.ref qm]) ⟨hx, hb, hml, hown, hts⟩ (met_X1_init l dC dI qm H.size) (cwI 0 hts (lw_meth q165) rfl rfl rfl (hts _ q26) (hts _ q163) (hts _ q164) rfl (by decide +kernel) ⟨Nat.le_of_ble_eq_true rfl, Nat.le_of_ble_eq_true rfl⟩) ⟨zfb_M, fun U hU hW => ⟨rfl, by rw [hU], by rw [hU]; exact hPc, va_K.moved hW.alike hKc, hDc.weaken (fun _ _ _ _ => trivial)⟩⟩ rfl rfl hl.1 rfl (lv_room (Nat.le_of_ble_eq_true rfl)) dL_law_12 ⟨Nat.le_of_ble_eq_true rfl, Nat.le_of_ble_eq_true rfl⟩) hS (fun q _ h => hFc q h) hFc (fun u t H1 locs ht hvm hw hB hz1 hk1 hS => ?_)
  obtain ⟨h, dB⟩ := u
  obtain ⟨hP1, hK1, hD1⟩ := hB
  dsimp only at hw
  subst hw
  rw [ht] at hP1
  have hK1 := va_K.moved hvm.symm hK1
  obtain ⟨hP, hD⟩ := va_join (wr := wX g dA (nI 0) (fun _ => nI 0) (fun _ => nI 0) (fun _ => nI 0) (nI 0) (fun _ => nI 0) (nI 0) (fun _ => nI 0) (nI 0) (fun _ => nI 0)) (w1 := wM h dB (nI 0) (fun _ => nI 0) (fun _ => nI 0) (fun _ => nI 0) (nI 0) (nI 0) (nI 0) (fun _ => nI 0)) hP hD [7] [0, 1, 2, 3, 4, 5, 6] rfl rfl (by decide) (by decide) hk1 hFc hP1 hD1
  clear hP1 hD1 hFc hPc hDc hk1 hz1
  generalize H1 = H at hP hS ⊢
  refine W.widen (k := 12) (n := 2459) (Nat.le_of_ble_eq_true rfl) (Nat.le_of_ble_eq_true rfl) ?_
  have e9 : dB = dA := Option.some.inj ((show s.vm.findClass _ = some dB from (hK1.2 0 _ rfl).2).symm.trans (show s.vm.findClass _ = some dA from (hK.2 0 _ rfl).2))
  subst dB
  have hP : va_P (dC, dI) zCl (wX g dA (nI 0) (fun _ => nI 0) (fun _ => nI 0) (fun _ => nI 0) (nI 0) (fun _ => nI 0) (nI 0) (fun _ => nI 0) (nI 0) (fun _ => nI 0) ++ wM h dA (nI 0) (fun _ => nI 0) (fun _ => nI 0) (fun _ => nI 0) (nI 0) (nI 0) (nI 0) (fun _ => nI 0)) H := hP
  have hD : va_D (fun q : Nat => s.heap.size ≤ q) (wX g dA (nI 0) (fun _ => nI 0) (fun _ => nI 0) (fun _ => nI 0) (nI 0) (fun _ => nI 0) (nI 0) (fun _ => nI 0) (nI 0) (fun _ => nI 0) ++ wM h dA (nI 0) (fun _ => nI 0) (fun _ => nI 0) (fun _ => nI 0) (nI 0) (nI 0) (nI 0) (fun _ => nI 0)) := hD
  refine lv_astore_n (lv' := [(2, .ref (h 0)), (1, .ref (g 0)), (0, .ref b)]) hx hb dL_law_15 rfl hl (by decide) rfl (fun ls hl => ?_)
  refine lv_iconst (v := nI (0)) hx hb dL_law_16 (by decide +kernel) ?_
  refine lv_istore_n (lv' := [(3, .int (nI (0))), (2, .ref (h 0)), (1, .ref (g 0)), (0, .ref b)]) hx hb dL_law_17 rfl hl (by decide) rfl (fun ls hl => ?_)
  exact law_loop hL C0 hK 261 0 (by decide) (by decide) 0 (fun _ => (0, 0, 0)) (fun _ => nI 0) (fun _ => nI 0) (fun _ => nI 0) 0 0 (fun _ => nI 0) (nI 0) (fun _ => nI 0) (nI 0) (fun _ => nI 0) (fun _ => nI 0) (fun _ => nI 0) (fun _ => nI 0) (nI 0) (fun _ => nI 0) ⟨by decide, fun j hj => absurd hj (Nat.not_lt_zero _), fun j hj => absurd hj (Nat.not_lt_zero _), by decide, by decide, fun j hj => absurd hj (Nat.not_lt_zero _), Or.inl rfl, Or.inl rfl⟩ _ _ hP hD hS _ (lv_sub hl [3, 2, 1, 0] rfl)
end
section
set_option maxHeartbeats 4000000 in
theorem lw_walk (l : Launch) (b : Addr) (xs : List Int32) : MetFree l x (headSpec (Jvm.Cond.code x code maxLocals ret :: tables_1) room_1) (lw_P b xs) (fun _ _ _ _ _ => True) lw_Q := by
  refine MetFree.of_bodyS (code := code) (maxLocals := maxLocals) (ret := ret) (by decide) ?_ ?_
  · intro args s m h hn
    obtain ⟨meth, c, h1, h2, h3, h4, h5, h6, -, -⟩ := Cond.code_spec hn (atoms_spec (ws := Jvm.Cond.code x code maxLocals ret :: tables_1) h _ List.mem_cons_self)
    exact ⟨meth, c, h1, h2, h3, h4, h5, h6⟩
  · intro p e s m args below meth c s₁ B hml0 hP _
    obtain ⟨rfl, hx, hbd, hgv⟩ := hP
    obtain ⟨scr, harrAt, hlist, hof, hsmall⟩ := hx
    obtain ⟨hcb, hkn, -, -⟩ := State.arrayAt?_spec harrAt
    have hown : s.vm.findClass R_law = some m.cls := findClass_of_methodNamed B.named
    have hts0 : ∀ c ∈ (Jvm.Cond.code x code maxLocals ret :: tables_1), c.before #[Value.ref b] s = true := atoms_spec (ws := Jvm.Cond.code x code maxLocals ret :: tables_1) B.pre
    have hts : ∀ w ∈ lw_tbl, w.before #[Value.ref b] s = true := k2_hts_sels lw_privs (fun w hw => hts0 w (List.mem_cons_of_mem _ hw)) lw_privs_ok
    have hml : c.maxLocals = 4 := B.maxLocals_eq (hts0 _ List.mem_cons_self)
    have X₀ : Stand p l e room_1 s m #[Value.ref b] below meth c s₁ [] 0 0 := Stand.of_body B
    have hh0 : s₁.heap = s.heap := by rw [B.state]; rfl
    have hsz : scr.slots.size = xs.length := by rw [← Array.length_toList, hlist, List.length_map]
    have hval : ∀ j : Nat, j < xs.length → scr.slots[j]? = some (.int (xs.getD j 0)) := fun j hj => by
      rw [← Array.getElem?_toList, hlist]
      simp [hj]
    have hbl : b < s.heap.size := (Array.getElem?_eq_some_iff.mp hcb).1
    have hX : va_X b xs.length (fun j => xs.getD j 0) s s.heap := ⟨scr, hcb, hof, hkn, hsz, hval⟩
    have K : W p l e room_1 s m #[Value.ref b] below meth c s₁.heap [] 0 0 (lw_Z below #[Value.ref b] s) (entryFrame m ([Value.ref b] : List Value).toArray 4) := by
      rw [hh0]
      exact whole_start l hbd ⟨B.exec, B.bytes, B.returns, hml, hown, hts, hX, hbl, B.notSynchronized, hgv⟩
    obtain ⟨t, a1, o, b1, b2, b3⟩ := K s₁ rfl X₀
    exact ⟨t, o, a1, b1, b2, b3⟩
theorem lw_pre_spec {args : Array Value} {s : State} (h : (Jvm.Cond.and given_1 narrow_1).before args s = true) (hr : rest_1_c.before args s = true) : ∃ (b : Addr) (xs : List Int32), lw_P b xs args s := by
  have hs := flat_of_before _ h
  have hq := flat_of_before _ hr
  have hc : (Cond.count 1).before args s = true := hs _ (by decide +kernel)
  have harr : (Cond.arrayOf (.arg 0) .int).before args s = true := hs _ (by decide +kernel)
  have hle : (Cond.le (.length (.arg 0)) (.int 256)).before args s = true := hs _ (by decide +kernel)
  have hlen : (Cond.isInt (.length (.arg 0))).before args s = true := hq _ (by decide +kernel)
  have hall : (Cond.all (.arg 0) (.isInt (.elem (.arg 0) (.index 0)))).before args s = true := hq _ (by decide +kernel)
  obtain ⟨b, xs, hb, hx⟩ := State.ints_of_pre rfl harr hlen hall
  have hsm : xs.length < 2 ^ 31 := hx.choose_spec.2.2.2
  have hev : (Term.length (.arg 0)).eval args s none [] s = some (.int xs.length.toInt32) := hx.length_eval hb
  have hv := Cond.le_ints hev (show (Term.int 256).eval args s none [] s = some (.int 256) from rfl)
  have hd : xs.length.toInt32 ≤ 256 := by
    simpa [Cond.before, Cond.holds, hv] using hle
  have hN : xs.length ≤ 256 := (Int32.ofNat_le_ofNat hsm (by decide)).mp (show Int32.ofNat xs.length ≤ Int32.ofNat 256 from hd)
  exact ⟨b, xs, Cond.one_arg hc (show args[0]? = some (.ref b) from hb), hx, hN, h⟩
theorem lw_comes (l : Launch) : Comes l x (Jvm.Cond.code x code maxLocals ret :: tables_1) room_1 (fun tb e args s => Calls_1 tb e args s ∧ rest_1 tb e args s ∧ Pre_1 tb e args s)
    (fun _ _ args s o t => lw_Q args s o t) := by
  intro p e ha hc hk s m args below hf hfit hheap happ hpre
  obtain ⟨b, xs, hP⟩ := lw_pre_spec hpre.2.2 hpre.2.1
  obtain ⟨k, o, h1, h2, h3, hQ⟩ := lw_walk l b xs p e ha hc hk s m args below hf ((Spec.applies_iff_loose hf).mp happ).1 hP trivial
  exact ⟨k, o, h1, h2, h3, hQ⟩
theorem lw_frame {s t : State} {o : Outcome} {args : Array Value} (h : Framed s o t [] 600000 7290000) :
    Framed s o t (fieldLocs frame_1_writes args s ++ arrayLocs frame_1_arrays args s ++ staticLocs frame_1_statics s) 600000 7290000 := h
theorem lw_limb (L : Cond) (hL : ∀ (args : Array Value) (s t : State), L.after args s (.returned (some (.int 1))) t = true) :
    ArmFor flags0 classFile x code maxLocals ret World_1 tables_1 room_1 Calls_1 rest_1 Pre_1
      (fun tb e a s o t => postC L tb e a s o t ∧ Framed s o t (fieldLocs frame_1_writes a s ++ arrayLocs frame_1_arrays a s ++ staticLocs frame_1_statics s) 600000 7290000) := by
  intro l _ _ _ p e ha hc hk s m args below hf hfit hheap happ hpre
  obtain ⟨k, o, h1, h2, h3, rfl, hF⟩ := lw_comes l p e ha hc hk s m args below hf hfit hheap happ hpre
  exact ⟨k, _, h1, h2, h3, hL args s _, lw_frame hF⟩
theorem i_vc : Claimed_1_1 ∧ Claimed_1_2 := ⟨lw_limb limb_1_1 (fun args s t => by simp [limb_1_1, Cond.after, Cond.holds, Cond.value]), lw_limb limb_1_2 (fun args s t => Cond.after_iff.mpr (by
  first | (rw [show limb_1_2 = Cond.eq .result (.int 1) from rfl, Cond.eq_ints (x := 1) (y := 1) rfl rfl]; simp; done) | (simp [limb_1_2, Cond.value, Term.eval]; done)))⟩
end
