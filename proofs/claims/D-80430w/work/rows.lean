section
-- ===== PART A: goes FIRST, ahead of the names: the tables' words, and 'selects' of the private methods out of them =====
/-- a private method of a class that the tables say can be made, by its rows of tables_1 -/
def lw_okq (q : MethodName × Nat) : Prop := (q.1.cls ≠ "java/lang/invoke/MethodHandle" ∧ q.1.cls ≠ "java/lang/invoke/VarHandle") ∧ Cond.instantiable q.1.cls q.2 ∈ tables_1 ∧ Cond.privateMethod q.1 ∈ tables_1 ∧ Cond.instanceMethod q.1 ∈ tables_1
set_option maxRecDepth 100000
theorem lw_t1 {w : Cond} (h : w ∈ tables_1_1) : w ∈ tables_1 := List.mem_append_left _ h
theorem lw_t2 {w : Cond} (h : w ∈ tables_1_2) : w ∈ tables_1 := List.mem_append_right _ (List.mem_append_left _ h)
theorem lw_t3 {w : Cond} (h : w ∈ tables_1_3) : w ∈ tables_1 := List.mem_append_right _ (List.mem_append_right _ (List.mem_append_left _ h))
theorem lw_t4 {w : Cond} (h : w ∈ tables_1_4) : w ∈ tables_1 := List.mem_append_right _ (List.mem_append_right _ (List.mem_append_right _ h))
theorem lw_p0 : lw_okq (⟨"java/lang/NullPointerException", "getExtendedNPEMessage", "()Ljava/lang/String;"⟩, 8) := ⟨⟨by decide +kernel, by decide +kernel⟩, lw_t1 (List.mem_of_getElem? (i := 145) rfl), lw_t1 (List.mem_of_getElem? (i := 143) rfl), lw_t1 (List.mem_of_getElem? (i := 144) rfl)⟩
theorem lw_p1 : lw_okq (⟨"java/lang/Throwable", "fillInStackTrace", "(I)Ljava/lang/Throwable;"⟩, 6) := ⟨⟨by decide +kernel, by decide +kernel⟩, lw_t1 (List.mem_of_getElem? (i := 157) rfl), lw_t1 (List.mem_of_getElem? (i := 155) rfl), lw_t1 (List.mem_of_getElem? (i := 156) rfl)⟩
theorem lw_p2 : lw_okq (⟨"ArrayMaker", "done", "(I)I"⟩, 11) := ⟨⟨by decide +kernel, by decide +kernel⟩, lw_t1 (List.mem_of_getElem? (i := 20) rfl), lw_t1 (List.mem_of_getElem? (i := 203) rfl), lw_t1 (List.mem_of_getElem? (i := 204) rfl)⟩
theorem lw_p3 : lw_okq (⟨"ArrayMaker", "fail", "(I)I"⟩, 11) := ⟨⟨by decide +kernel, by decide +kernel⟩, lw_t1 (List.mem_of_getElem? (i := 20) rfl), lw_t1 (List.mem_of_getElem? (i := 207) rfl), lw_t1 (List.mem_of_getElem? (i := 208) rfl)⟩
theorem lw_p4 : lw_okq (⟨"ArrayMaker", "keep", "(LArrayMaker$Shape;Ljava/lang/Object;)I"⟩, 11) := ⟨⟨by decide +kernel, by decide +kernel⟩, lw_t1 (List.mem_of_getElem? (i := 20) rfl), lw_t2 (List.mem_of_getElem? (i := 7) rfl), lw_t2 (List.mem_of_getElem? (i := 8) rfl)⟩
theorem lw_p5 : lw_okq (⟨"ArrayMaker", "isArray", "(I)Z"⟩, 11) := ⟨⟨by decide +kernel, by decide +kernel⟩, lw_t1 (List.mem_of_getElem? (i := 20) rfl), lw_t2 (List.mem_of_getElem? (i := 40) rfl), lw_t2 (List.mem_of_getElem? (i := 41) rfl)⟩
theorem lw_p6 : lw_okq (⟨"ArrayMaker", "beyond", "(I)I"⟩, 11) := ⟨⟨by decide +kernel, by decide +kernel⟩, lw_t1 (List.mem_of_getElem? (i := 20) rfl), lw_t2 (List.mem_of_getElem? (i := 86) rfl), lw_t2 (List.mem_of_getElem? (i := 87) rfl)⟩
theorem lw_p7 : lw_okq (⟨"ArrayMaker", "lay", "(III)V"⟩, 11) := ⟨⟨by decide +kernel, by decide +kernel⟩, lw_t1 (List.mem_of_getElem? (i := 20) rfl), lw_t2 (List.mem_of_getElem? (i := 154) rfl), lw_t2 (List.mem_of_getElem? (i := 155) rfl)⟩
theorem lw_p8 : lw_okq (⟨"ArrayMakerModel", "no", "(I)I"⟩, 25) := ⟨⟨by decide +kernel, by decide +kernel⟩, lw_t3 (List.mem_of_getElem? (i := 18) rfl), lw_t3 (List.mem_of_getElem? (i := 114) rfl), lw_t3 (List.mem_of_getElem? (i := 115) rfl)⟩
theorem lw_p9 : lw_okq (⟨"ArrayMakerModel", "yes", "(I)I"⟩, 25) := ⟨⟨by decide +kernel, by decide +kernel⟩, lw_t3 (List.mem_of_getElem? (i := 18) rfl), lw_t3 (List.mem_of_getElem? (i := 118) rfl), lw_t3 (List.mem_of_getElem? (i := 119) rfl)⟩
theorem lw_p10 : lw_okq (⟨"ArrayMakerModel", "shapeItems", "()I"⟩, 25) := ⟨⟨by decide +kernel, by decide +kernel⟩, lw_t3 (List.mem_of_getElem? (i := 18) rfl), lw_t3 (List.mem_of_getElem? (i := 135) rfl), lw_t3 (List.mem_of_getElem? (i := 136) rfl)⟩
theorem lw_p11 : lw_okq (⟨"ArrayMakerModel", "newArray", "(II)I"⟩, 25) := ⟨⟨by decide +kernel, by decide +kernel⟩, lw_t3 (List.mem_of_getElem? (i := 18) rfl), lw_t3 (List.mem_of_getElem? (i := 144) rfl), lw_t3 (List.mem_of_getElem? (i := 145) rfl)⟩
theorem lw_p12 : lw_okq (⟨"ArrayMakerModel", "newTable", "(I)V"⟩, 25) := ⟨⟨by decide +kernel, by decide +kernel⟩, lw_t3 (List.mem_of_getElem? (i := 18) rfl), lw_t3 (List.mem_of_getElem? (i := 148) rfl), lw_t3 (List.mem_of_getElem? (i := 149) rfl)⟩
theorem lw_p13 : lw_okq (⟨"ArrayMakerModel", "lengthOf", "(II)J"⟩, 25) := ⟨⟨by decide +kernel, by decide +kernel⟩, lw_t3 (List.mem_of_getElem? (i := 18) rfl), lw_t3 (List.mem_of_getElem? (i := 152) rfl), lw_t3 (List.mem_of_getElem? (i := 153) rfl)⟩
theorem lw_p14 : lw_okq (⟨"ArrayMakerModel", "newRow", "(I)I"⟩, 25) := ⟨⟨by decide +kernel, by decide +kernel⟩, lw_t3 (List.mem_of_getElem? (i := 18) rfl), lw_t3 (List.mem_of_getElem? (i := 156) rfl), lw_t3 (List.mem_of_getElem? (i := 157) rfl)⟩
theorem lw_p15 : lw_okq (⟨"ArrayMakerModel", "wants", "(I)I"⟩, 25) := ⟨⟨by decide +kernel, by decide +kernel⟩, lw_t3 (List.mem_of_getElem? (i := 18) rfl), lw_t3 (List.mem_of_getElem? (i := 169) rfl), lw_t3 (List.mem_of_getElem? (i := 170) rfl)⟩
def lw_privs_1 : List (MethodName × Nat) := [(⟨"java/lang/NullPointerException", "getExtendedNPEMessage", "()Ljava/lang/String;"⟩, 8), (⟨"java/lang/Throwable", "fillInStackTrace", "(I)Ljava/lang/Throwable;"⟩, 6), (⟨"ArrayMaker", "done", "(I)I"⟩, 11), (⟨"ArrayMaker", "fail", "(I)I"⟩, 11), (⟨"ArrayMaker", "keep", "(LArrayMaker$Shape;Ljava/lang/Object;)I"⟩, 11), (⟨"ArrayMaker", "isArray", "(I)Z"⟩, 11), (⟨"ArrayMaker", "beyond", "(I)I"⟩, 11), (⟨"ArrayMaker", "lay", "(III)V"⟩, 11), (⟨"ArrayMakerModel", "no", "(I)I"⟩, 25), (⟨"ArrayMakerModel", "yes", "(I)I"⟩, 25), (⟨"ArrayMakerModel", "shapeItems", "()I"⟩, 25), (⟨"ArrayMakerModel", "newArray", "(II)I"⟩, 25), (⟨"ArrayMakerModel", "newTable", "(I)V"⟩, 25), (⟨"ArrayMakerModel", "lengthOf", "(II)J"⟩, 25), (⟨"ArrayMakerModel", "newRow", "(I)I"⟩, 25), (⟨"ArrayMakerModel", "wants", "(I)I"⟩, 25)]
theorem lw_r1 : ∀ q ∈ lw_privs_1, lw_okq q := List.forall_mem_cons.mpr ⟨lw_p0, List.forall_mem_cons.mpr ⟨lw_p1, List.forall_mem_cons.mpr ⟨lw_p2, List.forall_mem_cons.mpr ⟨lw_p3, List.forall_mem_cons.mpr ⟨lw_p4, List.forall_mem_cons.mpr ⟨lw_p5, List.forall_mem_cons.mpr ⟨lw_p6, List.forall_mem_cons.mpr ⟨lw_p7, List.forall_mem_cons.mpr ⟨lw_p8, List.forall_mem_cons.mpr ⟨lw_p9, List.forall_mem_cons.mpr ⟨lw_p10, List.forall_mem_cons.mpr ⟨lw_p11, List.forall_mem_cons.mpr ⟨lw_p12, List.forall_mem_cons.mpr ⟨lw_p13, List.forall_mem_cons.mpr ⟨lw_p14, List.forall_mem_cons.mpr ⟨lw_p15, fun _ h => absurd h List.not_mem_nil⟩⟩⟩⟩⟩⟩⟩⟩⟩⟩⟩⟩⟩⟩⟩⟩
theorem lw_p16 : lw_okq (⟨"ArrayMakerModel", "isArray", "(I)Z"⟩, 25) := ⟨⟨by decide +kernel, by decide +kernel⟩, lw_t3 (List.mem_of_getElem? (i := 18) rfl), lw_t3 (List.mem_of_getElem? (i := 173) rfl), lw_t3 (List.mem_of_getElem? (i := 174) rfl)⟩
theorem lw_p17 : lw_okq (⟨"ArrayMakerModel", "copy", "(II)V"⟩, 25) := ⟨⟨by decide +kernel, by decide +kernel⟩, lw_t3 (List.mem_of_getElem? (i := 18) rfl), lw_t3 (List.mem_of_getElem? (i := 181) rfl), lw_t3 (List.mem_of_getElem? (i := 182) rfl)⟩
theorem lw_p18 : lw_okq (⟨"ArrayMakerModel", "placeOf", "(IIII)I"⟩, 25) := ⟨⟨by decide +kernel, by decide +kernel⟩, lw_t3 (List.mem_of_getElem? (i := 18) rfl), lw_t3 (List.mem_of_getElem? (i := 192) rfl), lw_t3 (List.mem_of_getElem? (i := 193) rfl)⟩
theorem lw_p19 : lw_okq (⟨"ArrayMakerModel", "noItem", "(I)I"⟩, 25) := ⟨⟨by decide +kernel, by decide +kernel⟩, lw_t3 (List.mem_of_getElem? (i := 18) rfl), lw_t3 (List.mem_of_getElem? (i := 196) rfl), lw_t3 (List.mem_of_getElem? (i := 197) rfl)⟩
theorem lw_p20 : lw_okq (⟨"ArrayMakerModel", "tableRows", "(I)I"⟩, 25) := ⟨⟨by decide +kernel, by decide +kernel⟩, lw_t3 (List.mem_of_getElem? (i := 18) rfl), lw_t3 (List.mem_of_getElem? (i := 208) rfl), lw_t3 (List.mem_of_getElem? (i := 209) rfl)⟩
theorem lw_p21 : lw_okq (⟨"ArrayMakerModel", "wantsRow", "(II)I"⟩, 25) := ⟨⟨by decide +kernel, by decide +kernel⟩, lw_t3 (List.mem_of_getElem? (i := 18) rfl), lw_t3 (List.mem_of_getElem? (i := 216) rfl), lw_t3 (List.mem_of_getElem? (i := 217) rfl)⟩
theorem lw_p22 : lw_okq (⟨"ArrayMakerModel", "slotOf", "(II)I"⟩, 25) := ⟨⟨by decide +kernel, by decide +kernel⟩, lw_t3 (List.mem_of_getElem? (i := 18) rfl), lw_t3 (List.mem_of_getElem? (i := 220) rfl), lw_t3 (List.mem_of_getElem? (i := 221) rfl)⟩
theorem lw_p23 : lw_okq (⟨"ArrayMakerModel", "find", "(IIII)I"⟩, 25) := ⟨⟨by decide +kernel, by decide +kernel⟩, lw_t3 (List.mem_of_getElem? (i := 18) rfl), lw_t3 (List.mem_of_getElem? (i := 236) rfl), lw_t3 (List.mem_of_getElem? (i := 237) rfl)⟩
theorem lw_p24 : lw_okq (⟨"ArrayMakerModel", "lay", "(IIJ)V"⟩, 25) := ⟨⟨by decide +kernel, by decide +kernel⟩, lw_t3 (List.mem_of_getElem? (i := 18) rfl), lw_t4 (List.mem_of_getElem? (i := 4) rfl), lw_t4 (List.mem_of_getElem? (i := 5) rfl)⟩
theorem lw_p25 : lw_okq (⟨"ArrayMakerModel", "joins", "(IIIJ)Z"⟩, 25) := ⟨⟨by decide +kernel, by decide +kernel⟩, lw_t3 (List.mem_of_getElem? (i := 18) rfl), lw_t4 (List.mem_of_getElem? (i := 27) rfl), lw_t4 (List.mem_of_getElem? (i := 28) rfl)⟩
theorem lw_p26 : lw_okq (⟨"ArrayMakerModel", "sumOf", "(I)J"⟩, 25) := ⟨⟨by decide +kernel, by decide +kernel⟩, lw_t3 (List.mem_of_getElem? (i := 18) rfl), lw_t4 (List.mem_of_getElem? (i := 40) rfl), lw_t4 (List.mem_of_getElem? (i := 41) rfl)⟩
def lw_privs_2 : List (MethodName × Nat) := [(⟨"ArrayMakerModel", "isArray", "(I)Z"⟩, 25), (⟨"ArrayMakerModel", "copy", "(II)V"⟩, 25), (⟨"ArrayMakerModel", "placeOf", "(IIII)I"⟩, 25), (⟨"ArrayMakerModel", "noItem", "(I)I"⟩, 25), (⟨"ArrayMakerModel", "tableRows", "(I)I"⟩, 25), (⟨"ArrayMakerModel", "wantsRow", "(II)I"⟩, 25), (⟨"ArrayMakerModel", "slotOf", "(II)I"⟩, 25), (⟨"ArrayMakerModel", "find", "(IIII)I"⟩, 25), (⟨"ArrayMakerModel", "lay", "(IIJ)V"⟩, 25), (⟨"ArrayMakerModel", "joins", "(IIIJ)Z"⟩, 25), (⟨"ArrayMakerModel", "sumOf", "(I)J"⟩, 25)]
theorem lw_r2 : ∀ q ∈ lw_privs_2, lw_okq q := List.forall_mem_cons.mpr ⟨lw_p16, List.forall_mem_cons.mpr ⟨lw_p17, List.forall_mem_cons.mpr ⟨lw_p18, List.forall_mem_cons.mpr ⟨lw_p19, List.forall_mem_cons.mpr ⟨lw_p20, List.forall_mem_cons.mpr ⟨lw_p21, List.forall_mem_cons.mpr ⟨lw_p22, List.forall_mem_cons.mpr ⟨lw_p23, List.forall_mem_cons.mpr ⟨lw_p24, List.forall_mem_cons.mpr ⟨lw_p25, List.forall_mem_cons.mpr ⟨lw_p26, fun _ h => absurd h List.not_mem_nil⟩⟩⟩⟩⟩⟩⟩⟩⟩⟩⟩
def lw_privs : List (MethodName × Nat) := lw_privs_1 ++ (lw_privs_2)
def lw_tbl : List Cond := k2_sels lw_privs ++ tables_1
theorem lw_privs_ok : ∀ q ∈ lw_privs, lw_okq q := by
  show ∀ q ∈ lw_privs_1 ++ (lw_privs_2), lw_okq q
  exact List.forall_mem_append.mpr ⟨lw_r1, lw_r2⟩
-- ===== ONE list of words for every method: the tables' words that hold all through a run =====
def lw_all : List Cond := lw_tbl.filter goodWord
/-- a word of the tables by its place: claim/WORDS.tsv -/
theorem lw_w {w : Cond} (i : Nat) (h : lw_tbl[i]? = some w) (g : goodWord w = true) : w ∈ lw_all := List.mem_filter.mpr ⟨List.mem_of_getElem? h, g⟩
theorem lw_all_tbl {w : Cond} (h : w ∈ lw_all) : w ∈ lw_tbl := (List.mem_filter.mp h).1
theorem lw_self : GoodIn lw_all lw_all := fun w h => ⟨h, good_of_word (List.mem_filter.mp h).2⟩
/-- a class's field words, by their places -/
theorem lw_in (ws : List Cond) (ps : List Nat) (hp : ws = ps.filterMap (fun i => lw_tbl[i]?)) (hg : ws.all goodWord = true) : ∀ w ∈ ws, w ∈ lw_all := by
  intro w h
  have h1 := List.all_eq_true.mp hg w h
  rw [hp] at h
  obtain ⟨i, -, hi⟩ := List.mem_filterMap.mp h
  exact lw_w i hi h1
/-- the words of a contract for the method y with code b, L locals, answer r -/
abbrev ws_ (y : MethodName) (b : ByteArray) (L : Nat) (r : Option FieldType) : List Cond := Cond.code y b L r :: lw_all
theorem lw_meth {y : MethodName} {b : ByteArray} {L : Nat} {r : Option FieldType} (h : Cond.code y b L r ∈ lw_all) : GoodIn lw_all (ws_ y b L r) := by
  intro w hw
  rcases List.mem_cons.mp hw with e | e
  · rw [e]
    exact lw_self _ h
  · exact lw_self _ e
theorem lw_app {a c : List Cond} (ha : ∀ w ∈ a, w ∈ lw_all) (hc : GoodIn lw_all c) : GoodIn lw_all (a ++ c) := by
  intro w hw
  rcases List.mem_append.mp hw with e | e
  · exact lw_self w (ha w e)
  · exact hc w e
/-- what a call through an object asks: cwV n hts (lw_V ..) -/
theorem lw_V {own : String} {idx : Nat} {C : String} {y : MethodName} {b : ByteArray} {L : Nat} {r : Option FieldType} (h1 : Cond.methodLink own idx y ∈ lw_all) (h2 : Cond.instanceMethod y ∈ lw_all) (h3 : Cond.selects C y y ∈ lw_all) (h4 : Cond.initialized C ∈ lw_all) (h5 : Cond.code y b L r ∈ lw_all) : GoodIn lw_all (wsV own idx C y (ws_ y b L r)) := by
  refine lw_app ?_ (lw_meth h5)
  intro w hw
  simp only [List.mem_cons, List.not_mem_nil, or_false] at hw
  rcases hw with e | e | e | e
  · rw [e]; exact h1
  · rw [e]; exact h2
  · rw [e]; exact h3
  · rw [e]; exact h4
/-- what a static call asks: va_cwS n hts (lw_S ..) -/
theorem lw_S {own : String} {idx : Nat} {y : MethodName} {b : ByteArray} {L : Nat} {r : Option FieldType} (h1 : Cond.methodLink own idx y ∈ lw_all) (h2 : Cond.static y ∈ lw_all) (h3 : Cond.initialized y.cls ∈ lw_all) (h4 : Cond.code y b L r ∈ lw_all) : GoodIn lw_all (va_wsS own idx y (ws_ y b L r)) := by
  refine lw_app ?_ (lw_meth h4)
  intro w hw
  simp only [List.mem_cons, List.not_mem_nil, or_false] at hw
  rcases hw with e | e | e
  · rw [e]; exact h1
  · rw [e]; exact h2
  · rw [e]; exact h3
/-- the words of a contract for a method WITH HANDLERS (hh: its table) -/
abbrev wsW_ (y : MethodName) (b : ByteArray) (L : Nat) (r : Option FieldType) (hh : List (Nat × Nat × Nat × Nat)) : List Cond := Cond.codeWith y b L r hh :: lw_all
theorem lw_methW {y : MethodName} {b : ByteArray} {L : Nat} {r : Option FieldType} {hh : List (Nat × Nat × Nat × Nat)} (h : Cond.codeWith y b L r hh ∈ lw_all) : GoodIn lw_all (wsW_ y b L r hh) := by
  intro w hw
  rcases List.mem_cons.mp hw with e | e
  · rw [e]
    exact lw_self _ h
  · exact lw_self _ e
/-- any list of words by their places (lw_in), good -/
theorem lw_good {ws : List Cond} (h : ∀ w ∈ ws, w ∈ lw_all) : GoodIn lw_all ws := fun w hw => lw_self w (h w hw)
/-- what a call of a method with handlers asks: vx_cwVW n hts (lw_VW ..), vx_cwSW n hts (lw_SW ..) -/
theorem lw_VW {own : String} {idx : Nat} {C : String} {y : MethodName} {b : ByteArray} {L : Nat} {r : Option FieldType} {hh : List (Nat × Nat × Nat × Nat)} (h1 : Cond.methodLink own idx y ∈ lw_all) (h2 : Cond.instanceMethod y ∈ lw_all) (h3 : Cond.selects C y y ∈ lw_all) (h4 : Cond.initialized C ∈ lw_all) (h5 : Cond.codeWith y b L r hh ∈ lw_all) : GoodIn lw_all (wsV own idx C y (wsW_ y b L r hh)) := by
  refine lw_app ?_ (lw_methW h5)
  intro w hw
  simp only [List.mem_cons, List.not_mem_nil, or_false] at hw
  rcases hw with e | e | e | e
  · rw [e]; exact h1
  · rw [e]; exact h2
  · rw [e]; exact h3
  · rw [e]; exact h4
theorem lw_SW {own : String} {idx : Nat} {y : MethodName} {b : ByteArray} {L : Nat} {r : Option FieldType} {hh : List (Nat × Nat × Nat × Nat)} (h1 : Cond.methodLink own idx y ∈ lw_all) (h2 : Cond.static y ∈ lw_all) (h3 : Cond.initialized y.cls ∈ lw_all) (h4 : Cond.codeWith y b L r hh ∈ lw_all) : GoodIn lw_all (va_wsS own idx y (wsW_ y b L r hh)) := by
  refine lw_app ?_ (lw_methW h4)
  intro w hw
  simp only [List.mem_cons, List.not_mem_nil, or_false] at hw
  rcases hw with e | e | e
  · rw [e]; exact h1
  · rw [e]; exact h2
  · rw [e]; exact h3
/-- a word by its place in its run of the tables -/
theorem lw_at {r : List Cond} (hr : ∀ w ∈ r, w ∈ lw_tbl) {w : Cond} (i : Nat) (h : r[i]? = some w) : w ∈ lw_tbl := hr w (List.mem_of_getElem? h)
theorem lw_g {w : Cond} (h : w ∈ lw_tbl) (g : goodWord w = true) : w ∈ lw_all := List.mem_filter.mpr ⟨h, g⟩
theorem lw_ms : ∀ w ∈ k2_sels lw_privs, w ∈ lw_tbl := fun w h => show w ∈ k2_sels lw_privs ++ tables_1 from List.mem_append_left _ h
theorem lw_m1 : ∀ w ∈ tables_1_1, w ∈ lw_tbl := fun w h => show w ∈ k2_sels lw_privs ++ tables_1 from List.mem_append_right (k2_sels lw_privs) (show w ∈ tables_1 from List.mem_append_left _ h)
theorem lw_m2 : ∀ w ∈ tables_1_2, w ∈ lw_tbl := fun w h => show w ∈ k2_sels lw_privs ++ tables_1 from List.mem_append_right (k2_sels lw_privs) (show w ∈ tables_1 from List.mem_append_right _ (List.mem_append_left _ h))
theorem lw_m3 : ∀ w ∈ tables_1_3, w ∈ lw_tbl := fun w h => show w ∈ k2_sels lw_privs ++ tables_1 from List.mem_append_right (k2_sels lw_privs) (show w ∈ tables_1 from List.mem_append_right _ (List.mem_append_right _ (List.mem_append_left _ h)))
theorem lw_m4 : ∀ w ∈ tables_1_4, w ∈ lw_tbl := fun w h => show w ∈ k2_sels lw_privs ++ tables_1 from List.mem_append_right (k2_sels lw_privs) (show w ∈ tables_1 from List.mem_append_right _ (List.mem_append_right _ (List.mem_append_right _ h)))
theorem qs0 : (Cond.selects "java/lang/NullPointerException" ⟨"java/lang/NullPointerException", "getExtendedNPEMessage", "()Ljava/lang/String;"⟩ ⟨"java/lang/NullPointerException", "getExtendedNPEMessage", "()Ljava/lang/String;"⟩) ∈ lw_all := lw_g (lw_at lw_ms 0 rfl) rfl
theorem qs1 : (Cond.selects "java/lang/Throwable" ⟨"java/lang/Throwable", "fillInStackTrace", "(I)Ljava/lang/Throwable;"⟩ ⟨"java/lang/Throwable", "fillInStackTrace", "(I)Ljava/lang/Throwable;"⟩) ∈ lw_all := lw_g (lw_at lw_ms 1 rfl) rfl
theorem qs2 : (Cond.selects "ArrayMaker" ⟨"ArrayMaker", "done", "(I)I"⟩ ⟨"ArrayMaker", "done", "(I)I"⟩) ∈ lw_all := lw_g (lw_at lw_ms 2 rfl) rfl
theorem qs3 : (Cond.selects "ArrayMaker" ⟨"ArrayMaker", "fail", "(I)I"⟩ ⟨"ArrayMaker", "fail", "(I)I"⟩) ∈ lw_all := lw_g (lw_at lw_ms 3 rfl) rfl
theorem qs4 : (Cond.selects "ArrayMaker" ⟨"ArrayMaker", "keep", "(LArrayMaker$Shape;Ljava/lang/Object;)I"⟩ ⟨"ArrayMaker", "keep", "(LArrayMaker$Shape;Ljava/lang/Object;)I"⟩) ∈ lw_all := lw_g (lw_at lw_ms 4 rfl) rfl
theorem qs5 : (Cond.selects "ArrayMaker" ⟨"ArrayMaker", "isArray", "(I)Z"⟩ ⟨"ArrayMaker", "isArray", "(I)Z"⟩) ∈ lw_all := lw_g (lw_at lw_ms 5 rfl) rfl
theorem qs6 : (Cond.selects "ArrayMaker" ⟨"ArrayMaker", "beyond", "(I)I"⟩ ⟨"ArrayMaker", "beyond", "(I)I"⟩) ∈ lw_all := lw_g (lw_at lw_ms 6 rfl) rfl
theorem qs7 : (Cond.selects "ArrayMaker" ⟨"ArrayMaker", "lay", "(III)V"⟩ ⟨"ArrayMaker", "lay", "(III)V"⟩) ∈ lw_all := lw_g (lw_at lw_ms 7 rfl) rfl
theorem qs8 : (Cond.selects "ArrayMakerModel" ⟨"ArrayMakerModel", "no", "(I)I"⟩ ⟨"ArrayMakerModel", "no", "(I)I"⟩) ∈ lw_all := lw_g (lw_at lw_ms 8 rfl) rfl
theorem qs9 : (Cond.selects "ArrayMakerModel" ⟨"ArrayMakerModel", "yes", "(I)I"⟩ ⟨"ArrayMakerModel", "yes", "(I)I"⟩) ∈ lw_all := lw_g (lw_at lw_ms 9 rfl) rfl
theorem qs10 : (Cond.selects "ArrayMakerModel" ⟨"ArrayMakerModel", "shapeItems", "()I"⟩ ⟨"ArrayMakerModel", "shapeItems", "()I"⟩) ∈ lw_all := lw_g (lw_at lw_ms 10 rfl) rfl
theorem qs11 : (Cond.selects "ArrayMakerModel" ⟨"ArrayMakerModel", "newArray", "(II)I"⟩ ⟨"ArrayMakerModel", "newArray", "(II)I"⟩) ∈ lw_all := lw_g (lw_at lw_ms 11 rfl) rfl
theorem qs12 : (Cond.selects "ArrayMakerModel" ⟨"ArrayMakerModel", "newTable", "(I)V"⟩ ⟨"ArrayMakerModel", "newTable", "(I)V"⟩) ∈ lw_all := lw_g (lw_at lw_ms 12 rfl) rfl
theorem qs13 : (Cond.selects "ArrayMakerModel" ⟨"ArrayMakerModel", "lengthOf", "(II)J"⟩ ⟨"ArrayMakerModel", "lengthOf", "(II)J"⟩) ∈ lw_all := lw_g (lw_at lw_ms 13 rfl) rfl
theorem qs14 : (Cond.selects "ArrayMakerModel" ⟨"ArrayMakerModel", "newRow", "(I)I"⟩ ⟨"ArrayMakerModel", "newRow", "(I)I"⟩) ∈ lw_all := lw_g (lw_at lw_ms 14 rfl) rfl
theorem qs15 : (Cond.selects "ArrayMakerModel" ⟨"ArrayMakerModel", "wants", "(I)I"⟩ ⟨"ArrayMakerModel", "wants", "(I)I"⟩) ∈ lw_all := lw_g (lw_at lw_ms 15 rfl) rfl
theorem qs16 : (Cond.selects "ArrayMakerModel" ⟨"ArrayMakerModel", "isArray", "(I)Z"⟩ ⟨"ArrayMakerModel", "isArray", "(I)Z"⟩) ∈ lw_all := lw_g (lw_at lw_ms 16 rfl) rfl
theorem qs17 : (Cond.selects "ArrayMakerModel" ⟨"ArrayMakerModel", "copy", "(II)V"⟩ ⟨"ArrayMakerModel", "copy", "(II)V"⟩) ∈ lw_all := lw_g (lw_at lw_ms 17 rfl) rfl
theorem qs18 : (Cond.selects "ArrayMakerModel" ⟨"ArrayMakerModel", "placeOf", "(IIII)I"⟩ ⟨"ArrayMakerModel", "placeOf", "(IIII)I"⟩) ∈ lw_all := lw_g (lw_at lw_ms 18 rfl) rfl
theorem qs19 : (Cond.selects "ArrayMakerModel" ⟨"ArrayMakerModel", "noItem", "(I)I"⟩ ⟨"ArrayMakerModel", "noItem", "(I)I"⟩) ∈ lw_all := lw_g (lw_at lw_ms 19 rfl) rfl
theorem qs20 : (Cond.selects "ArrayMakerModel" ⟨"ArrayMakerModel", "tableRows", "(I)I"⟩ ⟨"ArrayMakerModel", "tableRows", "(I)I"⟩) ∈ lw_all := lw_g (lw_at lw_ms 20 rfl) rfl
theorem qs21 : (Cond.selects "ArrayMakerModel" ⟨"ArrayMakerModel", "wantsRow", "(II)I"⟩ ⟨"ArrayMakerModel", "wantsRow", "(II)I"⟩) ∈ lw_all := lw_g (lw_at lw_ms 21 rfl) rfl
theorem qs22 : (Cond.selects "ArrayMakerModel" ⟨"ArrayMakerModel", "slotOf", "(II)I"⟩ ⟨"ArrayMakerModel", "slotOf", "(II)I"⟩) ∈ lw_all := lw_g (lw_at lw_ms 22 rfl) rfl
theorem qs23 : (Cond.selects "ArrayMakerModel" ⟨"ArrayMakerModel", "find", "(IIII)I"⟩ ⟨"ArrayMakerModel", "find", "(IIII)I"⟩) ∈ lw_all := lw_g (lw_at lw_ms 23 rfl) rfl
theorem qs24 : (Cond.selects "ArrayMakerModel" ⟨"ArrayMakerModel", "lay", "(IIJ)V"⟩ ⟨"ArrayMakerModel", "lay", "(IIJ)V"⟩) ∈ lw_all := lw_g (lw_at lw_ms 24 rfl) rfl
theorem qs25 : (Cond.selects "ArrayMakerModel" ⟨"ArrayMakerModel", "joins", "(IIIJ)Z"⟩ ⟨"ArrayMakerModel", "joins", "(IIIJ)Z"⟩) ∈ lw_all := lw_g (lw_at lw_ms 25 rfl) rfl
theorem qs26 : (Cond.selects "ArrayMakerModel" ⟨"ArrayMakerModel", "sumOf", "(I)J"⟩ ⟨"ArrayMakerModel", "sumOf", "(I)J"⟩) ∈ lw_all := lw_g (lw_at lw_ms 26 rfl) rfl
end
section
/-! DECODE ROWS BY BYTES: one lemma an opcode; a method's code is cut into short pieces once, and a row reads its own piece alone. -/
set_option maxRecDepth 100000
/-- the code has just these bytes from pc on -/
def DkAt (code : ByteArray) (pc : Nat) (bs : List UInt8) : Prop := ∀ (j : Nat) (b : UInt8), bs[j]? = some b → code.data.toList[pc + j]? = some b
/-- the piece W has the bytes bs from its place j on -/
def dkIn (W : List UInt8) (j : Nat) (bs : List UInt8) : Bool := decide ((W.drop j).take bs.length = bs)
theorem dk_seg {l W T : List UInt8} {o o2 : Nat} (h : l.drop o = W ++ T) (n : Nat) (hn : W.length = n) (ho : o + n = o2) : l.drop o2 = T := by
  subst ho
  rw [← List.drop_drop, h, List.drop_left' hn]
theorem dk_at {code : ByteArray} {W T bs : List UInt8} {o pc : Nat} (h : code.data.toList.drop o = W ++ T) (j : Nat) (hp : o + j = pc) (hw : dkIn W j bs = true) : DkAt code pc bs := by
  subst hp
  intro i b e
  have h1 := of_decide_eq_true hw
  have h2 : i < bs.length := (List.getElem?_eq_some_iff.mp e).1
  have h3 : W[j + i]? = some b := by
    rw [← h1, List.getElem?_take, if_pos h2, List.getElem?_drop] at e
    exact e
  have h4 : j + i < W.length := (List.getElem?_eq_some_iff.mp h3).1
  have h5 : (code.data.toList.drop o)[j + i]? = some b := by
    rw [h, List.getElem?_append_left h4]
    exact h3
  rw [List.getElem?_drop, ← Nat.add_assoc] at h5
  exact h5
theorem dk_u1 {A : ByteArray} {p : Nat} {b : UInt8} (h : A.data.toList[p]? = some b) : (Reader.u1 : Reader DecodeError Nat) A p = .ok (b.toNat, p + 1) := by
  obtain ⟨h1, h2⟩ := List.getElem?_eq_some_iff.mp h
  have h3 : p < A.size := by simpa using h1
  have h4 : A[p]'h3 = b := h2
  have e : (Reader.u1 : Reader DecodeError Nat) A p = (if h : p < A.size then .ok (A[p].toNat, p + 1) else .error (HasTruncated.truncated p)) := by
    show (do if h : p < A.size then do set (p + 1); Pure.pure A[p].toNat else MonadExcept.throw (HasTruncated.truncated p) : Reader DecodeError Nat) A p = _
    by_cases hi : p < A.size
    · rw [dif_pos hi, dif_pos hi]; rfl
    · rw [dif_neg hi, dif_neg hi]; rfl
  rw [e, dif_pos h3, h4]
theorem dk_bind {α β : Type} {r : Reader DecodeError α} {f : α → Reader DecodeError β} {A : ByteArray} {p s : Nat} {a : α} (h : r A p = .ok (a, s)) : (r >>= f) A p = f a A s := by
  show (do let (a, s) ← r A p; f a A s : Except DecodeError (β × Nat)) = _
  rw [h]
  rfl
theorem dk_map {α β : Type} {r : Reader DecodeError α} {g : α → β} {A : ByteArray} {p s : Nat} {a : α} (h : r A p = .ok (a, s)) : (g <$> r) A p = .ok (g a, s) := by
  show (do let (a, s) ← r A p; .ok (g a, s) : Except DecodeError (β × Nat)) = _
  rw [h]
  rfl
theorem dk_u2 {A : ByteArray} {p : Nat} {a b : UInt8} (h : A.data.toList[p]? = some a) (h2 : A.data.toList[p + 1]? = some b) : (Reader.u2 : Reader DecodeError Nat) A p = .ok (a.toNat * 256 + b.toNat, p + 2) := by
  show (Reader.u1 >>= fun hi => Reader.u1 >>= fun lo => Pure.pure (hi * 256 + lo) : Reader DecodeError Nat) A p = _
  rw [dk_bind (dk_u1 h), dk_bind (dk_u1 h2)]
  rfl
theorem dk_of {code : ByteArray} {pc n : Nat} {i : Instr} (h : Decoder.instr pc code pc = .ok (i, pc + n)) : decode code pc = .ok (i, n) := by
  have e : decode code pc = (match Decoder.instr pc code pc with | .error x => .error x | .ok (j, s) => .ok (j, s - pc)) := by
    show (do let (j, s) ← Decoder.instr pc code pc; Pure.pure (j, s - pc) : Except DecodeError (Instr × Nat)) = _
    cases Decoder.instr pc code pc <;> rfl
  rw [e, h]
  show Except.ok (i, pc + n - pc) = _
  rw [Nat.add_sub_cancel_left]
theorem dk_1 {code : ByteArray} {pc : Nat} (h : DkAt code pc [1]) : decode code pc = .ok (.aconst_null, 1) := dk_of ((dk_bind (dk_u1 (h 0 _ rfl))).trans rfl)
theorem dk_2 {code : ByteArray} {pc : Nat} (h : DkAt code pc [2]) : decode code pc = .ok (.iconst (-1), 1) := dk_of ((dk_bind (dk_u1 (h 0 _ rfl))).trans rfl)
theorem dk_3 {code : ByteArray} {pc : Nat} (h : DkAt code pc [3]) : decode code pc = .ok (.iconst 0, 1) := dk_of ((dk_bind (dk_u1 (h 0 _ rfl))).trans rfl)
theorem dk_4 {code : ByteArray} {pc : Nat} (h : DkAt code pc [4]) : decode code pc = .ok (.iconst 1, 1) := dk_of ((dk_bind (dk_u1 (h 0 _ rfl))).trans rfl)
theorem dk_5 {code : ByteArray} {pc : Nat} (h : DkAt code pc [5]) : decode code pc = .ok (.iconst 2, 1) := dk_of ((dk_bind (dk_u1 (h 0 _ rfl))).trans rfl)
theorem dk_6 {code : ByteArray} {pc : Nat} (h : DkAt code pc [6]) : decode code pc = .ok (.iconst 3, 1) := dk_of ((dk_bind (dk_u1 (h 0 _ rfl))).trans rfl)
theorem dk_7 {code : ByteArray} {pc : Nat} (h : DkAt code pc [7]) : decode code pc = .ok (.iconst 4, 1) := dk_of ((dk_bind (dk_u1 (h 0 _ rfl))).trans rfl)
theorem dk_8 {code : ByteArray} {pc : Nat} (h : DkAt code pc [8]) : decode code pc = .ok (.iconst 5, 1) := dk_of ((dk_bind (dk_u1 (h 0 _ rfl))).trans rfl)
theorem dk_9 {code : ByteArray} {pc : Nat} (h : DkAt code pc [9]) : decode code pc = .ok (.lconst 0, 1) := dk_of ((dk_bind (dk_u1 (h 0 _ rfl))).trans rfl)
theorem dk_10 {code : ByteArray} {pc : Nat} (h : DkAt code pc [10]) : decode code pc = .ok (.lconst 1, 1) := dk_of ((dk_bind (dk_u1 (h 0 _ rfl))).trans rfl)
theorem dk_16 {code : ByteArray} {pc : Nat} (a : UInt8) (h : DkAt code pc [16, a]) : decode code pc = .ok (.bipush (Reader.signed 8 a.toNat), 2) := dk_of ((dk_bind (dk_u1 (h 0 _ rfl))).trans ((dk_bind (dk_map (dk_u1 (h 1 _ rfl)))).trans rfl))
theorem dk_17 {code : ByteArray} {pc : Nat} (a b : UInt8) (h : DkAt code pc [17, a, b]) : decode code pc = .ok (.sipush (Reader.signed 16 (a.toNat * 256 + b.toNat)), 3) := dk_of ((dk_bind (dk_u1 (h 0 _ rfl))).trans ((dk_bind (dk_map (dk_u2 (h 1 _ rfl) (h 2 _ rfl)))).trans rfl))
theorem dk_18 {code : ByteArray} {pc : Nat} (a : UInt8) (h : DkAt code pc [18, a]) : decode code pc = .ok (.ldc a.toNat, 2) := dk_of ((dk_bind (dk_u1 (h 0 _ rfl))).trans ((dk_bind (dk_u1 (h 1 _ rfl))).trans rfl))
theorem dk_20 {code : ByteArray} {pc : Nat} (a b : UInt8) (h : DkAt code pc [20, a, b]) : decode code pc = .ok (.ldc2_w (a.toNat * 256 + b.toNat), 3) := dk_of ((dk_bind (dk_u1 (h 0 _ rfl))).trans ((dk_bind (dk_u2 (h 1 _ rfl) (h 2 _ rfl))).trans rfl))
theorem dk_21 {code : ByteArray} {pc : Nat} (a : UInt8) (h : DkAt code pc [21, a]) : decode code pc = .ok (.iload a.toNat, 2) := dk_of ((dk_bind (dk_u1 (h 0 _ rfl))).trans ((dk_bind (dk_u1 (h 1 _ rfl))).trans rfl))
theorem dk_22 {code : ByteArray} {pc : Nat} (a : UInt8) (h : DkAt code pc [22, a]) : decode code pc = .ok (.lload a.toNat, 2) := dk_of ((dk_bind (dk_u1 (h 0 _ rfl))).trans ((dk_bind (dk_u1 (h 1 _ rfl))).trans rfl))
theorem dk_25 {code : ByteArray} {pc : Nat} (a : UInt8) (h : DkAt code pc [25, a]) : decode code pc = .ok (.aload a.toNat, 2) := dk_of ((dk_bind (dk_u1 (h 0 _ rfl))).trans ((dk_bind (dk_u1 (h 1 _ rfl))).trans rfl))
theorem dk_26 {code : ByteArray} {pc : Nat} (h : DkAt code pc [26]) : decode code pc = .ok (.iload_n 0, 1) := dk_of ((dk_bind (dk_u1 (h 0 _ rfl))).trans rfl)
theorem dk_27 {code : ByteArray} {pc : Nat} (h : DkAt code pc [27]) : decode code pc = .ok (.iload_n 1, 1) := dk_of ((dk_bind (dk_u1 (h 0 _ rfl))).trans rfl)
theorem dk_28 {code : ByteArray} {pc : Nat} (h : DkAt code pc [28]) : decode code pc = .ok (.iload_n 2, 1) := dk_of ((dk_bind (dk_u1 (h 0 _ rfl))).trans rfl)
theorem dk_29 {code : ByteArray} {pc : Nat} (h : DkAt code pc [29]) : decode code pc = .ok (.iload_n 3, 1) := dk_of ((dk_bind (dk_u1 (h 0 _ rfl))).trans rfl)
theorem dk_30 {code : ByteArray} {pc : Nat} (h : DkAt code pc [30]) : decode code pc = .ok (.lload_n 0, 1) := dk_of ((dk_bind (dk_u1 (h 0 _ rfl))).trans rfl)
theorem dk_31 {code : ByteArray} {pc : Nat} (h : DkAt code pc [31]) : decode code pc = .ok (.lload_n 1, 1) := dk_of ((dk_bind (dk_u1 (h 0 _ rfl))).trans rfl)
theorem dk_32 {code : ByteArray} {pc : Nat} (h : DkAt code pc [32]) : decode code pc = .ok (.lload_n 2, 1) := dk_of ((dk_bind (dk_u1 (h 0 _ rfl))).trans rfl)
theorem dk_33 {code : ByteArray} {pc : Nat} (h : DkAt code pc [33]) : decode code pc = .ok (.lload_n 3, 1) := dk_of ((dk_bind (dk_u1 (h 0 _ rfl))).trans rfl)
theorem dk_42 {code : ByteArray} {pc : Nat} (h : DkAt code pc [42]) : decode code pc = .ok (.aload_n 0, 1) := dk_of ((dk_bind (dk_u1 (h 0 _ rfl))).trans rfl)
theorem dk_43 {code : ByteArray} {pc : Nat} (h : DkAt code pc [43]) : decode code pc = .ok (.aload_n 1, 1) := dk_of ((dk_bind (dk_u1 (h 0 _ rfl))).trans rfl)
theorem dk_44 {code : ByteArray} {pc : Nat} (h : DkAt code pc [44]) : decode code pc = .ok (.aload_n 2, 1) := dk_of ((dk_bind (dk_u1 (h 0 _ rfl))).trans rfl)
theorem dk_45 {code : ByteArray} {pc : Nat} (h : DkAt code pc [45]) : decode code pc = .ok (.aload_n 3, 1) := dk_of ((dk_bind (dk_u1 (h 0 _ rfl))).trans rfl)
theorem dk_46 {code : ByteArray} {pc : Nat} (h : DkAt code pc [46]) : decode code pc = .ok (.iaload, 1) := dk_of ((dk_bind (dk_u1 (h 0 _ rfl))).trans rfl)
theorem dk_47 {code : ByteArray} {pc : Nat} (h : DkAt code pc [47]) : decode code pc = .ok (.laload, 1) := dk_of ((dk_bind (dk_u1 (h 0 _ rfl))).trans rfl)
theorem dk_50 {code : ByteArray} {pc : Nat} (h : DkAt code pc [50]) : decode code pc = .ok (.aaload, 1) := dk_of ((dk_bind (dk_u1 (h 0 _ rfl))).trans rfl)
theorem dk_51 {code : ByteArray} {pc : Nat} (h : DkAt code pc [51]) : decode code pc = .ok (.baload, 1) := dk_of ((dk_bind (dk_u1 (h 0 _ rfl))).trans rfl)
theorem dk_54 {code : ByteArray} {pc : Nat} (a : UInt8) (h : DkAt code pc [54, a]) : decode code pc = .ok (.istore a.toNat, 2) := dk_of ((dk_bind (dk_u1 (h 0 _ rfl))).trans ((dk_bind (dk_u1 (h 1 _ rfl))).trans rfl))
theorem dk_55 {code : ByteArray} {pc : Nat} (a : UInt8) (h : DkAt code pc [55, a]) : decode code pc = .ok (.lstore a.toNat, 2) := dk_of ((dk_bind (dk_u1 (h 0 _ rfl))).trans ((dk_bind (dk_u1 (h 1 _ rfl))).trans rfl))
theorem dk_58 {code : ByteArray} {pc : Nat} (a : UInt8) (h : DkAt code pc [58, a]) : decode code pc = .ok (.astore a.toNat, 2) := dk_of ((dk_bind (dk_u1 (h 0 _ rfl))).trans ((dk_bind (dk_u1 (h 1 _ rfl))).trans rfl))
theorem dk_60 {code : ByteArray} {pc : Nat} (h : DkAt code pc [60]) : decode code pc = .ok (.istore_n 1, 1) := dk_of ((dk_bind (dk_u1 (h 0 _ rfl))).trans rfl)
theorem dk_61 {code : ByteArray} {pc : Nat} (h : DkAt code pc [61]) : decode code pc = .ok (.istore_n 2, 1) := dk_of ((dk_bind (dk_u1 (h 0 _ rfl))).trans rfl)
theorem dk_62 {code : ByteArray} {pc : Nat} (h : DkAt code pc [62]) : decode code pc = .ok (.istore_n 3, 1) := dk_of ((dk_bind (dk_u1 (h 0 _ rfl))).trans rfl)
theorem dk_64 {code : ByteArray} {pc : Nat} (h : DkAt code pc [64]) : decode code pc = .ok (.lstore_n 1, 1) := dk_of ((dk_bind (dk_u1 (h 0 _ rfl))).trans rfl)
theorem dk_65 {code : ByteArray} {pc : Nat} (h : DkAt code pc [65]) : decode code pc = .ok (.lstore_n 2, 1) := dk_of ((dk_bind (dk_u1 (h 0 _ rfl))).trans rfl)
theorem dk_66 {code : ByteArray} {pc : Nat} (h : DkAt code pc [66]) : decode code pc = .ok (.lstore_n 3, 1) := dk_of ((dk_bind (dk_u1 (h 0 _ rfl))).trans rfl)
theorem dk_76 {code : ByteArray} {pc : Nat} (h : DkAt code pc [76]) : decode code pc = .ok (.astore_n 1, 1) := dk_of ((dk_bind (dk_u1 (h 0 _ rfl))).trans rfl)
theorem dk_77 {code : ByteArray} {pc : Nat} (h : DkAt code pc [77]) : decode code pc = .ok (.astore_n 2, 1) := dk_of ((dk_bind (dk_u1 (h 0 _ rfl))).trans rfl)
theorem dk_78 {code : ByteArray} {pc : Nat} (h : DkAt code pc [78]) : decode code pc = .ok (.astore_n 3, 1) := dk_of ((dk_bind (dk_u1 (h 0 _ rfl))).trans rfl)
theorem dk_79 {code : ByteArray} {pc : Nat} (h : DkAt code pc [79]) : decode code pc = .ok (.iastore, 1) := dk_of ((dk_bind (dk_u1 (h 0 _ rfl))).trans rfl)
theorem dk_80 {code : ByteArray} {pc : Nat} (h : DkAt code pc [80]) : decode code pc = .ok (.lastore, 1) := dk_of ((dk_bind (dk_u1 (h 0 _ rfl))).trans rfl)
theorem dk_83 {code : ByteArray} {pc : Nat} (h : DkAt code pc [83]) : decode code pc = .ok (.aastore, 1) := dk_of ((dk_bind (dk_u1 (h 0 _ rfl))).trans rfl)
theorem dk_84 {code : ByteArray} {pc : Nat} (h : DkAt code pc [84]) : decode code pc = .ok (.bastore, 1) := dk_of ((dk_bind (dk_u1 (h 0 _ rfl))).trans rfl)
theorem dk_87 {code : ByteArray} {pc : Nat} (h : DkAt code pc [87]) : decode code pc = .ok (.pop, 1) := dk_of ((dk_bind (dk_u1 (h 0 _ rfl))).trans rfl)
theorem dk_89 {code : ByteArray} {pc : Nat} (h : DkAt code pc [89]) : decode code pc = .ok (.dup, 1) := dk_of ((dk_bind (dk_u1 (h 0 _ rfl))).trans rfl)
theorem dk_90 {code : ByteArray} {pc : Nat} (h : DkAt code pc [90]) : decode code pc = .ok (.dup_x1, 1) := dk_of ((dk_bind (dk_u1 (h 0 _ rfl))).trans rfl)
theorem dk_92 {code : ByteArray} {pc : Nat} (h : DkAt code pc [92]) : decode code pc = .ok (.dup2, 1) := dk_of ((dk_bind (dk_u1 (h 0 _ rfl))).trans rfl)
theorem dk_96 {code : ByteArray} {pc : Nat} (h : DkAt code pc [96]) : decode code pc = .ok (.iadd, 1) := dk_of ((dk_bind (dk_u1 (h 0 _ rfl))).trans rfl)
theorem dk_97 {code : ByteArray} {pc : Nat} (h : DkAt code pc [97]) : decode code pc = .ok (.ladd, 1) := dk_of ((dk_bind (dk_u1 (h 0 _ rfl))).trans rfl)
theorem dk_100 {code : ByteArray} {pc : Nat} (h : DkAt code pc [100]) : decode code pc = .ok (.isub, 1) := dk_of ((dk_bind (dk_u1 (h 0 _ rfl))).trans rfl)
theorem dk_101 {code : ByteArray} {pc : Nat} (h : DkAt code pc [101]) : decode code pc = .ok (.lsub, 1) := dk_of ((dk_bind (dk_u1 (h 0 _ rfl))).trans rfl)
theorem dk_104 {code : ByteArray} {pc : Nat} (h : DkAt code pc [104]) : decode code pc = .ok (.imul, 1) := dk_of ((dk_bind (dk_u1 (h 0 _ rfl))).trans rfl)
theorem dk_105 {code : ByteArray} {pc : Nat} (h : DkAt code pc [105]) : decode code pc = .ok (.lmul, 1) := dk_of ((dk_bind (dk_u1 (h 0 _ rfl))).trans rfl)
theorem dk_108 {code : ByteArray} {pc : Nat} (h : DkAt code pc [108]) : decode code pc = .ok (.idiv, 1) := dk_of ((dk_bind (dk_u1 (h 0 _ rfl))).trans rfl)
theorem dk_109 {code : ByteArray} {pc : Nat} (h : DkAt code pc [109]) : decode code pc = .ok (.ldiv, 1) := dk_of ((dk_bind (dk_u1 (h 0 _ rfl))).trans rfl)
theorem dk_112 {code : ByteArray} {pc : Nat} (h : DkAt code pc [112]) : decode code pc = .ok (.irem, 1) := dk_of ((dk_bind (dk_u1 (h 0 _ rfl))).trans rfl)
theorem dk_113 {code : ByteArray} {pc : Nat} (h : DkAt code pc [113]) : decode code pc = .ok (.lrem, 1) := dk_of ((dk_bind (dk_u1 (h 0 _ rfl))).trans rfl)
theorem dk_121 {code : ByteArray} {pc : Nat} (h : DkAt code pc [121]) : decode code pc = .ok (.lshl, 1) := dk_of ((dk_bind (dk_u1 (h 0 _ rfl))).trans rfl)
theorem dk_126 {code : ByteArray} {pc : Nat} (h : DkAt code pc [126]) : decode code pc = .ok (.iand, 1) := dk_of ((dk_bind (dk_u1 (h 0 _ rfl))).trans rfl)
theorem dk_127 {code : ByteArray} {pc : Nat} (h : DkAt code pc [127]) : decode code pc = .ok (.land, 1) := dk_of ((dk_bind (dk_u1 (h 0 _ rfl))).trans rfl)
theorem dk_129 {code : ByteArray} {pc : Nat} (h : DkAt code pc [129]) : decode code pc = .ok (.lor, 1) := dk_of ((dk_bind (dk_u1 (h 0 _ rfl))).trans rfl)
theorem dk_132 {code : ByteArray} {pc : Nat} (a b : UInt8) (h : DkAt code pc [132, a, b]) : decode code pc = .ok (.iinc a.toNat (Reader.signed 8 b.toNat), 3) := dk_of ((dk_bind (dk_u1 (h 0 _ rfl))).trans ((dk_bind (dk_u1 (h 1 _ rfl))).trans ((dk_bind (dk_map (dk_u1 (h 2 _ rfl)))).trans rfl)))
theorem dk_133 {code : ByteArray} {pc : Nat} (h : DkAt code pc [133]) : decode code pc = .ok (.i2l, 1) := dk_of ((dk_bind (dk_u1 (h 0 _ rfl))).trans rfl)
theorem dk_136 {code : ByteArray} {pc : Nat} (h : DkAt code pc [136]) : decode code pc = .ok (.l2i, 1) := dk_of ((dk_bind (dk_u1 (h 0 _ rfl))).trans rfl)
theorem dk_145 {code : ByteArray} {pc : Nat} (h : DkAt code pc [145]) : decode code pc = .ok (.i2b, 1) := dk_of ((dk_bind (dk_u1 (h 0 _ rfl))).trans rfl)
theorem dk_148 {code : ByteArray} {pc : Nat} (h : DkAt code pc [148]) : decode code pc = .ok (.lcmp, 1) := dk_of ((dk_bind (dk_u1 (h 0 _ rfl))).trans rfl)
theorem dk_153 {code : ByteArray} {pc : Nat} (a b : UInt8) (h : DkAt code pc [153, a, b]) : decode code pc = .ok (.ifCond .eq (Reader.signed 16 (a.toNat * 256 + b.toNat)), 3) := dk_of ((dk_bind (dk_u1 (h 0 _ rfl))).trans ((dk_bind (dk_map (dk_u2 (h 1 _ rfl) (h 2 _ rfl)))).trans rfl))
theorem dk_154 {code : ByteArray} {pc : Nat} (a b : UInt8) (h : DkAt code pc [154, a, b]) : decode code pc = .ok (.ifCond .ne (Reader.signed 16 (a.toNat * 256 + b.toNat)), 3) := dk_of ((dk_bind (dk_u1 (h 0 _ rfl))).trans ((dk_bind (dk_map (dk_u2 (h 1 _ rfl) (h 2 _ rfl)))).trans rfl))
theorem dk_155 {code : ByteArray} {pc : Nat} (a b : UInt8) (h : DkAt code pc [155, a, b]) : decode code pc = .ok (.ifCond .lt (Reader.signed 16 (a.toNat * 256 + b.toNat)), 3) := dk_of ((dk_bind (dk_u1 (h 0 _ rfl))).trans ((dk_bind (dk_map (dk_u2 (h 1 _ rfl) (h 2 _ rfl)))).trans rfl))
theorem dk_156 {code : ByteArray} {pc : Nat} (a b : UInt8) (h : DkAt code pc [156, a, b]) : decode code pc = .ok (.ifCond .ge (Reader.signed 16 (a.toNat * 256 + b.toNat)), 3) := dk_of ((dk_bind (dk_u1 (h 0 _ rfl))).trans ((dk_bind (dk_map (dk_u2 (h 1 _ rfl) (h 2 _ rfl)))).trans rfl))
theorem dk_157 {code : ByteArray} {pc : Nat} (a b : UInt8) (h : DkAt code pc [157, a, b]) : decode code pc = .ok (.ifCond .gt (Reader.signed 16 (a.toNat * 256 + b.toNat)), 3) := dk_of ((dk_bind (dk_u1 (h 0 _ rfl))).trans ((dk_bind (dk_map (dk_u2 (h 1 _ rfl) (h 2 _ rfl)))).trans rfl))
theorem dk_158 {code : ByteArray} {pc : Nat} (a b : UInt8) (h : DkAt code pc [158, a, b]) : decode code pc = .ok (.ifCond .le (Reader.signed 16 (a.toNat * 256 + b.toNat)), 3) := dk_of ((dk_bind (dk_u1 (h 0 _ rfl))).trans ((dk_bind (dk_map (dk_u2 (h 1 _ rfl) (h 2 _ rfl)))).trans rfl))
theorem dk_159 {code : ByteArray} {pc : Nat} (a b : UInt8) (h : DkAt code pc [159, a, b]) : decode code pc = .ok (.if_icmp .eq (Reader.signed 16 (a.toNat * 256 + b.toNat)), 3) := dk_of ((dk_bind (dk_u1 (h 0 _ rfl))).trans ((dk_bind (dk_map (dk_u2 (h 1 _ rfl) (h 2 _ rfl)))).trans rfl))
theorem dk_160 {code : ByteArray} {pc : Nat} (a b : UInt8) (h : DkAt code pc [160, a, b]) : decode code pc = .ok (.if_icmp .ne (Reader.signed 16 (a.toNat * 256 + b.toNat)), 3) := dk_of ((dk_bind (dk_u1 (h 0 _ rfl))).trans ((dk_bind (dk_map (dk_u2 (h 1 _ rfl) (h 2 _ rfl)))).trans rfl))
theorem dk_161 {code : ByteArray} {pc : Nat} (a b : UInt8) (h : DkAt code pc [161, a, b]) : decode code pc = .ok (.if_icmp .lt (Reader.signed 16 (a.toNat * 256 + b.toNat)), 3) := dk_of ((dk_bind (dk_u1 (h 0 _ rfl))).trans ((dk_bind (dk_map (dk_u2 (h 1 _ rfl) (h 2 _ rfl)))).trans rfl))
theorem dk_162 {code : ByteArray} {pc : Nat} (a b : UInt8) (h : DkAt code pc [162, a, b]) : decode code pc = .ok (.if_icmp .ge (Reader.signed 16 (a.toNat * 256 + b.toNat)), 3) := dk_of ((dk_bind (dk_u1 (h 0 _ rfl))).trans ((dk_bind (dk_map (dk_u2 (h 1 _ rfl) (h 2 _ rfl)))).trans rfl))
theorem dk_163 {code : ByteArray} {pc : Nat} (a b : UInt8) (h : DkAt code pc [163, a, b]) : decode code pc = .ok (.if_icmp .gt (Reader.signed 16 (a.toNat * 256 + b.toNat)), 3) := dk_of ((dk_bind (dk_u1 (h 0 _ rfl))).trans ((dk_bind (dk_map (dk_u2 (h 1 _ rfl) (h 2 _ rfl)))).trans rfl))
theorem dk_164 {code : ByteArray} {pc : Nat} (a b : UInt8) (h : DkAt code pc [164, a, b]) : decode code pc = .ok (.if_icmp .le (Reader.signed 16 (a.toNat * 256 + b.toNat)), 3) := dk_of ((dk_bind (dk_u1 (h 0 _ rfl))).trans ((dk_bind (dk_map (dk_u2 (h 1 _ rfl) (h 2 _ rfl)))).trans rfl))
theorem dk_166 {code : ByteArray} {pc : Nat} (a b : UInt8) (h : DkAt code pc [166, a, b]) : decode code pc = .ok (.if_acmp .ne (Reader.signed 16 (a.toNat * 256 + b.toNat)), 3) := dk_of ((dk_bind (dk_u1 (h 0 _ rfl))).trans ((dk_bind (dk_map (dk_u2 (h 1 _ rfl) (h 2 _ rfl)))).trans rfl))
theorem dk_167 {code : ByteArray} {pc : Nat} (a b : UInt8) (h : DkAt code pc [167, a, b]) : decode code pc = .ok (.goto (Reader.signed 16 (a.toNat * 256 + b.toNat)), 3) := dk_of ((dk_bind (dk_u1 (h 0 _ rfl))).trans ((dk_bind (dk_map (dk_u2 (h 1 _ rfl) (h 2 _ rfl)))).trans rfl))
theorem dk_172 {code : ByteArray} {pc : Nat} (h : DkAt code pc [172]) : decode code pc = .ok (.ireturn, 1) := dk_of ((dk_bind (dk_u1 (h 0 _ rfl))).trans rfl)
theorem dk_173 {code : ByteArray} {pc : Nat} (h : DkAt code pc [173]) : decode code pc = .ok (.lreturn, 1) := dk_of ((dk_bind (dk_u1 (h 0 _ rfl))).trans rfl)
theorem dk_176 {code : ByteArray} {pc : Nat} (h : DkAt code pc [176]) : decode code pc = .ok (.areturn, 1) := dk_of ((dk_bind (dk_u1 (h 0 _ rfl))).trans rfl)
theorem dk_177 {code : ByteArray} {pc : Nat} (h : DkAt code pc [177]) : decode code pc = .ok (.return_, 1) := dk_of ((dk_bind (dk_u1 (h 0 _ rfl))).trans rfl)
theorem dk_178 {code : ByteArray} {pc : Nat} (a b : UInt8) (h : DkAt code pc [178, a, b]) : decode code pc = .ok (.getstatic (a.toNat * 256 + b.toNat), 3) := dk_of ((dk_bind (dk_u1 (h 0 _ rfl))).trans ((dk_bind (dk_u2 (h 1 _ rfl) (h 2 _ rfl))).trans rfl))
theorem dk_180 {code : ByteArray} {pc : Nat} (a b : UInt8) (h : DkAt code pc [180, a, b]) : decode code pc = .ok (.getfield (a.toNat * 256 + b.toNat), 3) := dk_of ((dk_bind (dk_u1 (h 0 _ rfl))).trans ((dk_bind (dk_u2 (h 1 _ rfl) (h 2 _ rfl))).trans rfl))
theorem dk_181 {code : ByteArray} {pc : Nat} (a b : UInt8) (h : DkAt code pc [181, a, b]) : decode code pc = .ok (.putfield (a.toNat * 256 + b.toNat), 3) := dk_of ((dk_bind (dk_u1 (h 0 _ rfl))).trans ((dk_bind (dk_u2 (h 1 _ rfl) (h 2 _ rfl))).trans rfl))
theorem dk_182 {code : ByteArray} {pc : Nat} (a b : UInt8) (h : DkAt code pc [182, a, b]) : decode code pc = .ok (.invokevirtual (a.toNat * 256 + b.toNat), 3) := dk_of ((dk_bind (dk_u1 (h 0 _ rfl))).trans ((dk_bind (dk_u2 (h 1 _ rfl) (h 2 _ rfl))).trans rfl))
theorem dk_183 {code : ByteArray} {pc : Nat} (a b : UInt8) (h : DkAt code pc [183, a, b]) : decode code pc = .ok (.invokespecial (a.toNat * 256 + b.toNat), 3) := dk_of ((dk_bind (dk_u1 (h 0 _ rfl))).trans ((dk_bind (dk_u2 (h 1 _ rfl) (h 2 _ rfl))).trans rfl))
theorem dk_184 {code : ByteArray} {pc : Nat} (a b : UInt8) (h : DkAt code pc [184, a, b]) : decode code pc = .ok (.invokestatic (a.toNat * 256 + b.toNat), 3) := dk_of ((dk_bind (dk_u1 (h 0 _ rfl))).trans ((dk_bind (dk_u2 (h 1 _ rfl) (h 2 _ rfl))).trans rfl))
theorem dk_187 {code : ByteArray} {pc : Nat} (a b : UInt8) (h : DkAt code pc [187, a, b]) : decode code pc = .ok (.new (a.toNat * 256 + b.toNat), 3) := dk_of ((dk_bind (dk_u1 (h 0 _ rfl))).trans ((dk_bind (dk_u2 (h 1 _ rfl) (h 2 _ rfl))).trans rfl))
theorem dk_188_4 {code : ByteArray} {pc : Nat} (h : DkAt code pc [188, 4]) : decode code pc = .ok (.newarray .boolean, 2) := dk_of ((dk_bind (dk_u1 (h 0 _ rfl))).trans ((dk_bind (dk_u1 (h 1 _ rfl))).trans rfl))
theorem dk_188_8 {code : ByteArray} {pc : Nat} (h : DkAt code pc [188, 8]) : decode code pc = .ok (.newarray .byte, 2) := dk_of ((dk_bind (dk_u1 (h 0 _ rfl))).trans ((dk_bind (dk_u1 (h 1 _ rfl))).trans rfl))
theorem dk_188_10 {code : ByteArray} {pc : Nat} (h : DkAt code pc [188, 10]) : decode code pc = .ok (.newarray .int, 2) := dk_of ((dk_bind (dk_u1 (h 0 _ rfl))).trans ((dk_bind (dk_u1 (h 1 _ rfl))).trans rfl))
theorem dk_188_11 {code : ByteArray} {pc : Nat} (h : DkAt code pc [188, 11]) : decode code pc = .ok (.newarray .long, 2) := dk_of ((dk_bind (dk_u1 (h 0 _ rfl))).trans ((dk_bind (dk_u1 (h 1 _ rfl))).trans rfl))
theorem dk_189 {code : ByteArray} {pc : Nat} (a b : UInt8) (h : DkAt code pc [189, a, b]) : decode code pc = .ok (.anewarray (a.toNat * 256 + b.toNat), 3) := dk_of ((dk_bind (dk_u1 (h 0 _ rfl))).trans ((dk_bind (dk_u2 (h 1 _ rfl) (h 2 _ rfl))).trans rfl))
theorem dk_190 {code : ByteArray} {pc : Nat} (h : DkAt code pc [190]) : decode code pc = .ok (.arraylength, 1) := dk_of ((dk_bind (dk_u1 (h 0 _ rfl))).trans rfl)
theorem dk_192 {code : ByteArray} {pc : Nat} (a b : UInt8) (h : DkAt code pc [192, a, b]) : decode code pc = .ok (.checkcast (a.toNat * 256 + b.toNat), 3) := dk_of ((dk_bind (dk_u1 (h 0 _ rfl))).trans ((dk_bind (dk_u2 (h 1 _ rfl) (h 2 _ rfl))).trans rfl))
theorem dk_193 {code : ByteArray} {pc : Nat} (a b : UInt8) (h : DkAt code pc [193, a, b]) : decode code pc = .ok (.instanceof (a.toNat * 256 + b.toNat), 3) := dk_of ((dk_bind (dk_u1 (h 0 _ rfl))).trans ((dk_bind (dk_u2 (h 1 _ rfl) (h 2 _ rfl))).trans rfl))
theorem dk_199 {code : ByteArray} {pc : Nat} (a b : UInt8) (h : DkAt code pc [199, a, b]) : decode code pc = .ok (.ifnonnull (Reader.signed 16 (a.toNat * 256 + b.toNat)), 3) := dk_of ((dk_bind (dk_u1 (h 0 _ rfl))).trans ((dk_bind (dk_map (dk_u2 (h 1 _ rfl) (h 2 _ rfl)))).trans rfl))
end
section
/-! ArrayMaker$Shape -/
set_option maxRecDepth 100000
def RX1 : String := "ArrayMaker$Shape"
def TX1 : u_T := fun k => match k with
  | 0 => ("ArrayMaker$Shape", "many", "I", false)
  | 1 => ("ArrayMaker$Shape", "low", "[I", true)
  | _ => ("ArrayMaker$Shape", "high", "[I", true)
def tyX1 : Nat → FieldType := fun k => match k with
  | 0 => .int
  | 1 => .array .int
  | _ => .array .int
abbrev wsX10 : List Cond := u_ws RX1 TX1 3
theorem nmX1 : ∀ a, a < 3 → ∀ b, b < 3 → a ≠ b → (TX1 a).2.1 ≠ (TX1 b).2.1 := by decide +kernel
theorem tyX1_ok : ∀ k, k < 3 → parseFieldDescriptor (TX1 k).2.2.1 = some (tyX1 k) := by decide +kernel
abbrev cX1_init : ByteArray := prog_4_method_1_code
def yX1_init : MethodName := ⟨RX1, "<init>", "()V"⟩
def dkwX1_init_0 : List UInt8 := [42, 183, 0, 3, 42, 6, 188, 10, 181, 0, 9, 42, 6, 188, 10, 181, 0, 15, 177]
abbrev dktX1_init_0 : List UInt8 := dkwX1_init_0 ++ []
theorem dksX1_init_0 : cX1_init.data.toList.drop 0 = dktX1_init_0 := by decide +kernel
theorem dX1_init_0 : decode cX1_init 0 = .ok (.aload_n 0, 1) := dk_42 (dk_at dksX1_init_0 0 rfl rfl)
theorem dX1_init_1 : decode cX1_init 1 = .ok (.invokespecial 3, 3) := dk_183 0 3 (dk_at dksX1_init_0 1 rfl rfl)
theorem dX1_init_4 : decode cX1_init 4 = .ok (.aload_n 0, 1) := dk_42 (dk_at dksX1_init_0 4 rfl rfl)
theorem dX1_init_5 : decode cX1_init 5 = .ok (.iconst 3, 1) := dk_6 (dk_at dksX1_init_0 5 rfl rfl)
theorem dX1_init_6 : decode cX1_init 6 = .ok (.newarray .int, 2) := dk_188_10 (dk_at dksX1_init_0 6 rfl rfl)
theorem dX1_init_8 : decode cX1_init 8 = .ok (.putfield 9, 3) := dk_181 0 9 (dk_at dksX1_init_0 8 rfl rfl)
theorem dX1_init_11 : decode cX1_init 11 = .ok (.aload_n 0, 1) := dk_42 (dk_at dksX1_init_0 11 rfl rfl)
theorem dX1_init_12 : decode cX1_init 12 = .ok (.iconst 3, 1) := dk_6 (dk_at dksX1_init_0 12 rfl rfl)
theorem dX1_init_13 : decode cX1_init 13 = .ok (.newarray .int, 2) := dk_188_10 (dk_at dksX1_init_0 13 rfl rfl)
theorem dX1_init_15 : decode cX1_init 15 = .ok (.putfield 15, 3) := dk_181 0 15 (dk_at dksX1_init_0 15 rfl rfl)
theorem dX1_init_18 : decode cX1_init 18 = .ok (.return_, 1) := dk_177 (dk_at dksX1_init_0 18 rfl rfl)
abbrev cX1_items : ByteArray := prog_4_method_4_code
def yX1_items : MethodName := ⟨RX1, "items", "()I"⟩
def dkwX1_items_3 : List UInt8 := [167, 0, 5, 31, 136, 172]
abbrev dktX1_items_3 : List UInt8 := dkwX1_items_3 ++ []
def dkwX1_items_2 : List UInt8 := [182, 0, 34, 184, 0, 40, 105, 184, 0, 40, 64, 132, 4, 1, 167, 255, 202, 29, 153, 0, 7, 3]
abbrev dktX1_items_2 : List UInt8 := dkwX1_items_2 ++ dktX1_items_3
def dkwX1_items_1 : List UInt8 := [182, 0, 34, 9, 148, 154, 0, 7, 4, 167, 0, 4, 3, 62, 20, 0, 38, 31, 20, 0, 38, 42, 21, 4]
abbrev dktX1_items_1 : List UInt8 := dkwX1_items_1 ++ dktX1_items_2
def dkwX1_items_0 : List UInt8 := [10, 64, 3, 62, 3, 54, 4, 21, 4, 42, 180, 0, 18, 162, 0, 51, 29, 154, 0, 14, 42, 21, 4]
abbrev dktX1_items_0 : List UInt8 := dkwX1_items_0 ++ dktX1_items_1
theorem dksX1_items_0 : cX1_items.data.toList.drop 0 = dktX1_items_0 := by decide +kernel
theorem dksX1_items_1 : cX1_items.data.toList.drop 23 = dktX1_items_1 := dk_seg dksX1_items_0 23 rfl rfl
theorem dksX1_items_2 : cX1_items.data.toList.drop 47 = dktX1_items_2 := dk_seg dksX1_items_1 24 rfl rfl
theorem dksX1_items_3 : cX1_items.data.toList.drop 69 = dktX1_items_3 := dk_seg dksX1_items_2 22 rfl rfl
theorem dX1_items_0 : decode cX1_items 0 = .ok (.lconst 1, 1) := dk_10 (dk_at dksX1_items_0 0 rfl rfl)
theorem dX1_items_1 : decode cX1_items 1 = .ok (.lstore_n 1, 1) := dk_64 (dk_at dksX1_items_0 1 rfl rfl)
theorem dX1_items_2 : decode cX1_items 2 = .ok (.iconst 0, 1) := dk_3 (dk_at dksX1_items_0 2 rfl rfl)
theorem dX1_items_3 : decode cX1_items 3 = .ok (.istore_n 3, 1) := dk_62 (dk_at dksX1_items_0 3 rfl rfl)
theorem dX1_items_4 : decode cX1_items 4 = .ok (.iconst 0, 1) := dk_3 (dk_at dksX1_items_0 4 rfl rfl)
theorem dX1_items_5 : decode cX1_items 5 = .ok (.istore 4, 2) := dk_54 4 (dk_at dksX1_items_0 5 rfl rfl)
theorem dX1_items_7 : decode cX1_items 7 = .ok (.iload 4, 2) := dk_21 4 (dk_at dksX1_items_0 7 rfl rfl)
theorem dX1_items_9 : decode cX1_items 9 = .ok (.aload_n 0, 1) := dk_42 (dk_at dksX1_items_0 9 rfl rfl)
theorem dX1_items_10 : decode cX1_items 10 = .ok (.getfield 18, 3) := dk_180 0 18 (dk_at dksX1_items_0 10 rfl rfl)
theorem dX1_items_13 : decode cX1_items 13 = .ok (.if_icmp .ge 51, 3) := dk_162 0 51 (dk_at dksX1_items_0 13 rfl rfl)
theorem dX1_items_16 : decode cX1_items 16 = .ok (.iload_n 3, 1) := dk_29 (dk_at dksX1_items_0 16 rfl rfl)
theorem dX1_items_17 : decode cX1_items 17 = .ok (.ifCond .ne 14, 3) := dk_154 0 14 (dk_at dksX1_items_0 17 rfl rfl)
theorem dX1_items_20 : decode cX1_items 20 = .ok (.aload_n 0, 1) := dk_42 (dk_at dksX1_items_0 20 rfl rfl)
theorem dX1_items_21 : decode cX1_items 21 = .ok (.iload 4, 2) := dk_21 4 (dk_at dksX1_items_0 21 rfl rfl)
theorem dX1_items_23 : decode cX1_items 23 = .ok (.invokevirtual 34, 3) := dk_182 0 34 (dk_at dksX1_items_1 0 rfl rfl)
theorem dX1_items_26 : decode cX1_items 26 = .ok (.lconst 0, 1) := dk_9 (dk_at dksX1_items_1 3 rfl rfl)
theorem dX1_items_27 : decode cX1_items 27 = .ok (.lcmp, 1) := dk_148 (dk_at dksX1_items_1 4 rfl rfl)
theorem dX1_items_28 : decode cX1_items 28 = .ok (.ifCond .ne 7, 3) := dk_154 0 7 (dk_at dksX1_items_1 5 rfl rfl)
theorem dX1_items_31 : decode cX1_items 31 = .ok (.iconst 1, 1) := dk_4 (dk_at dksX1_items_1 8 rfl rfl)
theorem dX1_items_32 : decode cX1_items 32 = .ok (.goto 4, 3) := dk_167 0 4 (dk_at dksX1_items_1 9 rfl rfl)
theorem dX1_items_35 : decode cX1_items 35 = .ok (.iconst 0, 1) := dk_3 (dk_at dksX1_items_1 12 rfl rfl)
theorem dX1_items_36 : decode cX1_items 36 = .ok (.istore_n 3, 1) := dk_62 (dk_at dksX1_items_1 13 rfl rfl)
theorem dX1_items_37 : decode cX1_items 37 = .ok (.ldc2_w 38, 3) := dk_20 0 38 (dk_at dksX1_items_1 14 rfl rfl)
theorem dX1_items_40 : decode cX1_items 40 = .ok (.lload_n 1, 1) := dk_31 (dk_at dksX1_items_1 17 rfl rfl)
theorem dX1_items_41 : decode cX1_items 41 = .ok (.ldc2_w 38, 3) := dk_20 0 38 (dk_at dksX1_items_1 18 rfl rfl)
theorem dX1_items_44 : decode cX1_items 44 = .ok (.aload_n 0, 1) := dk_42 (dk_at dksX1_items_1 21 rfl rfl)
theorem dX1_items_45 : decode cX1_items 45 = .ok (.iload 4, 2) := dk_21 4 (dk_at dksX1_items_1 22 rfl rfl)
theorem dX1_items_47 : decode cX1_items 47 = .ok (.invokevirtual 34, 3) := dk_182 0 34 (dk_at dksX1_items_2 0 rfl rfl)
theorem dX1_items_50 : decode cX1_items 50 = .ok (.invokestatic 40, 3) := dk_184 0 40 (dk_at dksX1_items_2 3 rfl rfl)
theorem dX1_items_53 : decode cX1_items 53 = .ok (.lmul, 1) := dk_105 (dk_at dksX1_items_2 6 rfl rfl)
theorem dX1_items_54 : decode cX1_items 54 = .ok (.invokestatic 40, 3) := dk_184 0 40 (dk_at dksX1_items_2 7 rfl rfl)
theorem dX1_items_57 : decode cX1_items 57 = .ok (.lstore_n 1, 1) := dk_64 (dk_at dksX1_items_2 10 rfl rfl)
theorem dX1_items_58 : decode cX1_items 58 = .ok (.iinc 4 1, 3) := dk_132 4 1 (dk_at dksX1_items_2 11 rfl rfl)
theorem dX1_items_61 : decode cX1_items 61 = .ok (.goto (-54), 3) := dk_167 255 202 (dk_at dksX1_items_2 14 rfl rfl)
theorem dX1_items_64 : decode cX1_items 64 = .ok (.iload_n 3, 1) := dk_29 (dk_at dksX1_items_2 17 rfl rfl)
theorem dX1_items_65 : decode cX1_items 65 = .ok (.ifCond .eq 7, 3) := dk_153 0 7 (dk_at dksX1_items_2 18 rfl rfl)
theorem dX1_items_68 : decode cX1_items 68 = .ok (.iconst 0, 1) := dk_3 (dk_at dksX1_items_2 21 rfl rfl)
theorem dX1_items_69 : decode cX1_items 69 = .ok (.goto 5, 3) := dk_167 0 5 (dk_at dksX1_items_3 0 rfl rfl)
theorem dX1_items_72 : decode cX1_items 72 = .ok (.lload_n 1, 1) := dk_31 (dk_at dksX1_items_3 3 rfl rfl)
theorem dX1_items_73 : decode cX1_items 73 = .ok (.l2i, 1) := dk_136 (dk_at dksX1_items_3 4 rfl rfl)
theorem dX1_items_74 : decode cX1_items 74 = .ok (.ireturn, 1) := dk_172 (dk_at dksX1_items_3 5 rfl rfl)
abbrev cX1_length : ByteArray := prog_4_method_3_code
def yX1_length : MethodName := ⟨RX1, "length", "(I)J"⟩
def dkwX1_length_0 : List UInt8 := [9, 42, 180, 0, 15, 27, 46, 133, 42, 180, 0, 9, 27, 46, 133, 101, 10, 97, 184, 0, 28, 173]
abbrev dktX1_length_0 : List UInt8 := dkwX1_length_0 ++ []
theorem dksX1_length_0 : cX1_length.data.toList.drop 0 = dktX1_length_0 := by decide +kernel
theorem dX1_length_0 : decode cX1_length 0 = .ok (.lconst 0, 1) := dk_9 (dk_at dksX1_length_0 0 rfl rfl)
theorem dX1_length_1 : decode cX1_length 1 = .ok (.aload_n 0, 1) := dk_42 (dk_at dksX1_length_0 1 rfl rfl)
theorem dX1_length_2 : decode cX1_length 2 = .ok (.getfield 15, 3) := dk_180 0 15 (dk_at dksX1_length_0 2 rfl rfl)
theorem dX1_length_5 : decode cX1_length 5 = .ok (.iload_n 1, 1) := dk_27 (dk_at dksX1_length_0 5 rfl rfl)
theorem dX1_length_6 : decode cX1_length 6 = .ok (.iaload, 1) := dk_46 (dk_at dksX1_length_0 6 rfl rfl)
theorem dX1_length_7 : decode cX1_length 7 = .ok (.i2l, 1) := dk_133 (dk_at dksX1_length_0 7 rfl rfl)
theorem dX1_length_8 : decode cX1_length 8 = .ok (.aload_n 0, 1) := dk_42 (dk_at dksX1_length_0 8 rfl rfl)
theorem dX1_length_9 : decode cX1_length 9 = .ok (.getfield 9, 3) := dk_180 0 9 (dk_at dksX1_length_0 9 rfl rfl)
theorem dX1_length_12 : decode cX1_length 12 = .ok (.iload_n 1, 1) := dk_27 (dk_at dksX1_length_0 12 rfl rfl)
theorem dX1_length_13 : decode cX1_length 13 = .ok (.iaload, 1) := dk_46 (dk_at dksX1_length_0 13 rfl rfl)
theorem dX1_length_14 : decode cX1_length 14 = .ok (.i2l, 1) := dk_133 (dk_at dksX1_length_0 14 rfl rfl)
theorem dX1_length_15 : decode cX1_length 15 = .ok (.lsub, 1) := dk_101 (dk_at dksX1_length_0 15 rfl rfl)
theorem dX1_length_16 : decode cX1_length 16 = .ok (.lconst 1, 1) := dk_10 (dk_at dksX1_length_0 16 rfl rfl)
theorem dX1_length_17 : decode cX1_length 17 = .ok (.ladd, 1) := dk_97 (dk_at dksX1_length_0 17 rfl rfl)
theorem dX1_length_18 : decode cX1_length 18 = .ok (.invokestatic 28, 3) := dk_184 0 28 (dk_at dksX1_length_0 18 rfl rfl)
theorem dX1_length_21 : decode cX1_length 21 = .ok (.lreturn, 1) := dk_173 (dk_at dksX1_length_0 21 rfl rfl)
abbrev cX1_set : ByteArray := prog_4_method_2_code
def yX1_set : MethodName := ⟨RX1, "set", "(LArrayMaker$Shape;)V"⟩
def dkwX1_set_1 : List UInt8 := [180, 0, 15, 3, 42, 180, 0, 15, 3, 6, 184, 0, 22, 177]
abbrev dktX1_set_1 : List UInt8 := dkwX1_set_1 ++ []
def dkwX1_set_0 : List UInt8 := [42, 43, 180, 0, 18, 181, 0, 18, 43, 180, 0, 9, 3, 42, 180, 0, 9, 3, 6, 184, 0, 22, 43]
abbrev dktX1_set_0 : List UInt8 := dkwX1_set_0 ++ dktX1_set_1
theorem dksX1_set_0 : cX1_set.data.toList.drop 0 = dktX1_set_0 := by decide +kernel
theorem dksX1_set_1 : cX1_set.data.toList.drop 23 = dktX1_set_1 := dk_seg dksX1_set_0 23 rfl rfl
theorem dX1_set_0 : decode cX1_set 0 = .ok (.aload_n 0, 1) := dk_42 (dk_at dksX1_set_0 0 rfl rfl)
theorem dX1_set_1 : decode cX1_set 1 = .ok (.aload_n 1, 1) := dk_43 (dk_at dksX1_set_0 1 rfl rfl)
theorem dX1_set_2 : decode cX1_set 2 = .ok (.getfield 18, 3) := dk_180 0 18 (dk_at dksX1_set_0 2 rfl rfl)
theorem dX1_set_5 : decode cX1_set 5 = .ok (.putfield 18, 3) := dk_181 0 18 (dk_at dksX1_set_0 5 rfl rfl)
theorem dX1_set_8 : decode cX1_set 8 = .ok (.aload_n 1, 1) := dk_43 (dk_at dksX1_set_0 8 rfl rfl)
theorem dX1_set_9 : decode cX1_set 9 = .ok (.getfield 9, 3) := dk_180 0 9 (dk_at dksX1_set_0 9 rfl rfl)
theorem dX1_set_12 : decode cX1_set 12 = .ok (.iconst 0, 1) := dk_3 (dk_at dksX1_set_0 12 rfl rfl)
theorem dX1_set_13 : decode cX1_set 13 = .ok (.aload_n 0, 1) := dk_42 (dk_at dksX1_set_0 13 rfl rfl)
theorem dX1_set_14 : decode cX1_set 14 = .ok (.getfield 9, 3) := dk_180 0 9 (dk_at dksX1_set_0 14 rfl rfl)
theorem dX1_set_17 : decode cX1_set 17 = .ok (.iconst 0, 1) := dk_3 (dk_at dksX1_set_0 17 rfl rfl)
theorem dX1_set_18 : decode cX1_set 18 = .ok (.iconst 3, 1) := dk_6 (dk_at dksX1_set_0 18 rfl rfl)
theorem dX1_set_19 : decode cX1_set 19 = .ok (.invokestatic 22, 3) := dk_184 0 22 (dk_at dksX1_set_0 19 rfl rfl)
theorem dX1_set_22 : decode cX1_set 22 = .ok (.aload_n 1, 1) := dk_43 (dk_at dksX1_set_0 22 rfl rfl)
theorem dX1_set_23 : decode cX1_set 23 = .ok (.getfield 15, 3) := dk_180 0 15 (dk_at dksX1_set_1 0 rfl rfl)
theorem dX1_set_26 : decode cX1_set 26 = .ok (.iconst 0, 1) := dk_3 (dk_at dksX1_set_1 3 rfl rfl)
theorem dX1_set_27 : decode cX1_set 27 = .ok (.aload_n 0, 1) := dk_42 (dk_at dksX1_set_1 4 rfl rfl)
theorem dX1_set_28 : decode cX1_set 28 = .ok (.getfield 15, 3) := dk_180 0 15 (dk_at dksX1_set_1 5 rfl rfl)
theorem dX1_set_31 : decode cX1_set 31 = .ok (.iconst 0, 1) := dk_3 (dk_at dksX1_set_1 8 rfl rfl)
theorem dX1_set_32 : decode cX1_set 32 = .ok (.iconst 3, 1) := dk_6 (dk_at dksX1_set_1 9 rfl rfl)
theorem dX1_set_33 : decode cX1_set 33 = .ok (.invokestatic 22, 3) := dk_184 0 22 (dk_at dksX1_set_1 10 rfl rfl)
theorem dX1_set_36 : decode cX1_set 36 = .ok (.return_, 1) := dk_177 (dk_at dksX1_set_1 13 rfl rfl)
abbrev cX1_first : ByteArray := prog_4_method_8_code
def yX1_first : MethodName := ⟨RX1, "first", "([I)V"⟩
def dkwX1_first_0 : List UInt8 := [42, 180, 0, 9, 3, 43, 3, 6, 184, 0, 22, 177]
abbrev dktX1_first_0 : List UInt8 := dkwX1_first_0 ++ []
theorem dksX1_first_0 : cX1_first.data.toList.drop 0 = dktX1_first_0 := by decide +kernel
theorem dX1_first_0 : decode cX1_first 0 = .ok (.aload_n 0, 1) := dk_42 (dk_at dksX1_first_0 0 rfl rfl)
theorem dX1_first_1 : decode cX1_first 1 = .ok (.getfield 9, 3) := dk_180 0 9 (dk_at dksX1_first_0 1 rfl rfl)
theorem dX1_first_4 : decode cX1_first 4 = .ok (.iconst 0, 1) := dk_3 (dk_at dksX1_first_0 4 rfl rfl)
theorem dX1_first_5 : decode cX1_first 5 = .ok (.aload_n 1, 1) := dk_43 (dk_at dksX1_first_0 5 rfl rfl)
theorem dX1_first_6 : decode cX1_first 6 = .ok (.iconst 0, 1) := dk_3 (dk_at dksX1_first_0 6 rfl rfl)
theorem dX1_first_7 : decode cX1_first 7 = .ok (.iconst 3, 1) := dk_6 (dk_at dksX1_first_0 7 rfl rfl)
theorem dX1_first_8 : decode cX1_first 8 = .ok (.invokestatic 22, 3) := dk_184 0 22 (dk_at dksX1_first_0 8 rfl rfl)
theorem dX1_first_11 : decode cX1_first 11 = .ok (.return_, 1) := dk_177 (dk_at dksX1_first_0 11 rfl rfl)
abbrev cX1_place : ByteArray := prog_4_method_7_code
def yX1_place : MethodName := ⟨RX1, "place", "([I)I"⟩
def dkwX1_place_1 : List UInt8 := [21, 4, 46, 133, 97, 42, 180, 0, 9, 21, 4, 46, 133, 101, 65, 132, 4, 1, 167, 255, 220, 32, 136, 172]
abbrev dktX1_place_1 : List UInt8 := dkwX1_place_1 ++ []
def dkwX1_place_0 : List UInt8 := [9, 65, 3, 54, 4, 21, 4, 42, 180, 0, 18, 162, 0, 33, 32, 42, 21, 4, 182, 0, 34, 105, 43]
abbrev dktX1_place_0 : List UInt8 := dkwX1_place_0 ++ dktX1_place_1
theorem dksX1_place_0 : cX1_place.data.toList.drop 0 = dktX1_place_0 := by decide +kernel
theorem dksX1_place_1 : cX1_place.data.toList.drop 23 = dktX1_place_1 := dk_seg dksX1_place_0 23 rfl rfl
theorem dX1_place_0 : decode cX1_place 0 = .ok (.lconst 0, 1) := dk_9 (dk_at dksX1_place_0 0 rfl rfl)
theorem dX1_place_1 : decode cX1_place 1 = .ok (.lstore_n 2, 1) := dk_65 (dk_at dksX1_place_0 1 rfl rfl)
theorem dX1_place_2 : decode cX1_place 2 = .ok (.iconst 0, 1) := dk_3 (dk_at dksX1_place_0 2 rfl rfl)
theorem dX1_place_3 : decode cX1_place 3 = .ok (.istore 4, 2) := dk_54 4 (dk_at dksX1_place_0 3 rfl rfl)
theorem dX1_place_5 : decode cX1_place 5 = .ok (.iload 4, 2) := dk_21 4 (dk_at dksX1_place_0 5 rfl rfl)
theorem dX1_place_7 : decode cX1_place 7 = .ok (.aload_n 0, 1) := dk_42 (dk_at dksX1_place_0 7 rfl rfl)
theorem dX1_place_8 : decode cX1_place 8 = .ok (.getfield 18, 3) := dk_180 0 18 (dk_at dksX1_place_0 8 rfl rfl)
theorem dX1_place_11 : decode cX1_place 11 = .ok (.if_icmp .ge 33, 3) := dk_162 0 33 (dk_at dksX1_place_0 11 rfl rfl)
theorem dX1_place_14 : decode cX1_place 14 = .ok (.lload_n 2, 1) := dk_32 (dk_at dksX1_place_0 14 rfl rfl)
theorem dX1_place_15 : decode cX1_place 15 = .ok (.aload_n 0, 1) := dk_42 (dk_at dksX1_place_0 15 rfl rfl)
theorem dX1_place_16 : decode cX1_place 16 = .ok (.iload 4, 2) := dk_21 4 (dk_at dksX1_place_0 16 rfl rfl)
theorem dX1_place_18 : decode cX1_place 18 = .ok (.invokevirtual 34, 3) := dk_182 0 34 (dk_at dksX1_place_0 18 rfl rfl)
theorem dX1_place_21 : decode cX1_place 21 = .ok (.lmul, 1) := dk_105 (dk_at dksX1_place_0 21 rfl rfl)
theorem dX1_place_22 : decode cX1_place 22 = .ok (.aload_n 1, 1) := dk_43 (dk_at dksX1_place_0 22 rfl rfl)
theorem dX1_place_23 : decode cX1_place 23 = .ok (.iload 4, 2) := dk_21 4 (dk_at dksX1_place_1 0 rfl rfl)
theorem dX1_place_25 : decode cX1_place 25 = .ok (.iaload, 1) := dk_46 (dk_at dksX1_place_1 2 rfl rfl)
theorem dX1_place_26 : decode cX1_place 26 = .ok (.i2l, 1) := dk_133 (dk_at dksX1_place_1 3 rfl rfl)
theorem dX1_place_27 : decode cX1_place 27 = .ok (.ladd, 1) := dk_97 (dk_at dksX1_place_1 4 rfl rfl)
theorem dX1_place_28 : decode cX1_place 28 = .ok (.aload_n 0, 1) := dk_42 (dk_at dksX1_place_1 5 rfl rfl)
theorem dX1_place_29 : decode cX1_place 29 = .ok (.getfield 9, 3) := dk_180 0 9 (dk_at dksX1_place_1 6 rfl rfl)
theorem dX1_place_32 : decode cX1_place 32 = .ok (.iload 4, 2) := dk_21 4 (dk_at dksX1_place_1 9 rfl rfl)
theorem dX1_place_34 : decode cX1_place 34 = .ok (.iaload, 1) := dk_46 (dk_at dksX1_place_1 11 rfl rfl)
theorem dX1_place_35 : decode cX1_place 35 = .ok (.i2l, 1) := dk_133 (dk_at dksX1_place_1 12 rfl rfl)
theorem dX1_place_36 : decode cX1_place 36 = .ok (.lsub, 1) := dk_101 (dk_at dksX1_place_1 13 rfl rfl)
theorem dX1_place_37 : decode cX1_place 37 = .ok (.lstore_n 2, 1) := dk_65 (dk_at dksX1_place_1 14 rfl rfl)
theorem dX1_place_38 : decode cX1_place 38 = .ok (.iinc 4 1, 3) := dk_132 4 1 (dk_at dksX1_place_1 15 rfl rfl)
theorem dX1_place_41 : decode cX1_place 41 = .ok (.goto (-36), 3) := dk_167 255 220 (dk_at dksX1_place_1 18 rfl rfl)
theorem dX1_place_44 : decode cX1_place 44 = .ok (.lload_n 2, 1) := dk_32 (dk_at dksX1_place_1 21 rfl rfl)
theorem dX1_place_45 : decode cX1_place 45 = .ok (.l2i, 1) := dk_136 (dk_at dksX1_place_1 22 rfl rfl)
theorem dX1_place_46 : decode cX1_place 46 = .ok (.ireturn, 1) := dk_172 (dk_at dksX1_place_1 23 rfl rfl)
abbrev cX1_next : ByteArray := prog_4_method_9_code
def yX1_next : MethodName := ⟨RX1, "next", "([I)V"⟩
def dkwX1_next_1 : List UInt8 := [28, 42, 180, 0, 9, 28, 46, 79, 132, 2, 255, 167, 255, 228, 43, 28, 92, 46, 4, 96, 79, 177]
abbrev dktX1_next_1 : List UInt8 := dkwX1_next_1 ++ []
def dkwX1_next_0 : List UInt8 := [42, 180, 0, 18, 4, 100, 61, 28, 158, 0, 30, 43, 28, 46, 42, 180, 0, 15, 28, 46, 160, 0, 18, 43]
abbrev dktX1_next_0 : List UInt8 := dkwX1_next_0 ++ dktX1_next_1
theorem dksX1_next_0 : cX1_next.data.toList.drop 0 = dktX1_next_0 := by decide +kernel
theorem dksX1_next_1 : cX1_next.data.toList.drop 24 = dktX1_next_1 := dk_seg dksX1_next_0 24 rfl rfl
theorem dX1_next_0 : decode cX1_next 0 = .ok (.aload_n 0, 1) := dk_42 (dk_at dksX1_next_0 0 rfl rfl)
theorem dX1_next_1 : decode cX1_next 1 = .ok (.getfield 18, 3) := dk_180 0 18 (dk_at dksX1_next_0 1 rfl rfl)
theorem dX1_next_4 : decode cX1_next 4 = .ok (.iconst 1, 1) := dk_4 (dk_at dksX1_next_0 4 rfl rfl)
theorem dX1_next_5 : decode cX1_next 5 = .ok (.isub, 1) := dk_100 (dk_at dksX1_next_0 5 rfl rfl)
theorem dX1_next_6 : decode cX1_next 6 = .ok (.istore_n 2, 1) := dk_61 (dk_at dksX1_next_0 6 rfl rfl)
theorem dX1_next_7 : decode cX1_next 7 = .ok (.iload_n 2, 1) := dk_28 (dk_at dksX1_next_0 7 rfl rfl)
theorem dX1_next_8 : decode cX1_next 8 = .ok (.ifCond .le 30, 3) := dk_158 0 30 (dk_at dksX1_next_0 8 rfl rfl)
theorem dX1_next_11 : decode cX1_next 11 = .ok (.aload_n 1, 1) := dk_43 (dk_at dksX1_next_0 11 rfl rfl)
theorem dX1_next_12 : decode cX1_next 12 = .ok (.iload_n 2, 1) := dk_28 (dk_at dksX1_next_0 12 rfl rfl)
theorem dX1_next_13 : decode cX1_next 13 = .ok (.iaload, 1) := dk_46 (dk_at dksX1_next_0 13 rfl rfl)
theorem dX1_next_14 : decode cX1_next 14 = .ok (.aload_n 0, 1) := dk_42 (dk_at dksX1_next_0 14 rfl rfl)
theorem dX1_next_15 : decode cX1_next 15 = .ok (.getfield 15, 3) := dk_180 0 15 (dk_at dksX1_next_0 15 rfl rfl)
theorem dX1_next_18 : decode cX1_next 18 = .ok (.iload_n 2, 1) := dk_28 (dk_at dksX1_next_0 18 rfl rfl)
theorem dX1_next_19 : decode cX1_next 19 = .ok (.iaload, 1) := dk_46 (dk_at dksX1_next_0 19 rfl rfl)
theorem dX1_next_20 : decode cX1_next 20 = .ok (.if_icmp .ne 18, 3) := dk_160 0 18 (dk_at dksX1_next_0 20 rfl rfl)
theorem dX1_next_23 : decode cX1_next 23 = .ok (.aload_n 1, 1) := dk_43 (dk_at dksX1_next_0 23 rfl rfl)
theorem dX1_next_24 : decode cX1_next 24 = .ok (.iload_n 2, 1) := dk_28 (dk_at dksX1_next_1 0 rfl rfl)
theorem dX1_next_25 : decode cX1_next 25 = .ok (.aload_n 0, 1) := dk_42 (dk_at dksX1_next_1 1 rfl rfl)
theorem dX1_next_26 : decode cX1_next 26 = .ok (.getfield 9, 3) := dk_180 0 9 (dk_at dksX1_next_1 2 rfl rfl)
theorem dX1_next_29 : decode cX1_next 29 = .ok (.iload_n 2, 1) := dk_28 (dk_at dksX1_next_1 5 rfl rfl)
theorem dX1_next_30 : decode cX1_next 30 = .ok (.iaload, 1) := dk_46 (dk_at dksX1_next_1 6 rfl rfl)
theorem dX1_next_31 : decode cX1_next 31 = .ok (.iastore, 1) := dk_79 (dk_at dksX1_next_1 7 rfl rfl)
theorem dX1_next_32 : decode cX1_next 32 = .ok (.iinc 2 (-1), 3) := dk_132 2 255 (dk_at dksX1_next_1 8 rfl rfl)
theorem dX1_next_35 : decode cX1_next 35 = .ok (.goto (-28), 3) := dk_167 255 228 (dk_at dksX1_next_1 11 rfl rfl)
theorem dX1_next_38 : decode cX1_next 38 = .ok (.aload_n 1, 1) := dk_43 (dk_at dksX1_next_1 14 rfl rfl)
theorem dX1_next_39 : decode cX1_next 39 = .ok (.iload_n 2, 1) := dk_28 (dk_at dksX1_next_1 15 rfl rfl)
theorem dX1_next_40 : decode cX1_next 40 = .ok (.dup2, 1) := dk_92 (dk_at dksX1_next_1 16 rfl rfl)
theorem dX1_next_41 : decode cX1_next 41 = .ok (.iaload, 1) := dk_46 (dk_at dksX1_next_1 17 rfl rfl)
theorem dX1_next_42 : decode cX1_next 42 = .ok (.iconst 1, 1) := dk_4 (dk_at dksX1_next_1 18 rfl rfl)
theorem dX1_next_43 : decode cX1_next 43 = .ok (.iadd, 1) := dk_96 (dk_at dksX1_next_1 19 rfl rfl)
theorem dX1_next_44 : decode cX1_next 44 = .ok (.iastore, 1) := dk_79 (dk_at dksX1_next_1 20 rfl rfl)
theorem dX1_next_45 : decode cX1_next 45 = .ok (.return_, 1) := dk_177 (dk_at dksX1_next_1 21 rfl rfl)
abbrev cX1_beyond : ByteArray := prog_4_method_6_code
def yX1_beyond : MethodName := ⟨RX1, "beyond", "([I)I"⟩
def dkwX1_beyond_1 : List UInt8 := [167, 255, 234, 28, 42, 180, 0, 18, 162, 0, 7, 28, 167, 0, 4, 2, 172]
abbrev dktX1_beyond_1 : List UInt8 := dkwX1_beyond_1 ++ []
def dkwX1_beyond_0 : List UInt8 := [3, 61, 28, 42, 180, 0, 18, 162, 0, 20, 42, 28, 43, 28, 46, 182, 0, 43, 153, 0, 9, 132, 2, 1]
abbrev dktX1_beyond_0 : List UInt8 := dkwX1_beyond_0 ++ dktX1_beyond_1
theorem dksX1_beyond_0 : cX1_beyond.data.toList.drop 0 = dktX1_beyond_0 := by decide +kernel
theorem dksX1_beyond_1 : cX1_beyond.data.toList.drop 24 = dktX1_beyond_1 := dk_seg dksX1_beyond_0 24 rfl rfl
theorem dX1_beyond_0 : decode cX1_beyond 0 = .ok (.iconst 0, 1) := dk_3 (dk_at dksX1_beyond_0 0 rfl rfl)
theorem dX1_beyond_1 : decode cX1_beyond 1 = .ok (.istore_n 2, 1) := dk_61 (dk_at dksX1_beyond_0 1 rfl rfl)
theorem dX1_beyond_2 : decode cX1_beyond 2 = .ok (.iload_n 2, 1) := dk_28 (dk_at dksX1_beyond_0 2 rfl rfl)
theorem dX1_beyond_3 : decode cX1_beyond 3 = .ok (.aload_n 0, 1) := dk_42 (dk_at dksX1_beyond_0 3 rfl rfl)
theorem dX1_beyond_4 : decode cX1_beyond 4 = .ok (.getfield 18, 3) := dk_180 0 18 (dk_at dksX1_beyond_0 4 rfl rfl)
theorem dX1_beyond_7 : decode cX1_beyond 7 = .ok (.if_icmp .ge 20, 3) := dk_162 0 20 (dk_at dksX1_beyond_0 7 rfl rfl)
theorem dX1_beyond_10 : decode cX1_beyond 10 = .ok (.aload_n 0, 1) := dk_42 (dk_at dksX1_beyond_0 10 rfl rfl)
theorem dX1_beyond_11 : decode cX1_beyond 11 = .ok (.iload_n 2, 1) := dk_28 (dk_at dksX1_beyond_0 11 rfl rfl)
theorem dX1_beyond_12 : decode cX1_beyond 12 = .ok (.aload_n 1, 1) := dk_43 (dk_at dksX1_beyond_0 12 rfl rfl)
theorem dX1_beyond_13 : decode cX1_beyond 13 = .ok (.iload_n 2, 1) := dk_28 (dk_at dksX1_beyond_0 13 rfl rfl)
theorem dX1_beyond_14 : decode cX1_beyond 14 = .ok (.iaload, 1) := dk_46 (dk_at dksX1_beyond_0 14 rfl rfl)
theorem dX1_beyond_15 : decode cX1_beyond 15 = .ok (.invokevirtual 43, 3) := dk_182 0 43 (dk_at dksX1_beyond_0 15 rfl rfl)
theorem dX1_beyond_18 : decode cX1_beyond 18 = .ok (.ifCond .eq 9, 3) := dk_153 0 9 (dk_at dksX1_beyond_0 18 rfl rfl)
theorem dX1_beyond_21 : decode cX1_beyond 21 = .ok (.iinc 2 1, 3) := dk_132 2 1 (dk_at dksX1_beyond_0 21 rfl rfl)
theorem dX1_beyond_24 : decode cX1_beyond 24 = .ok (.goto (-22), 3) := dk_167 255 234 (dk_at dksX1_beyond_1 0 rfl rfl)
theorem dX1_beyond_27 : decode cX1_beyond 27 = .ok (.iload_n 2, 1) := dk_28 (dk_at dksX1_beyond_1 3 rfl rfl)
theorem dX1_beyond_28 : decode cX1_beyond 28 = .ok (.aload_n 0, 1) := dk_42 (dk_at dksX1_beyond_1 4 rfl rfl)
theorem dX1_beyond_29 : decode cX1_beyond 29 = .ok (.getfield 18, 3) := dk_180 0 18 (dk_at dksX1_beyond_1 5 rfl rfl)
theorem dX1_beyond_32 : decode cX1_beyond 32 = .ok (.if_icmp .ge 7, 3) := dk_162 0 7 (dk_at dksX1_beyond_1 8 rfl rfl)
theorem dX1_beyond_35 : decode cX1_beyond 35 = .ok (.iload_n 2, 1) := dk_28 (dk_at dksX1_beyond_1 11 rfl rfl)
theorem dX1_beyond_36 : decode cX1_beyond 36 = .ok (.goto 4, 3) := dk_167 0 4 (dk_at dksX1_beyond_1 12 rfl rfl)
theorem dX1_beyond_39 : decode cX1_beyond 39 = .ok (.iconst (-1), 1) := dk_2 (dk_at dksX1_beyond_1 15 rfl rfl)
theorem dX1_beyond_40 : decode cX1_beyond 40 = .ok (.ireturn, 1) := dk_172 (dk_at dksX1_beyond_1 16 rfl rfl)
abbrev cX1_has : ByteArray := prog_4_method_5_code
def yX1_has : MethodName := ⟨RX1, "has", "(II)Z"⟩
def dkwX1_has_1 : List UInt8 := [3, 172]
abbrev dktX1_has_1 : List UInt8 := dkwX1_has_1 ++ []
def dkwX1_has_0 : List UInt8 := [28, 42, 180, 0, 9, 27, 46, 161, 0, 17, 28, 42, 180, 0, 15, 27, 46, 163, 0, 7, 4, 167, 0, 4]
abbrev dktX1_has_0 : List UInt8 := dkwX1_has_0 ++ dktX1_has_1
theorem dksX1_has_0 : cX1_has.data.toList.drop 0 = dktX1_has_0 := by decide +kernel
theorem dksX1_has_1 : cX1_has.data.toList.drop 24 = dktX1_has_1 := dk_seg dksX1_has_0 24 rfl rfl
theorem dX1_has_0 : decode cX1_has 0 = .ok (.iload_n 2, 1) := dk_28 (dk_at dksX1_has_0 0 rfl rfl)
theorem dX1_has_1 : decode cX1_has 1 = .ok (.aload_n 0, 1) := dk_42 (dk_at dksX1_has_0 1 rfl rfl)
theorem dX1_has_2 : decode cX1_has 2 = .ok (.getfield 9, 3) := dk_180 0 9 (dk_at dksX1_has_0 2 rfl rfl)
theorem dX1_has_5 : decode cX1_has 5 = .ok (.iload_n 1, 1) := dk_27 (dk_at dksX1_has_0 5 rfl rfl)
theorem dX1_has_6 : decode cX1_has 6 = .ok (.iaload, 1) := dk_46 (dk_at dksX1_has_0 6 rfl rfl)
theorem dX1_has_7 : decode cX1_has 7 = .ok (.if_icmp .lt 17, 3) := dk_161 0 17 (dk_at dksX1_has_0 7 rfl rfl)
theorem dX1_has_10 : decode cX1_has 10 = .ok (.iload_n 2, 1) := dk_28 (dk_at dksX1_has_0 10 rfl rfl)
theorem dX1_has_11 : decode cX1_has 11 = .ok (.aload_n 0, 1) := dk_42 (dk_at dksX1_has_0 11 rfl rfl)
theorem dX1_has_12 : decode cX1_has 12 = .ok (.getfield 15, 3) := dk_180 0 15 (dk_at dksX1_has_0 12 rfl rfl)
theorem dX1_has_15 : decode cX1_has 15 = .ok (.iload_n 1, 1) := dk_27 (dk_at dksX1_has_0 15 rfl rfl)
theorem dX1_has_16 : decode cX1_has 16 = .ok (.iaload, 1) := dk_46 (dk_at dksX1_has_0 16 rfl rfl)
theorem dX1_has_17 : decode cX1_has 17 = .ok (.if_icmp .gt 7, 3) := dk_163 0 7 (dk_at dksX1_has_0 17 rfl rfl)
theorem dX1_has_20 : decode cX1_has 20 = .ok (.iconst 1, 1) := dk_4 (dk_at dksX1_has_0 20 rfl rfl)
theorem dX1_has_21 : decode cX1_has 21 = .ok (.goto 4, 3) := dk_167 0 4 (dk_at dksX1_has_0 21 rfl rfl)
theorem dX1_has_24 : decode cX1_has 24 = .ok (.iconst 0, 1) := dk_3 (dk_at dksX1_has_1 0 rfl rfl)
theorem dX1_has_25 : decode cX1_has 25 = .ok (.ireturn, 1) := dk_172 (dk_at dksX1_has_1 1 rfl rfl)
theorem q29 : (Jvm.Cond.initialized "ArrayMaker$Shape") ∈ lw_all := lw_g (lw_at lw_m1 2 rfl) rfl
theorem q55 : (Jvm.Cond.instantiable "ArrayMaker$Shape" (3 : Nat)) ∈ lw_all := lw_g (lw_at lw_m1 28 rfl) rfl
theorem q57 : (Jvm.Cond.instanceMethod ({ cls := "ArrayMaker$Shape", name := "<init>", desc := "()V" } : Jvm.MethodName)) ∈ lw_all := lw_g (lw_at lw_m1 30 rfl) rfl
theorem q58 : (Jvm.Cond.code ({ cls := "ArrayMaker$Shape", name := "<init>", desc := "()V" } : Jvm.MethodName) prog_4_method_1_code (1 : Nat) (Option.none : Option Jvm.ClassFile.FieldType)) ∈ lw_all := lw_g (lw_at lw_m1 31 rfl) rfl
theorem q59 : (Jvm.Cond.methodLink "ArrayMaker$Shape" (3 : Nat) ({ cls := "java/lang/Object", name := "<init>", desc := "()V" } : Jvm.MethodName)) ∈ lw_all := lw_g (lw_at lw_m1 32 rfl) rfl
theorem q60 : (Jvm.Cond.fieldLink "ArrayMaker$Shape" (18 : Nat) "ArrayMaker$Shape" "many" "I") ∈ lw_all := lw_g (lw_at lw_m1 33 rfl) rfl
theorem q62 : (Jvm.Cond.fieldLink "ArrayMaker$Shape" (9 : Nat) "ArrayMaker$Shape" "low" "[I") ∈ lw_all := lw_g (lw_at lw_m1 35 rfl) rfl
theorem q64 : (Jvm.Cond.fieldLink "ArrayMaker$Shape" (15 : Nat) "ArrayMaker$Shape" "high" "[I") ∈ lw_all := lw_g (lw_at lw_m1 37 rfl) rfl
theorem q66 : (Jvm.Cond.lays "ArrayMaker$Shape" "ArrayMaker$Shape" "many" "I") ∈ lw_all := lw_g (lw_at lw_m1 39 rfl) rfl
theorem q67 : (Jvm.Cond.soleField "ArrayMaker$Shape" "many") ∈ lw_all := lw_g (lw_at lw_m1 40 rfl) rfl
theorem q68 : (Jvm.Cond.laysFinal "ArrayMaker$Shape" "ArrayMaker$Shape" "low" "[I") ∈ lw_all := lw_g (lw_at lw_m1 41 rfl) rfl
theorem q69 : (Jvm.Cond.soleField "ArrayMaker$Shape" "low") ∈ lw_all := lw_g (lw_at lw_m1 42 rfl) rfl
theorem q70 : (Jvm.Cond.laysFinal "ArrayMaker$Shape" "ArrayMaker$Shape" "high" "[I") ∈ lw_all := lw_g (lw_at lw_m1 43 rfl) rfl
theorem q71 : (Jvm.Cond.soleField "ArrayMaker$Shape" "high") ∈ lw_all := lw_g (lw_at lw_m1 44 rfl) rfl
theorem q72 : (Jvm.Cond.superclass "ArrayMaker$Shape" "java/lang/Object") ∈ lw_all := lw_g (lw_at lw_m1 45 rfl) rfl
theorem q247 : (Jvm.Cond.instanceMethod ({ cls := "ArrayMaker$Shape", name := "items", desc := "()I" } : Jvm.MethodName)) ∈ lw_all := lw_g (lw_at lw_m1 220 rfl) rfl
theorem q248 : (Jvm.Cond.selects "ArrayMaker$Shape" ({ cls := "ArrayMaker$Shape", name := "items", desc := "()I" } : Jvm.MethodName) ({ cls := "ArrayMaker$Shape", name := "items", desc := "()I" } : Jvm.MethodName)) ∈ lw_all := lw_g (lw_at lw_m1 221 rfl) rfl
theorem q249 : (Jvm.Cond.code ({ cls := "ArrayMaker$Shape", name := "items", desc := "()I" } : Jvm.MethodName) prog_4_method_4_code (5 : Nat) (Option.some Jvm.ClassFile.FieldType.int)) ∈ lw_all := lw_g (lw_at lw_m1 222 rfl) rfl
theorem q250 : (Jvm.Cond.methodLink "ArrayMaker$Shape" (34 : Nat) ({ cls := "ArrayMaker$Shape", name := "length", desc := "(I)J" } : Jvm.MethodName)) ∈ lw_all := lw_g (lw_at lw_m1 223 rfl) rfl
theorem q251 : (Jvm.Cond.instanceMethod ({ cls := "ArrayMaker$Shape", name := "length", desc := "(I)J" } : Jvm.MethodName)) ∈ lw_all := lw_g (lw_at lw_m1 224 rfl) rfl
theorem q252 : (Jvm.Cond.selects "ArrayMaker$Shape" ({ cls := "ArrayMaker$Shape", name := "length", desc := "(I)J" } : Jvm.MethodName) ({ cls := "ArrayMaker$Shape", name := "length", desc := "(I)J" } : Jvm.MethodName)) ∈ lw_all := lw_g (lw_at lw_m1 225 rfl) rfl
theorem q253 : (Jvm.Cond.code ({ cls := "ArrayMaker$Shape", name := "length", desc := "(I)J" } : Jvm.MethodName) prog_4_method_3_code (2 : Nat) (Option.some Jvm.ClassFile.FieldType.long)) ∈ lw_all := lw_g (lw_at lw_m1 226 rfl) rfl
theorem q254 : (Jvm.Cond.methodLink "ArrayMaker$Shape" (28 : Nat) ({ cls := "java/lang/Math", name := "max", desc := "(JJ)J" } : Jvm.MethodName)) ∈ lw_all := lw_g (lw_at lw_m1 227 rfl) rfl
theorem q257 : (Jvm.Cond.constantLong "ArrayMaker$Shape" (38 : Nat) (501 : Int64)) ∈ lw_all := lw_g (lw_at lw_m1 230 rfl) rfl
theorem q258 : (Jvm.Cond.methodLink "ArrayMaker$Shape" (40 : Nat) ({ cls := "java/lang/Math", name := "min", desc := "(JJ)J" } : Jvm.MethodName)) ∈ lw_all := lw_g (lw_at lw_m1 231 rfl) rfl
theorem q278 : (Jvm.Cond.instanceMethod ({ cls := "ArrayMaker$Shape", name := "set", desc := "(LArrayMaker$Shape;)V" } : Jvm.MethodName)) ∈ lw_all := lw_g (lw_at lw_m2 11 rfl) rfl
theorem q279 : (Jvm.Cond.selects "ArrayMaker$Shape" ({ cls := "ArrayMaker$Shape", name := "set", desc := "(LArrayMaker$Shape;)V" } : Jvm.MethodName) ({ cls := "ArrayMaker$Shape", name := "set", desc := "(LArrayMaker$Shape;)V" } : Jvm.MethodName)) ∈ lw_all := lw_g (lw_at lw_m2 12 rfl) rfl
theorem q280 : (Jvm.Cond.code ({ cls := "ArrayMaker$Shape", name := "set", desc := "(LArrayMaker$Shape;)V" } : Jvm.MethodName) prog_4_method_2_code (2 : Nat) (Option.none : Option Jvm.ClassFile.FieldType)) ∈ lw_all := lw_g (lw_at lw_m2 13 rfl) rfl
theorem q281 : (Jvm.Cond.methodLink "ArrayMaker$Shape" (22 : Nat) ({ cls := "java/lang/System", name := "arraycopy", desc := "(Ljava/lang/Object;ILjava/lang/Object;II)V" } : Jvm.MethodName)) ∈ lw_all := lw_g (lw_at lw_m2 14 rfl) rfl
theorem q325 : (Jvm.Cond.instanceMethod ({ cls := "ArrayMaker$Shape", name := "first", desc := "([I)V" } : Jvm.MethodName)) ∈ lw_all := lw_g (lw_at lw_m2 58 rfl) rfl
theorem q326 : (Jvm.Cond.selects "ArrayMaker$Shape" ({ cls := "ArrayMaker$Shape", name := "first", desc := "([I)V" } : Jvm.MethodName) ({ cls := "ArrayMaker$Shape", name := "first", desc := "([I)V" } : Jvm.MethodName)) ∈ lw_all := lw_g (lw_at lw_m2 59 rfl) rfl
theorem q327 : (Jvm.Cond.code ({ cls := "ArrayMaker$Shape", name := "first", desc := "([I)V" } : Jvm.MethodName) prog_4_method_8_code (2 : Nat) (Option.none : Option Jvm.ClassFile.FieldType)) ∈ lw_all := lw_g (lw_at lw_m2 60 rfl) rfl
theorem q329 : (Jvm.Cond.instanceMethod ({ cls := "ArrayMaker$Shape", name := "place", desc := "([I)I" } : Jvm.MethodName)) ∈ lw_all := lw_g (lw_at lw_m2 62 rfl) rfl
theorem q330 : (Jvm.Cond.selects "ArrayMaker$Shape" ({ cls := "ArrayMaker$Shape", name := "place", desc := "([I)I" } : Jvm.MethodName) ({ cls := "ArrayMaker$Shape", name := "place", desc := "([I)I" } : Jvm.MethodName)) ∈ lw_all := lw_g (lw_at lw_m2 63 rfl) rfl
theorem q331 : (Jvm.Cond.code ({ cls := "ArrayMaker$Shape", name := "place", desc := "([I)I" } : Jvm.MethodName) prog_4_method_7_code (5 : Nat) (Option.some Jvm.ClassFile.FieldType.int)) ∈ lw_all := lw_g (lw_at lw_m2 64 rfl) rfl
theorem q337 : (Jvm.Cond.instanceMethod ({ cls := "ArrayMaker$Shape", name := "next", desc := "([I)V" } : Jvm.MethodName)) ∈ lw_all := lw_g (lw_at lw_m2 70 rfl) rfl
theorem q338 : (Jvm.Cond.selects "ArrayMaker$Shape" ({ cls := "ArrayMaker$Shape", name := "next", desc := "([I)V" } : Jvm.MethodName) ({ cls := "ArrayMaker$Shape", name := "next", desc := "([I)V" } : Jvm.MethodName)) ∈ lw_all := lw_g (lw_at lw_m2 71 rfl) rfl
theorem q339 : (Jvm.Cond.code ({ cls := "ArrayMaker$Shape", name := "next", desc := "([I)V" } : Jvm.MethodName) prog_4_method_9_code (3 : Nat) (Option.none : Option Jvm.ClassFile.FieldType)) ∈ lw_all := lw_g (lw_at lw_m2 72 rfl) rfl
theorem q345 : (Jvm.Cond.instanceMethod ({ cls := "ArrayMaker$Shape", name := "beyond", desc := "([I)I" } : Jvm.MethodName)) ∈ lw_all := lw_g (lw_at lw_m2 78 rfl) rfl
theorem q346 : (Jvm.Cond.selects "ArrayMaker$Shape" ({ cls := "ArrayMaker$Shape", name := "beyond", desc := "([I)I" } : Jvm.MethodName) ({ cls := "ArrayMaker$Shape", name := "beyond", desc := "([I)I" } : Jvm.MethodName)) ∈ lw_all := lw_g (lw_at lw_m2 79 rfl) rfl
theorem q347 : (Jvm.Cond.code ({ cls := "ArrayMaker$Shape", name := "beyond", desc := "([I)I" } : Jvm.MethodName) prog_4_method_6_code (3 : Nat) (Option.some Jvm.ClassFile.FieldType.int)) ∈ lw_all := lw_g (lw_at lw_m2 80 rfl) rfl
theorem q348 : (Jvm.Cond.methodLink "ArrayMaker$Shape" (43 : Nat) ({ cls := "ArrayMaker$Shape", name := "has", desc := "(II)Z" } : Jvm.MethodName)) ∈ lw_all := lw_g (lw_at lw_m2 81 rfl) rfl
theorem q349 : (Jvm.Cond.instanceMethod ({ cls := "ArrayMaker$Shape", name := "has", desc := "(II)Z" } : Jvm.MethodName)) ∈ lw_all := lw_g (lw_at lw_m2 82 rfl) rfl
theorem q350 : (Jvm.Cond.selects "ArrayMaker$Shape" ({ cls := "ArrayMaker$Shape", name := "has", desc := "(II)Z" } : Jvm.MethodName) ({ cls := "ArrayMaker$Shape", name := "has", desc := "(II)Z" } : Jvm.MethodName)) ∈ lw_all := lw_g (lw_at lw_m2 83 rfl) rfl
theorem q351 : (Jvm.Cond.code ({ cls := "ArrayMaker$Shape", name := "has", desc := "(II)Z" } : Jvm.MethodName) prog_4_method_5_code (3 : Nat) (Option.some Jvm.ClassFile.FieldType.boolean)) ∈ lw_all := lw_g (lw_at lw_m2 84 rfl) rfl
theorem in_X1 : ∀ w ∈ wsX10, w ∈ lw_all := lw_in wsX10 [66, 68, 70] (by decide +kernel) (by decide +kernel)
/-! ArrayMaker$Seen -/
set_option maxRecDepth 100000
def RX2 : String := "ArrayMaker$Seen"
def TX2 : u_T := fun k => match k with
  | 0 => ("ArrayMaker$Seen", "shape", "LArrayMaker$Shape;", true)
  | _ => ("ArrayMaker$Seen", "row", "Ljava/lang/Object;", false)
def tyX2 : Nat → FieldType := fun k => match k with
  | 0 => .object "ArrayMaker$Shape"
  | _ => .object "java/lang/Object"
abbrev wsX20 : List Cond := u_ws RX2 TX2 2
theorem nmX2 : ∀ a, a < 2 → ∀ b, b < 2 → a ≠ b → (TX2 a).2.1 ≠ (TX2 b).2.1 := by decide +kernel
theorem tyX2_ok : ∀ k, k < 2 → parseFieldDescriptor (TX2 k).2.2.1 = some (tyX2 k) := by decide +kernel
abbrev cX2_init : ByteArray := prog_3_method_1_code
def yX2_init : MethodName := ⟨RX2, "<init>", "()V"⟩
def dkwX2_init_0 : List UInt8 := [42, 183, 0, 1, 42, 187, 0, 7, 89, 183, 0, 9, 181, 0, 10, 177]
abbrev dktX2_init_0 : List UInt8 := dkwX2_init_0 ++ []
theorem dksX2_init_0 : cX2_init.data.toList.drop 0 = dktX2_init_0 := by decide +kernel
theorem dX2_init_0 : decode cX2_init 0 = .ok (.aload_n 0, 1) := dk_42 (dk_at dksX2_init_0 0 rfl rfl)
theorem dX2_init_1 : decode cX2_init 1 = .ok (.invokespecial 1, 3) := dk_183 0 1 (dk_at dksX2_init_0 1 rfl rfl)
theorem dX2_init_4 : decode cX2_init 4 = .ok (.aload_n 0, 1) := dk_42 (dk_at dksX2_init_0 4 rfl rfl)
theorem dX2_init_5 : decode cX2_init 5 = .ok (.new 7, 3) := dk_187 0 7 (dk_at dksX2_init_0 5 rfl rfl)
theorem dX2_init_8 : decode cX2_init 8 = .ok (.dup, 1) := dk_89 (dk_at dksX2_init_0 8 rfl rfl)
theorem dX2_init_9 : decode cX2_init 9 = .ok (.invokespecial 9, 3) := dk_183 0 9 (dk_at dksX2_init_0 9 rfl rfl)
theorem dX2_init_12 : decode cX2_init 12 = .ok (.putfield 10, 3) := dk_181 0 10 (dk_at dksX2_init_0 12 rfl rfl)
theorem dX2_init_15 : decode cX2_init 15 = .ok (.return_, 1) := dk_177 (dk_at dksX2_init_0 15 rfl rfl)
theorem q30 : (Jvm.Cond.initialized "ArrayMaker$Seen") ∈ lw_all := lw_g (lw_at lw_m1 3 rfl) rfl
theorem q76 : (Jvm.Cond.instantiable "ArrayMaker$Seen" (2 : Nat)) ∈ lw_all := lw_g (lw_at lw_m1 49 rfl) rfl
theorem q78 : (Jvm.Cond.instanceMethod ({ cls := "ArrayMaker$Seen", name := "<init>", desc := "()V" } : Jvm.MethodName)) ∈ lw_all := lw_g (lw_at lw_m1 51 rfl) rfl
theorem q79 : (Jvm.Cond.code ({ cls := "ArrayMaker$Seen", name := "<init>", desc := "()V" } : Jvm.MethodName) prog_3_method_1_code (1 : Nat) (Option.none : Option Jvm.ClassFile.FieldType)) ∈ lw_all := lw_g (lw_at lw_m1 52 rfl) rfl
theorem q80 : (Jvm.Cond.methodLink "ArrayMaker$Seen" (1 : Nat) ({ cls := "java/lang/Object", name := "<init>", desc := "()V" } : Jvm.MethodName)) ∈ lw_all := lw_g (lw_at lw_m1 53 rfl) rfl
theorem q81 : (Jvm.Cond.classLink "ArrayMaker$Seen" (7 : Nat) "ArrayMaker$Shape") ∈ lw_all := lw_g (lw_at lw_m1 54 rfl) rfl
theorem q82 : (Jvm.Cond.methodLinkNest "ArrayMaker$Seen" (9 : Nat) ({ cls := "ArrayMaker$Shape", name := "<init>", desc := "()V" } : Jvm.MethodName) "ArrayMaker") ∈ lw_tbl := lw_at lw_m1 55 rfl
theorem q83 : (Jvm.Cond.fieldLink "ArrayMaker$Seen" (10 : Nat) "ArrayMaker$Seen" "shape" "LArrayMaker$Shape;") ∈ lw_all := lw_g (lw_at lw_m1 56 rfl) rfl
theorem q86 : (Jvm.Cond.laysFinal "ArrayMaker$Seen" "ArrayMaker$Seen" "shape" "LArrayMaker$Shape;") ∈ lw_all := lw_g (lw_at lw_m1 59 rfl) rfl
theorem q87 : (Jvm.Cond.soleField "ArrayMaker$Seen" "shape") ∈ lw_all := lw_g (lw_at lw_m1 60 rfl) rfl
theorem q88 : (Jvm.Cond.lays "ArrayMaker$Seen" "ArrayMaker$Seen" "row" "Ljava/lang/Object;") ∈ lw_all := lw_g (lw_at lw_m1 61 rfl) rfl
theorem q89 : (Jvm.Cond.soleField "ArrayMaker$Seen" "row") ∈ lw_all := lw_g (lw_at lw_m1 62 rfl) rfl
theorem q90 : (Jvm.Cond.superclass "ArrayMaker$Seen" "java/lang/Object") ∈ lw_all := lw_g (lw_at lw_m1 63 rfl) rfl
theorem in_X2 : ∀ w ∈ wsX20, w ∈ lw_all := lw_in wsX20 [86, 88] (by decide +kernel) (by decide +kernel)
/-! ArrayMaker$Box -/
set_option maxRecDepth 100000
def RX4 : String := "ArrayMaker$Box"
def TX4 : u_T := fun k => match k with
  | _ => ("ArrayMaker$Box", "number", "J", true)
def tyX4 : Nat → FieldType := fun k => match k with
  | _ => .long
abbrev wsX40 : List Cond := u_ws RX4 TX4 1
theorem nmX4 : ∀ a, a < 1 → ∀ b, b < 1 → a ≠ b → (TX4 a).2.1 ≠ (TX4 b).2.1 := by decide +kernel
theorem tyX4_ok : ∀ k, k < 1 → parseFieldDescriptor (TX4 k).2.2.1 = some (tyX4 k) := by decide +kernel
abbrev cX4_init : ByteArray := prog_2_method_1_code
def yX4_init : MethodName := ⟨RX4, "<init>", "(J)V"⟩
def dkwX4_init_0 : List UInt8 := [42, 183, 0, 1, 42, 31, 181, 0, 7, 177]
abbrev dktX4_init_0 : List UInt8 := dkwX4_init_0 ++ []
theorem dksX4_init_0 : cX4_init.data.toList.drop 0 = dktX4_init_0 := by decide +kernel
theorem dX4_init_0 : decode cX4_init 0 = .ok (.aload_n 0, 1) := dk_42 (dk_at dksX4_init_0 0 rfl rfl)
theorem dX4_init_1 : decode cX4_init 1 = .ok (.invokespecial 1, 3) := dk_183 0 1 (dk_at dksX4_init_0 1 rfl rfl)
theorem dX4_init_4 : decode cX4_init 4 = .ok (.aload_n 0, 1) := dk_42 (dk_at dksX4_init_0 4 rfl rfl)
theorem dX4_init_5 : decode cX4_init 5 = .ok (.lload_n 1, 1) := dk_31 (dk_at dksX4_init_0 5 rfl rfl)
theorem dX4_init_6 : decode cX4_init 6 = .ok (.putfield 7, 3) := dk_181 0 7 (dk_at dksX4_init_0 6 rfl rfl)
theorem dX4_init_9 : decode cX4_init 9 = .ok (.return_, 1) := dk_177 (dk_at dksX4_init_0 9 rfl rfl)
theorem q43 : (Jvm.Cond.initialized "ArrayMaker$Box") ∈ lw_all := lw_g (lw_at lw_m1 16 rfl) rfl
theorem q437 : (Jvm.Cond.instantiable "ArrayMaker$Box" (1 : Nat)) ∈ lw_all := lw_g (lw_at lw_m2 170 rfl) rfl
theorem q439 : (Jvm.Cond.instanceMethod ({ cls := "ArrayMaker$Box", name := "<init>", desc := "(J)V" } : Jvm.MethodName)) ∈ lw_all := lw_g (lw_at lw_m2 172 rfl) rfl
theorem q440 : (Jvm.Cond.code ({ cls := "ArrayMaker$Box", name := "<init>", desc := "(J)V" } : Jvm.MethodName) prog_2_method_1_code (3 : Nat) (Option.none : Option Jvm.ClassFile.FieldType)) ∈ lw_all := lw_g (lw_at lw_m2 173 rfl) rfl
theorem q441 : (Jvm.Cond.methodLink "ArrayMaker$Box" (1 : Nat) ({ cls := "java/lang/Object", name := "<init>", desc := "()V" } : Jvm.MethodName)) ∈ lw_all := lw_g (lw_at lw_m2 174 rfl) rfl
theorem q442 : (Jvm.Cond.fieldLink "ArrayMaker$Box" (7 : Nat) "ArrayMaker$Box" "number" "J") ∈ lw_all := lw_g (lw_at lw_m2 175 rfl) rfl
theorem q444 : (Jvm.Cond.laysFinal "ArrayMaker$Box" "ArrayMaker$Box" "number" "J") ∈ lw_all := lw_g (lw_at lw_m2 177 rfl) rfl
theorem q445 : (Jvm.Cond.soleField "ArrayMaker$Box" "number") ∈ lw_all := lw_g (lw_at lw_m2 178 rfl) rfl
theorem q446 : (Jvm.Cond.superclass "ArrayMaker$Box" "java/lang/Object") ∈ lw_all := lw_g (lw_at lw_m2 179 rfl) rfl
theorem in_X4 : ∀ w ∈ wsX40, w ∈ lw_all := lw_in wsX40 [444] (by decide +kernel) (by decide +kernel)
/-! java/lang/Math -/
set_option maxRecDepth 100000
def RJ6 : String := "java/lang/Math"
abbrev cJ6_max : ByteArray := prog_13_method_66_code
def yJ6_max : MethodName := ⟨RJ6, "max", "(JJ)J"⟩
def dkwJ6_max_0 : List UInt8 := [30, 32, 148, 155, 0, 7, 30, 167, 0, 4, 32, 173]
abbrev dktJ6_max_0 : List UInt8 := dkwJ6_max_0 ++ []
theorem dksJ6_max_0 : cJ6_max.data.toList.drop 0 = dktJ6_max_0 := by decide +kernel
theorem dJ6_max_0 : decode cJ6_max 0 = .ok (.lload_n 0, 1) := dk_30 (dk_at dksJ6_max_0 0 rfl rfl)
theorem dJ6_max_1 : decode cJ6_max 1 = .ok (.lload_n 2, 1) := dk_32 (dk_at dksJ6_max_0 1 rfl rfl)
theorem dJ6_max_2 : decode cJ6_max 2 = .ok (.lcmp, 1) := dk_148 (dk_at dksJ6_max_0 2 rfl rfl)
theorem dJ6_max_3 : decode cJ6_max 3 = .ok (.ifCond .lt 7, 3) := dk_155 0 7 (dk_at dksJ6_max_0 3 rfl rfl)
theorem dJ6_max_6 : decode cJ6_max 6 = .ok (.lload_n 0, 1) := dk_30 (dk_at dksJ6_max_0 6 rfl rfl)
theorem dJ6_max_7 : decode cJ6_max 7 = .ok (.goto 4, 3) := dk_167 0 4 (dk_at dksJ6_max_0 7 rfl rfl)
theorem dJ6_max_10 : decode cJ6_max 10 = .ok (.lload_n 2, 1) := dk_32 (dk_at dksJ6_max_0 10 rfl rfl)
theorem dJ6_max_11 : decode cJ6_max 11 = .ok (.lreturn, 1) := dk_173 (dk_at dksJ6_max_0 11 rfl rfl)
abbrev cJ6_min : ByteArray := prog_13_method_70_code
def yJ6_min : MethodName := ⟨RJ6, "min", "(JJ)J"⟩
def dkwJ6_min_0 : List UInt8 := [30, 32, 148, 157, 0, 7, 30, 167, 0, 4, 32, 173]
abbrev dktJ6_min_0 : List UInt8 := dkwJ6_min_0 ++ []
theorem dksJ6_min_0 : cJ6_min.data.toList.drop 0 = dktJ6_min_0 := by decide +kernel
theorem dJ6_min_0 : decode cJ6_min 0 = .ok (.lload_n 0, 1) := dk_30 (dk_at dksJ6_min_0 0 rfl rfl)
theorem dJ6_min_1 : decode cJ6_min 1 = .ok (.lload_n 2, 1) := dk_32 (dk_at dksJ6_min_0 1 rfl rfl)
theorem dJ6_min_2 : decode cJ6_min 2 = .ok (.lcmp, 1) := dk_148 (dk_at dksJ6_min_0 2 rfl rfl)
theorem dJ6_min_3 : decode cJ6_min 3 = .ok (.ifCond .gt 7, 3) := dk_157 0 7 (dk_at dksJ6_min_0 3 rfl rfl)
theorem dJ6_min_6 : decode cJ6_min 6 = .ok (.lload_n 0, 1) := dk_30 (dk_at dksJ6_min_0 6 rfl rfl)
theorem dJ6_min_7 : decode cJ6_min 7 = .ok (.goto 4, 3) := dk_167 0 4 (dk_at dksJ6_min_0 7 rfl rfl)
theorem dJ6_min_10 : decode cJ6_min 10 = .ok (.lload_n 2, 1) := dk_32 (dk_at dksJ6_min_0 10 rfl rfl)
theorem dJ6_min_11 : decode cJ6_min 11 = .ok (.lreturn, 1) := dk_173 (dk_at dksJ6_min_0 11 rfl rfl)
abbrev cJ6_min_2 : ByteArray := prog_13_method_69_code
def yJ6_min_2 : MethodName := ⟨RJ6, "min", "(II)I"⟩
def dkwJ6_min_2_0 : List UInt8 := [26, 27, 163, 0, 7, 26, 167, 0, 4, 27, 172]
abbrev dktJ6_min_2_0 : List UInt8 := dkwJ6_min_2_0 ++ []
theorem dksJ6_min_2_0 : cJ6_min_2.data.toList.drop 0 = dktJ6_min_2_0 := by decide +kernel
theorem dJ6_min_2_0 : decode cJ6_min_2 0 = .ok (.iload_n 0, 1) := dk_26 (dk_at dksJ6_min_2_0 0 rfl rfl)
theorem dJ6_min_2_1 : decode cJ6_min_2 1 = .ok (.iload_n 1, 1) := dk_27 (dk_at dksJ6_min_2_0 1 rfl rfl)
theorem dJ6_min_2_2 : decode cJ6_min_2 2 = .ok (.if_icmp .gt 7, 3) := dk_163 0 7 (dk_at dksJ6_min_2_0 2 rfl rfl)
theorem dJ6_min_2_5 : decode cJ6_min_2 5 = .ok (.iload_n 0, 1) := dk_26 (dk_at dksJ6_min_2_0 5 rfl rfl)
theorem dJ6_min_2_6 : decode cJ6_min_2 6 = .ok (.goto 4, 3) := dk_167 0 4 (dk_at dksJ6_min_2_0 6 rfl rfl)
theorem dJ6_min_2_9 : decode cJ6_min_2 9 = .ok (.iload_n 1, 1) := dk_27 (dk_at dksJ6_min_2_0 9 rfl rfl)
theorem dJ6_min_2_10 : decode cJ6_min_2 10 = .ok (.ireturn, 1) := dk_172 (dk_at dksJ6_min_2_0 10 rfl rfl)
theorem q38 : (Jvm.Cond.initialized "java/lang/Math") ∈ lw_all := lw_g (lw_at lw_m1 11 rfl) rfl
theorem q255 : (Jvm.Cond.static ({ cls := "java/lang/Math", name := "max", desc := "(JJ)J" } : Jvm.MethodName)) ∈ lw_all := lw_g (lw_at lw_m1 228 rfl) rfl
theorem q256 : (Jvm.Cond.code ({ cls := "java/lang/Math", name := "max", desc := "(JJ)J" } : Jvm.MethodName) prog_13_method_66_code (4 : Nat) (Option.some Jvm.ClassFile.FieldType.long)) ∈ lw_all := lw_g (lw_at lw_m1 229 rfl) rfl
theorem q259 : (Jvm.Cond.static ({ cls := "java/lang/Math", name := "min", desc := "(JJ)J" } : Jvm.MethodName)) ∈ lw_all := lw_g (lw_at lw_m1 232 rfl) rfl
theorem q260 : (Jvm.Cond.code ({ cls := "java/lang/Math", name := "min", desc := "(JJ)J" } : Jvm.MethodName) prog_13_method_70_code (4 : Nat) (Option.some Jvm.ClassFile.FieldType.long)) ∈ lw_all := lw_g (lw_at lw_m1 233 rfl) rfl
theorem q515 : (Jvm.Cond.static ({ cls := "java/lang/Math", name := "min", desc := "(II)I" } : Jvm.MethodName)) ∈ lw_all := lw_g (lw_at lw_m3 8 rfl) rfl
theorem q516 : (Jvm.Cond.code ({ cls := "java/lang/Math", name := "min", desc := "(II)I" } : Jvm.MethodName) prog_13_method_69_code (2 : Nat) (Option.some Jvm.ClassFile.FieldType.int)) ∈ lw_all := lw_g (lw_at lw_m3 9 rfl) rfl
/-! java/lang/Integer -/
set_option maxRecDepth 100000
def RJ11 : String := "java/lang/Integer"
abbrev cJ11_compare : ByteArray := prog_12_method_40_code
def yJ11_compare : MethodName := ⟨RJ11, "compare", "(II)I"⟩
def dkwJ11_compare_0 : List UInt8 := [26, 27, 162, 0, 7, 2, 167, 0, 13, 26, 27, 160, 0, 7, 3, 167, 0, 4, 4, 172]
abbrev dktJ11_compare_0 : List UInt8 := dkwJ11_compare_0 ++ []
theorem dksJ11_compare_0 : cJ11_compare.data.toList.drop 0 = dktJ11_compare_0 := by decide +kernel
theorem dJ11_compare_0 : decode cJ11_compare 0 = .ok (.iload_n 0, 1) := dk_26 (dk_at dksJ11_compare_0 0 rfl rfl)
theorem dJ11_compare_1 : decode cJ11_compare 1 = .ok (.iload_n 1, 1) := dk_27 (dk_at dksJ11_compare_0 1 rfl rfl)
theorem dJ11_compare_2 : decode cJ11_compare 2 = .ok (.if_icmp .ge 7, 3) := dk_162 0 7 (dk_at dksJ11_compare_0 2 rfl rfl)
theorem dJ11_compare_5 : decode cJ11_compare 5 = .ok (.iconst (-1), 1) := dk_2 (dk_at dksJ11_compare_0 5 rfl rfl)
theorem dJ11_compare_6 : decode cJ11_compare 6 = .ok (.goto 13, 3) := dk_167 0 13 (dk_at dksJ11_compare_0 6 rfl rfl)
theorem dJ11_compare_9 : decode cJ11_compare 9 = .ok (.iload_n 0, 1) := dk_26 (dk_at dksJ11_compare_0 9 rfl rfl)
theorem dJ11_compare_10 : decode cJ11_compare 10 = .ok (.iload_n 1, 1) := dk_27 (dk_at dksJ11_compare_0 10 rfl rfl)
theorem dJ11_compare_11 : decode cJ11_compare 11 = .ok (.if_icmp .ne 7, 3) := dk_160 0 7 (dk_at dksJ11_compare_0 11 rfl rfl)
theorem dJ11_compare_14 : decode cJ11_compare 14 = .ok (.iconst 0, 1) := dk_3 (dk_at dksJ11_compare_0 14 rfl rfl)
theorem dJ11_compare_15 : decode cJ11_compare 15 = .ok (.goto 4, 3) := dk_167 0 4 (dk_at dksJ11_compare_0 15 rfl rfl)
theorem dJ11_compare_18 : decode cJ11_compare 18 = .ok (.iconst 1, 1) := dk_4 (dk_at dksJ11_compare_0 18 rfl rfl)
theorem dJ11_compare_19 : decode cJ11_compare 19 = .ok (.ireturn, 1) := dk_172 (dk_at dksJ11_compare_0 19 rfl rfl)
theorem q45 : (Jvm.Cond.initialized "java/lang/Integer") ∈ lw_all := lw_g (lw_at lw_m1 18 rfl) rfl
theorem q518 : (Jvm.Cond.static ({ cls := "java/lang/Integer", name := "compare", desc := "(II)I" } : Jvm.MethodName)) ∈ lw_all := lw_g (lw_at lw_m3 11 rfl) rfl
theorem q519 : (Jvm.Cond.code ({ cls := "java/lang/Integer", name := "compare", desc := "(II)I" } : Jvm.MethodName) prog_12_method_40_code (2 : Nat) (Option.some Jvm.ClassFile.FieldType.int)) ∈ lw_all := lw_g (lw_at lw_m3 12 rfl) rfl
/-! java/lang/Object -/
set_option maxRecDepth 100000
def RJ12 : String := "java/lang/Object"
abbrev cJ12_init : ByteArray := object_method_1_code
def yJ12_init : MethodName := ⟨RJ12, "<init>", "()V"⟩
theorem dJ12_init_0 : decode cJ12_init 0 = .ok (.return_, 1) := by decide +kernel
theorem q52 : (Jvm.Cond.instanceMethod ({ cls := "java/lang/Object", name := "<init>", desc := "()V" } : Jvm.MethodName)) ∈ lw_all := lw_g (lw_at lw_m1 25 rfl) rfl
theorem q53 : (Jvm.Cond.code ({ cls := "java/lang/Object", name := "<init>", desc := "()V" } : Jvm.MethodName) object_method_1_code (1 : Nat) (Option.none : Option Jvm.ClassFile.FieldType)) ∈ lw_all := lw_g (lw_at lw_m1 26 rfl) rfl
theorem q39 : (Jvm.Cond.initialized "java/lang/System") ∈ lw_all := lw_g (lw_at lw_m1 12 rfl) rfl
set_option maxRecDepth 100000
theorem q282 : (Jvm.Cond.static ({ cls := "java/lang/System", name := "arraycopy", desc := "(Ljava/lang/Object;ILjava/lang/Object;II)V" } : Jvm.MethodName)) ∈ lw_all := lw_g (lw_at lw_m2 15 rfl) rfl
theorem q283 : (Jvm.Cond.native ({ cls := "java/lang/System", name := "arraycopy", desc := "(Ljava/lang/Object;ILjava/lang/Object;II)V" } : Jvm.MethodName)) ∈ lw_all := lw_g (lw_at lw_m2 16 rfl) rfl
theorem q73 : (Jvm.Cond.arrayClass Jvm.ClassFile.FieldType.int) ∈ lw_all := lw_g (lw_at lw_m1 46 rfl) rfl
set_option maxRecDepth 100000
theorem q75 : (Jvm.Cond.arrayOver (Jvm.ClassFile.FieldType.object "ArrayMaker$Seen")) ∈ lw_tbl := lw_at lw_m1 48 rfl
theorem q91 : (Jvm.Cond.arrayClass Jvm.ClassFile.FieldType.long) ∈ lw_all := lw_g (lw_at lw_m1 64 rfl) rfl
theorem q224 : (Jvm.Cond.arrayClass Jvm.ClassFile.FieldType.byte) ∈ lw_all := lw_g (lw_at lw_m1 197 rfl) rfl
theorem q267 : (Jvm.Cond.arrayOver (Jvm.ClassFile.FieldType.array Jvm.ClassFile.FieldType.int)) ∈ lw_tbl := lw_at lw_m2 0 rfl
theorem q272 : (Jvm.Cond.arrayOver (Jvm.ClassFile.FieldType.object "ArrayMaker$Box")) ∈ lw_tbl := lw_at lw_m2 5 rfl
theorem q607 : (Jvm.Cond.arrayClass Jvm.ClassFile.FieldType.boolean) ∈ lw_all := lw_g (lw_at lw_m3 100 rfl) rfl
theorem q27 : (Jvm.Cond.initialized "ArrayMakerLaw") ∈ lw_all := lw_g (lw_at lw_m1 0 rfl) rfl
set_option maxRecDepth 100000
theorem q46 : (Jvm.Cond.classLink "ArrayMakerLaw" (7 : Nat) "ArrayMaker") ∈ lw_all := lw_g (lw_at lw_m1 19 rfl) rfl
theorem q48 : (Jvm.Cond.methodLink "ArrayMakerLaw" (9 : Nat) ({ cls := "ArrayMaker", name := "<init>", desc := "()V" } : Jvm.MethodName)) ∈ lw_all := lw_g (lw_at lw_m1 21 rfl) rfl
theorem q126 : (Jvm.Cond.methodLink "ArrayMakerLaw" (13 : Nat) ({ cls := "ArrayMaker", name := "code", desc := "()I" } : Jvm.MethodName)) ∈ lw_all := lw_g (lw_at lw_m1 99 rfl) rfl
theorem q130 : (Jvm.Cond.methodLink "ArrayMakerLaw" (18 : Nat) ({ cls := "ArrayMaker", name := "which", desc := "()I" } : Jvm.MethodName)) ∈ lw_all := lw_g (lw_at lw_m1 103 rfl) rfl
theorem q134 : (Jvm.Cond.methodLink "ArrayMakerLaw" (22 : Nat) ({ cls := "ArrayMaker", name := "range", desc := "(II)I" } : Jvm.MethodName)) ∈ lw_all := lw_g (lw_at lw_m1 107 rfl) rfl
theorem q237 : (Jvm.Cond.methodLink "ArrayMakerLaw" (27 : Nat) ({ cls := "ArrayMaker", name := "shapeless", desc := "()I" } : Jvm.MethodName)) ∈ lw_all := lw_g (lw_at lw_m1 210 rfl) rfl
theorem q241 : (Jvm.Cond.methodLink "ArrayMakerLaw" (31 : Nat) ({ cls := "ArrayMaker", name := "make", desc := "(I)I" } : Jvm.MethodName)) ∈ lw_all := lw_g (lw_at lw_m1 214 rfl) rfl
theorem q284 : (Jvm.Cond.methodLink "ArrayMakerLaw" (36 : Nat) ({ cls := "ArrayMaker", name := "raw", desc := "(II)I" } : Jvm.MethodName)) ∈ lw_all := lw_g (lw_at lw_m2 17 rfl) rfl
theorem q302 : (Jvm.Cond.methodLink "ArrayMakerLaw" (40 : Nat) ({ cls := "ArrayMaker", name := "see", desc := "(I)I" } : Jvm.MethodName)) ∈ lw_all := lw_g (lw_at lw_m2 35 rfl) rfl
theorem q320 : (Jvm.Cond.methodLink "ArrayMakerLaw" (44 : Nat) ({ cls := "ArrayMaker", name := "turn", desc := "(I)I" } : Jvm.MethodName)) ∈ lw_all := lw_g (lw_at lw_m2 53 rfl) rfl
theorem q340 : (Jvm.Cond.methodLink "ArrayMakerLaw" (48 : Nat) ({ cls := "ArrayMaker", name := "cut", desc := "(I)I" } : Jvm.MethodName)) ∈ lw_all := lw_g (lw_at lw_m2 73 rfl) rfl
theorem q356 : (Jvm.Cond.methodLink "ArrayMakerLaw" (52 : Nat) ({ cls := "ArrayMaker", name := "deep", desc := "(I)I" } : Jvm.MethodName)) ∈ lw_all := lw_g (lw_at lw_m2 89 rfl) rfl
theorem q374 : (Jvm.Cond.methodLink "ArrayMakerLaw" (56 : Nat) ({ cls := "ArrayMaker", name := "flat", desc := "(I)I" } : Jvm.MethodName)) ∈ lw_all := lw_g (lw_at lw_m2 107 rfl) rfl
theorem q403 : (Jvm.Cond.methodLink "ArrayMakerLaw" (60 : Nat) ({ cls := "ArrayMaker", name := "ragged", desc := "(III)I" } : Jvm.MethodName)) ∈ lw_all := lw_g (lw_at lw_m2 136 rfl) rfl
theorem q408 : (Jvm.Cond.methodLink "ArrayMakerLaw" (65 : Nat) ({ cls := "ArrayMaker", name := "without", desc := "(II)I" } : Jvm.MethodName)) ∈ lw_all := lw_g (lw_at lw_m2 141 rfl) rfl
theorem q412 : (Jvm.Cond.methodLink "ArrayMakerLaw" (69 : Nat) ({ cls := "ArrayMaker", name := "tie", desc := "(IIII)I" } : Jvm.MethodName)) ∈ lw_all := lw_g (lw_at lw_m2 145 rfl) rfl
theorem q416 : (Jvm.Cond.methodLink "ArrayMakerLaw" (74 : Nat) ({ cls := "ArrayMaker", name := "get", desc := "(IIII)J" } : Jvm.MethodName)) ∈ lw_all := lw_g (lw_at lw_m2 149 rfl) rfl
theorem q430 : (Jvm.Cond.methodLink "ArrayMakerLaw" (81 : Nat) ({ cls := "ArrayMaker", name := "put", desc := "(IIIIJ)I" } : Jvm.MethodName)) ∈ lw_all := lw_g (lw_at lw_m2 163 rfl) rfl
theorem q447 : (Jvm.Cond.methodLink "ArrayMakerLaw" (86 : Nat) ({ cls := "ArrayMaker", name := "empty", desc := "(IIII)I" } : Jvm.MethodName)) ∈ lw_all := lw_g (lw_at lw_m2 180 rfl) rfl
theorem q451 : (Jvm.Cond.methodLink "ArrayMakerLaw" (90 : Nat) ({ cls := "ArrayMaker", name := "pair", desc := "(IIIJ)I" } : Jvm.MethodName)) ∈ lw_all := lw_g (lw_at lw_m2 184 rfl) rfl
theorem q455 : (Jvm.Cond.methodLink "ArrayMakerLaw" (95 : Nat) ({ cls := "ArrayMaker", name := "gather", desc := "(II)I" } : Jvm.MethodName)) ∈ lw_all := lw_g (lw_at lw_m2 188 rfl) rfl
theorem q481 : (Jvm.Cond.methodLink "ArrayMakerLaw" (99 : Nat) ({ cls := "ArrayMaker", name := "join", desc := "(III)I" } : Jvm.MethodName)) ∈ lw_all := lw_g (lw_at lw_m2 214 rfl) rfl
theorem q485 : (Jvm.Cond.methodLink "ArrayMakerLaw" (103 : Nat) ({ cls := "ArrayMaker", name := "sum", desc := "(I)J" } : Jvm.MethodName)) ∈ lw_all := lw_g (lw_at lw_m2 218 rfl) rfl
theorem q492 : (Jvm.Cond.methodLink "ArrayMakerLaw" (108 : Nat) ({ cls := "ArrayMaker", name := "mean", desc := "(I)J" } : Jvm.MethodName)) ∈ lw_all := lw_g (lw_at lw_m2 225 rfl) rfl
theorem q496 : (Jvm.Cond.methodLink "ArrayMakerLaw" (112 : Nat) ({ cls := "ArrayMaker", name := "about", desc := "(II)I" } : Jvm.MethodName)) ∈ lw_all := lw_g (lw_at lw_m2 229 rfl) rfl
theorem q503 : (Jvm.Cond.methodLink "ArrayMakerLaw" (116 : Nat) ({ cls := "ArrayMaker", name := "same", desc := "(II)I" } : Jvm.MethodName)) ∈ lw_all := lw_g (lw_at lw_m2 236 rfl) rfl
theorem q510 : (Jvm.Cond.methodLink "ArrayMakerLaw" (120 : Nat) ({ cls := "ArrayMaker", name := "compare", desc := "(II)I" } : Jvm.MethodName)) ∈ lw_all := lw_g (lw_at lw_m3 3 rfl) rfl
theorem q520 : (Jvm.Cond.methodLink "ArrayMakerLaw" (124 : Nat) ({ cls := "ArrayMaker", name := "clear", desc := "()I" } : Jvm.MethodName)) ∈ lw_all := lw_g (lw_at lw_m3 13 rfl) rfl
theorem q524 : (Jvm.Cond.classLink "ArrayMakerLaw" (10 : Nat) "ArrayMakerModel") ∈ lw_all := lw_g (lw_at lw_m3 17 rfl) rfl
theorem q526 : (Jvm.Cond.methodLink "ArrayMakerLaw" (12 : Nat) ({ cls := "ArrayMakerModel", name := "<init>", desc := "()V" } : Jvm.MethodName)) ∈ lw_all := lw_g (lw_at lw_m3 19 rfl) rfl
theorem q608 : (Jvm.Cond.methodLink "ArrayMakerLaw" (17 : Nat) ({ cls := "ArrayMakerModel", name := "code", desc := "()I" } : Jvm.MethodName)) ∈ lw_all := lw_g (lw_at lw_m3 101 rfl) rfl
theorem q612 : (Jvm.Cond.methodLink "ArrayMakerLaw" (21 : Nat) ({ cls := "ArrayMakerModel", name := "which", desc := "()I" } : Jvm.MethodName)) ∈ lw_all := lw_g (lw_at lw_m3 105 rfl) rfl
theorem q616 : (Jvm.Cond.methodLink "ArrayMakerLaw" (26 : Nat) ({ cls := "ArrayMakerModel", name := "range", desc := "(II)I" } : Jvm.MethodName)) ∈ lw_all := lw_g (lw_at lw_m3 109 rfl) rfl
theorem q628 : (Jvm.Cond.methodLink "ArrayMakerLaw" (30 : Nat) ({ cls := "ArrayMakerModel", name := "shapeless", desc := "()I" } : Jvm.MethodName)) ∈ lw_all := lw_g (lw_at lw_m3 121 rfl) rfl
theorem q632 : (Jvm.Cond.methodLink "ArrayMakerLaw" (35 : Nat) ({ cls := "ArrayMakerModel", name := "make", desc := "(I)I" } : Jvm.MethodName)) ∈ lw_all := lw_g (lw_at lw_m3 125 rfl) rfl
theorem q666 : (Jvm.Cond.methodLink "ArrayMakerLaw" (39 : Nat) ({ cls := "ArrayMakerModel", name := "raw", desc := "(II)I" } : Jvm.MethodName)) ∈ lw_all := lw_g (lw_at lw_m3 159 rfl) rfl
theorem q671 : (Jvm.Cond.methodLink "ArrayMakerLaw" (43 : Nat) ({ cls := "ArrayMakerModel", name := "see", desc := "(I)I" } : Jvm.MethodName)) ∈ lw_all := lw_g (lw_at lw_m3 164 rfl) rfl
theorem q683 : (Jvm.Cond.methodLink "ArrayMakerLaw" (47 : Nat) ({ cls := "ArrayMakerModel", name := "turn", desc := "(I)I" } : Jvm.MethodName)) ∈ lw_all := lw_g (lw_at lw_m3 176 rfl) rfl
theorem q691 : (Jvm.Cond.methodLink "ArrayMakerLaw" (51 : Nat) ({ cls := "ArrayMakerModel", name := "cut", desc := "(I)I" } : Jvm.MethodName)) ∈ lw_all := lw_g (lw_at lw_m3 184 rfl) rfl
theorem q706 : (Jvm.Cond.methodLink "ArrayMakerLaw" (55 : Nat) ({ cls := "ArrayMakerModel", name := "deep", desc := "(I)I" } : Jvm.MethodName)) ∈ lw_all := lw_g (lw_at lw_m3 199 rfl) rfl
theorem q710 : (Jvm.Cond.methodLink "ArrayMakerLaw" (59 : Nat) ({ cls := "ArrayMakerModel", name := "flat", desc := "(I)I" } : Jvm.MethodName)) ∈ lw_all := lw_g (lw_at lw_m3 203 rfl) rfl
theorem q718 : (Jvm.Cond.methodLink "ArrayMakerLaw" (64 : Nat) ({ cls := "ArrayMakerModel", name := "ragged", desc := "(III)I" } : Jvm.MethodName)) ∈ lw_all := lw_g (lw_at lw_m3 211 rfl) rfl
theorem q730 : (Jvm.Cond.methodLink "ArrayMakerLaw" (68 : Nat) ({ cls := "ArrayMakerModel", name := "without", desc := "(II)I" } : Jvm.MethodName)) ∈ lw_all := lw_g (lw_at lw_m3 223 rfl) rfl
theorem q734 : (Jvm.Cond.methodLink "ArrayMakerLaw" (73 : Nat) ({ cls := "ArrayMakerModel", name := "tie", desc := "(IIII)I" } : Jvm.MethodName)) ∈ lw_all := lw_g (lw_at lw_m3 227 rfl) rfl
theorem q738 : (Jvm.Cond.methodLink "ArrayMakerLaw" (78 : Nat) ({ cls := "ArrayMakerModel", name := "get", desc := "(IIII)J" } : Jvm.MethodName)) ∈ lw_all := lw_g (lw_at lw_m3 231 rfl) rfl
theorem q746 : (Jvm.Cond.methodLink "ArrayMakerLaw" (85 : Nat) ({ cls := "ArrayMakerModel", name := "put", desc := "(IIIIJ)I" } : Jvm.MethodName)) ∈ lw_all := lw_g (lw_at lw_m3 239 rfl) rfl
theorem q760 : (Jvm.Cond.methodLink "ArrayMakerLaw" (89 : Nat) ({ cls := "ArrayMakerModel", name := "empty", desc := "(IIII)I" } : Jvm.MethodName)) ∈ lw_all := lw_g (lw_at lw_m4 13 rfl) rfl
theorem q764 : (Jvm.Cond.methodLink "ArrayMakerLaw" (94 : Nat) ({ cls := "ArrayMakerModel", name := "pair", desc := "(IIIJ)I" } : Jvm.MethodName)) ∈ lw_all := lw_g (lw_at lw_m4 17 rfl) rfl
theorem q768 : (Jvm.Cond.methodLink "ArrayMakerLaw" (98 : Nat) ({ cls := "ArrayMakerModel", name := "gather", desc := "(II)I" } : Jvm.MethodName)) ∈ lw_all := lw_g (lw_at lw_m4 21 rfl) rfl
theorem q778 : (Jvm.Cond.methodLink "ArrayMakerLaw" (102 : Nat) ({ cls := "ArrayMakerModel", name := "join", desc := "(III)I" } : Jvm.MethodName)) ∈ lw_all := lw_g (lw_at lw_m4 31 rfl) rfl
theorem q782 : (Jvm.Cond.methodLink "ArrayMakerLaw" (107 : Nat) ({ cls := "ArrayMakerModel", name := "sum", desc := "(I)J" } : Jvm.MethodName)) ∈ lw_all := lw_g (lw_at lw_m4 35 rfl) rfl
theorem q790 : (Jvm.Cond.methodLink "ArrayMakerLaw" (111 : Nat) ({ cls := "ArrayMakerModel", name := "mean", desc := "(I)J" } : Jvm.MethodName)) ∈ lw_all := lw_g (lw_at lw_m4 43 rfl) rfl
theorem q794 : (Jvm.Cond.methodLink "ArrayMakerLaw" (115 : Nat) ({ cls := "ArrayMakerModel", name := "about", desc := "(II)I" } : Jvm.MethodName)) ∈ lw_all := lw_g (lw_at lw_m4 47 rfl) rfl
theorem q799 : (Jvm.Cond.methodLink "ArrayMakerLaw" (119 : Nat) ({ cls := "ArrayMakerModel", name := "same", desc := "(II)I" } : Jvm.MethodName)) ∈ lw_all := lw_g (lw_at lw_m4 52 rfl) rfl
theorem q803 : (Jvm.Cond.methodLink "ArrayMakerLaw" (123 : Nat) ({ cls := "ArrayMakerModel", name := "compare", desc := "(II)I" } : Jvm.MethodName)) ∈ lw_all := lw_g (lw_at lw_m4 56 rfl) rfl
theorem q807 : (Jvm.Cond.methodLink "ArrayMakerLaw" (127 : Nat) ({ cls := "ArrayMakerModel", name := "clear", desc := "()I" } : Jvm.MethodName)) ∈ lw_all := lw_g (lw_at lw_m4 60 rfl) rfl
theorem q811 : (Jvm.Cond.constantLong "ArrayMakerLaw" (79 : Nat) (4294967295 : Int64)) ∈ lw_all := lw_g (lw_at lw_m4 64 rfl) rfl
end
section
/-! ArrayMakerModel -/
set_option maxRecDepth 100000
def RX3 : String := "ArrayMakerModel"
def TX3 : u_T := fun k => match k with
  | 0 => ("ArrayMakerModel", "code", "I", false)
  | 1 => ("ArrayMakerModel", "which", "I", false)
  | 2 => ("ArrayMakerModel", "dimensions", "I", false)
  | 3 => ("ArrayMakerModel", "low", "[I", true)
  | 4 => ("ArrayMakerModel", "high", "[I", true)
  | 5 => ("ArrayMakerModel", "arrays", "I", false)
  | 6 => ("ArrayMakerModel", "kinds", "[I", true)
  | 7 => ("ArrayMakerModel", "ranks", "[I", true)
  | 8 => ("ArrayMakerModel", "lows", "[I", true)
  | 9 => ("ArrayMakerModel", "highs", "[I", true)
  | 10 => ("ArrayMakerModel", "rowOf", "[I", true)
  | 11 => ("ArrayMakerModel", "rows", "I", false)
  | 12 => ("ArrayMakerModel", "rowAt", "[I", true)
  | 13 => ("ArrayMakerModel", "rowSize", "[I", true)
  | 14 => ("ArrayMakerModel", "pooled", "I", false)
  | 15 => ("ArrayMakerModel", "pool", "[J", true)
  | 16 => ("ArrayMakerModel", "hasBox", "[Z", true)
  | 17 => ("ArrayMakerModel", "slots", "I", false)
  | 18 => ("ArrayMakerModel", "slot", "[I", true)
  | 19 => ("ArrayMakerModel", "lines", "I", false)
  | 20 => ("ArrayMakerModel", "lineI", "[I", true)
  | 21 => ("ArrayMakerModel", "lineJ", "[I", true)
  | 22 => ("ArrayMakerModel", "lineK", "[I", true)
  | 23 => ("ArrayMakerModel", "lineV", "[J", true)
  | _ => ("ArrayMakerModel", "beyond", "I", false)
def tyX3 : Nat → FieldType := fun k => match k with
  | 0 => .int
  | 1 => .int
  | 2 => .int
  | 3 => .array .int
  | 4 => .array .int
  | 5 => .int
  | 6 => .array .int
  | 7 => .array .int
  | 8 => .array .int
  | 9 => .array .int
  | 10 => .array .int
  | 11 => .int
  | 12 => .array .int
  | 13 => .array .int
  | 14 => .int
  | 15 => .array .long
  | 16 => .array .boolean
  | 17 => .int
  | 18 => .array .int
  | 19 => .int
  | 20 => .array .int
  | 21 => .array .int
  | 22 => .array .int
  | 23 => .array .long
  | _ => .int
abbrev wsX30 : List Cond := u_ws RX3 TX3 25
set_option maxRecDepth 100000 in
theorem nmX3 : ∀ a, a < 25 → ∀ b, b < 25 → a ≠ b → (TX3 a).2.1 ≠ (TX3 b).2.1 := by decide +kernel
set_option maxRecDepth 100000 in
theorem tyX3_ok : ∀ k, k < 25 → parseFieldDescriptor (TX3 k).2.2.1 = some (tyX3 k) := by decide +kernel
abbrev cX3_init : ByteArray := prog_6_method_1_code
def yX3_init : MethodName := ⟨RX3, "<init>", "()V"⟩
def dkwX3_init_5 : List UInt8 := [188, 10, 181, 0, 56, 42, 16, 30, 188, 10, 181, 0, 59, 42, 16, 30, 188, 11, 181, 0, 62, 177]
abbrev dktX3_init_5 : List UInt8 := dkwX3_init_5 ++ []
def dkwX3_init_4 : List UInt8 := [181, 0, 46, 42, 17, 47, 68, 188, 10, 181, 0, 50, 42, 16, 30, 188, 10, 181, 0, 53, 42, 16, 30]
abbrev dktX3_init_4 : List UInt8 := dkwX3_init_4 ++ dktX3_init_5
def dkwX3_init_3 : List UInt8 := [42, 17, 50, 200, 188, 10, 181, 0, 38, 42, 18, 41, 188, 11, 181, 0, 42, 42, 18, 41, 188, 4]
abbrev dktX3_init_3 : List UInt8 := dkwX3_init_3 ++ dktX3_init_4
def dkwX3_init_2 : List UInt8 := [16, 72, 188, 10, 181, 0, 29, 42, 16, 24, 188, 10, 181, 0, 32, 42, 17, 50, 200, 188, 10, 181, 0, 35]
abbrev dktX3_init_2 : List UInt8 := dkwX3_init_2 ++ dktX3_init_3
def dkwX3_init_1 : List UInt8 := [16, 24, 188, 10, 181, 0, 20, 42, 16, 24, 188, 10, 181, 0, 23, 42, 16, 72, 188, 10, 181, 0, 26, 42]
abbrev dktX3_init_1 : List UInt8 := dkwX3_init_1 ++ dktX3_init_2
def dkwX3_init_0 : List UInt8 := [42, 183, 0, 1, 42, 2, 181, 0, 9, 42, 6, 188, 10, 181, 0, 13, 42, 6, 188, 10, 181, 0, 17, 42]
abbrev dktX3_init_0 : List UInt8 := dkwX3_init_0 ++ dktX3_init_1
theorem dksX3_init_0 : cX3_init.data.toList.drop 0 = dktX3_init_0 := by decide +kernel
theorem dksX3_init_1 : cX3_init.data.toList.drop 24 = dktX3_init_1 := dk_seg dksX3_init_0 24 rfl rfl
theorem dksX3_init_2 : cX3_init.data.toList.drop 48 = dktX3_init_2 := dk_seg dksX3_init_1 24 rfl rfl
theorem dksX3_init_3 : cX3_init.data.toList.drop 72 = dktX3_init_3 := dk_seg dksX3_init_2 24 rfl rfl
theorem dksX3_init_4 : cX3_init.data.toList.drop 94 = dktX3_init_4 := dk_seg dksX3_init_3 22 rfl rfl
theorem dksX3_init_5 : cX3_init.data.toList.drop 117 = dktX3_init_5 := dk_seg dksX3_init_4 23 rfl rfl
theorem dX3_init_0 : decode cX3_init 0 = .ok (.aload_n 0, 1) := dk_42 (dk_at dksX3_init_0 0 rfl rfl)
theorem dX3_init_1 : decode cX3_init 1 = .ok (.invokespecial 1, 3) := dk_183 0 1 (dk_at dksX3_init_0 1 rfl rfl)
theorem dX3_init_4 : decode cX3_init 4 = .ok (.aload_n 0, 1) := dk_42 (dk_at dksX3_init_0 4 rfl rfl)
theorem dX3_init_5 : decode cX3_init 5 = .ok (.iconst (-1), 1) := dk_2 (dk_at dksX3_init_0 5 rfl rfl)
theorem dX3_init_6 : decode cX3_init 6 = .ok (.putfield 9, 3) := dk_181 0 9 (dk_at dksX3_init_0 6 rfl rfl)
theorem dX3_init_9 : decode cX3_init 9 = .ok (.aload_n 0, 1) := dk_42 (dk_at dksX3_init_0 9 rfl rfl)
theorem dX3_init_10 : decode cX3_init 10 = .ok (.iconst 3, 1) := dk_6 (dk_at dksX3_init_0 10 rfl rfl)
theorem dX3_init_11 : decode cX3_init 11 = .ok (.newarray .int, 2) := dk_188_10 (dk_at dksX3_init_0 11 rfl rfl)
theorem dX3_init_13 : decode cX3_init 13 = .ok (.putfield 13, 3) := dk_181 0 13 (dk_at dksX3_init_0 13 rfl rfl)
theorem dX3_init_16 : decode cX3_init 16 = .ok (.aload_n 0, 1) := dk_42 (dk_at dksX3_init_0 16 rfl rfl)
theorem dX3_init_17 : decode cX3_init 17 = .ok (.iconst 3, 1) := dk_6 (dk_at dksX3_init_0 17 rfl rfl)
theorem dX3_init_18 : decode cX3_init 18 = .ok (.newarray .int, 2) := dk_188_10 (dk_at dksX3_init_0 18 rfl rfl)
theorem dX3_init_20 : decode cX3_init 20 = .ok (.putfield 17, 3) := dk_181 0 17 (dk_at dksX3_init_0 20 rfl rfl)
theorem dX3_init_23 : decode cX3_init 23 = .ok (.aload_n 0, 1) := dk_42 (dk_at dksX3_init_0 23 rfl rfl)
theorem dX3_init_24 : decode cX3_init 24 = .ok (.bipush 24, 2) := dk_16 24 (dk_at dksX3_init_1 0 rfl rfl)
theorem dX3_init_26 : decode cX3_init 26 = .ok (.newarray .int, 2) := dk_188_10 (dk_at dksX3_init_1 2 rfl rfl)
theorem dX3_init_28 : decode cX3_init 28 = .ok (.putfield 20, 3) := dk_181 0 20 (dk_at dksX3_init_1 4 rfl rfl)
theorem dX3_init_31 : decode cX3_init 31 = .ok (.aload_n 0, 1) := dk_42 (dk_at dksX3_init_1 7 rfl rfl)
theorem dX3_init_32 : decode cX3_init 32 = .ok (.bipush 24, 2) := dk_16 24 (dk_at dksX3_init_1 8 rfl rfl)
theorem dX3_init_34 : decode cX3_init 34 = .ok (.newarray .int, 2) := dk_188_10 (dk_at dksX3_init_1 10 rfl rfl)
theorem dX3_init_36 : decode cX3_init 36 = .ok (.putfield 23, 3) := dk_181 0 23 (dk_at dksX3_init_1 12 rfl rfl)
theorem dX3_init_39 : decode cX3_init 39 = .ok (.aload_n 0, 1) := dk_42 (dk_at dksX3_init_1 15 rfl rfl)
theorem dX3_init_40 : decode cX3_init 40 = .ok (.bipush 72, 2) := dk_16 72 (dk_at dksX3_init_1 16 rfl rfl)
theorem dX3_init_42 : decode cX3_init 42 = .ok (.newarray .int, 2) := dk_188_10 (dk_at dksX3_init_1 18 rfl rfl)
theorem dX3_init_44 : decode cX3_init 44 = .ok (.putfield 26, 3) := dk_181 0 26 (dk_at dksX3_init_1 20 rfl rfl)
theorem dX3_init_47 : decode cX3_init 47 = .ok (.aload_n 0, 1) := dk_42 (dk_at dksX3_init_1 23 rfl rfl)
theorem dX3_init_48 : decode cX3_init 48 = .ok (.bipush 72, 2) := dk_16 72 (dk_at dksX3_init_2 0 rfl rfl)
theorem dX3_init_50 : decode cX3_init 50 = .ok (.newarray .int, 2) := dk_188_10 (dk_at dksX3_init_2 2 rfl rfl)
theorem dX3_init_52 : decode cX3_init 52 = .ok (.putfield 29, 3) := dk_181 0 29 (dk_at dksX3_init_2 4 rfl rfl)
theorem dX3_init_55 : decode cX3_init 55 = .ok (.aload_n 0, 1) := dk_42 (dk_at dksX3_init_2 7 rfl rfl)
theorem dX3_init_56 : decode cX3_init 56 = .ok (.bipush 24, 2) := dk_16 24 (dk_at dksX3_init_2 8 rfl rfl)
theorem dX3_init_58 : decode cX3_init 58 = .ok (.newarray .int, 2) := dk_188_10 (dk_at dksX3_init_2 10 rfl rfl)
theorem dX3_init_60 : decode cX3_init 60 = .ok (.putfield 32, 3) := dk_181 0 32 (dk_at dksX3_init_2 12 rfl rfl)
theorem dX3_init_63 : decode cX3_init 63 = .ok (.aload_n 0, 1) := dk_42 (dk_at dksX3_init_2 15 rfl rfl)
theorem dX3_init_64 : decode cX3_init 64 = .ok (.sipush 13000, 3) := dk_17 50 200 (dk_at dksX3_init_2 16 rfl rfl)
theorem dX3_init_67 : decode cX3_init 67 = .ok (.newarray .int, 2) := dk_188_10 (dk_at dksX3_init_2 19 rfl rfl)
theorem dX3_init_69 : decode cX3_init 69 = .ok (.putfield 35, 3) := dk_181 0 35 (dk_at dksX3_init_2 21 rfl rfl)
theorem dX3_init_72 : decode cX3_init 72 = .ok (.aload_n 0, 1) := dk_42 (dk_at dksX3_init_3 0 rfl rfl)
theorem dX3_init_73 : decode cX3_init 73 = .ok (.sipush 13000, 3) := dk_17 50 200 (dk_at dksX3_init_3 1 rfl rfl)
theorem dX3_init_76 : decode cX3_init 76 = .ok (.newarray .int, 2) := dk_188_10 (dk_at dksX3_init_3 4 rfl rfl)
theorem dX3_init_78 : decode cX3_init 78 = .ok (.putfield 38, 3) := dk_181 0 38 (dk_at dksX3_init_3 6 rfl rfl)
theorem dX3_init_81 : decode cX3_init 81 = .ok (.aload_n 0, 1) := dk_42 (dk_at dksX3_init_3 9 rfl rfl)
theorem dX3_init_82 : decode cX3_init 82 = .ok (.ldc 41, 2) := dk_18 41 (dk_at dksX3_init_3 10 rfl rfl)
theorem dX3_init_84 : decode cX3_init 84 = .ok (.newarray .long, 2) := dk_188_11 (dk_at dksX3_init_3 12 rfl rfl)
theorem dX3_init_86 : decode cX3_init 86 = .ok (.putfield 42, 3) := dk_181 0 42 (dk_at dksX3_init_3 14 rfl rfl)
theorem dX3_init_89 : decode cX3_init 89 = .ok (.aload_n 0, 1) := dk_42 (dk_at dksX3_init_3 17 rfl rfl)
theorem dX3_init_90 : decode cX3_init 90 = .ok (.ldc 41, 2) := dk_18 41 (dk_at dksX3_init_3 18 rfl rfl)
theorem dX3_init_92 : decode cX3_init 92 = .ok (.newarray .boolean, 2) := dk_188_4 (dk_at dksX3_init_3 20 rfl rfl)
theorem dX3_init_94 : decode cX3_init 94 = .ok (.putfield 46, 3) := dk_181 0 46 (dk_at dksX3_init_4 0 rfl rfl)
theorem dX3_init_97 : decode cX3_init 97 = .ok (.aload_n 0, 1) := dk_42 (dk_at dksX3_init_4 3 rfl rfl)
theorem dX3_init_98 : decode cX3_init 98 = .ok (.sipush 12100, 3) := dk_17 47 68 (dk_at dksX3_init_4 4 rfl rfl)
theorem dX3_init_101 : decode cX3_init 101 = .ok (.newarray .int, 2) := dk_188_10 (dk_at dksX3_init_4 7 rfl rfl)
theorem dX3_init_103 : decode cX3_init 103 = .ok (.putfield 50, 3) := dk_181 0 50 (dk_at dksX3_init_4 9 rfl rfl)
theorem dX3_init_106 : decode cX3_init 106 = .ok (.aload_n 0, 1) := dk_42 (dk_at dksX3_init_4 12 rfl rfl)
theorem dX3_init_107 : decode cX3_init 107 = .ok (.bipush 30, 2) := dk_16 30 (dk_at dksX3_init_4 13 rfl rfl)
theorem dX3_init_109 : decode cX3_init 109 = .ok (.newarray .int, 2) := dk_188_10 (dk_at dksX3_init_4 15 rfl rfl)
theorem dX3_init_111 : decode cX3_init 111 = .ok (.putfield 53, 3) := dk_181 0 53 (dk_at dksX3_init_4 17 rfl rfl)
theorem dX3_init_114 : decode cX3_init 114 = .ok (.aload_n 0, 1) := dk_42 (dk_at dksX3_init_4 20 rfl rfl)
theorem dX3_init_115 : decode cX3_init 115 = .ok (.bipush 30, 2) := dk_16 30 (dk_at dksX3_init_4 21 rfl rfl)
theorem dX3_init_117 : decode cX3_init 117 = .ok (.newarray .int, 2) := dk_188_10 (dk_at dksX3_init_5 0 rfl rfl)
theorem dX3_init_119 : decode cX3_init 119 = .ok (.putfield 56, 3) := dk_181 0 56 (dk_at dksX3_init_5 2 rfl rfl)
theorem dX3_init_122 : decode cX3_init 122 = .ok (.aload_n 0, 1) := dk_42 (dk_at dksX3_init_5 5 rfl rfl)
theorem dX3_init_123 : decode cX3_init 123 = .ok (.bipush 30, 2) := dk_16 30 (dk_at dksX3_init_5 6 rfl rfl)
theorem dX3_init_125 : decode cX3_init 125 = .ok (.newarray .int, 2) := dk_188_10 (dk_at dksX3_init_5 8 rfl rfl)
theorem dX3_init_127 : decode cX3_init 127 = .ok (.putfield 59, 3) := dk_181 0 59 (dk_at dksX3_init_5 10 rfl rfl)
theorem dX3_init_130 : decode cX3_init 130 = .ok (.aload_n 0, 1) := dk_42 (dk_at dksX3_init_5 13 rfl rfl)
theorem dX3_init_131 : decode cX3_init 131 = .ok (.bipush 30, 2) := dk_16 30 (dk_at dksX3_init_5 14 rfl rfl)
theorem dX3_init_133 : decode cX3_init 133 = .ok (.newarray .long, 2) := dk_188_11 (dk_at dksX3_init_5 16 rfl rfl)
theorem dX3_init_135 : decode cX3_init 135 = .ok (.putfield 62, 3) := dk_181 0 62 (dk_at dksX3_init_5 18 rfl rfl)
theorem dX3_init_138 : decode cX3_init 138 = .ok (.return_, 1) := dk_177 (dk_at dksX3_init_5 21 rfl rfl)
abbrev cX3_code : ByteArray := prog_6_method_4_code
def yX3_code : MethodName := ⟨RX3, "code", "()I"⟩
theorem dX3_code_0 : decode cX3_code 0 = .ok (.aload_n 0, 1) := by decide +kernel
theorem dX3_code_1 : decode cX3_code 1 = .ok (.getfield 65, 3) := by decide +kernel
theorem dX3_code_4 : decode cX3_code 4 = .ok (.ireturn, 1) := by decide +kernel
abbrev cX3_which : ByteArray := prog_6_method_5_code
def yX3_which : MethodName := ⟨RX3, "which", "()I"⟩
theorem dX3_which_0 : decode cX3_which 0 = .ok (.aload_n 0, 1) := by decide +kernel
theorem dX3_which_1 : decode cX3_which 1 = .ok (.getfield 9, 3) := by decide +kernel
theorem dX3_which_4 : decode cX3_which 4 = .ok (.ireturn, 1) := by decide +kernel
abbrev cX3_range : ByteArray := prog_6_method_9_code
def yX3_range : MethodName := ⟨RX3, "range", "(II)I"⟩
def dkwX3_range_2 : List UInt8 := [180, 0, 72, 182, 0, 75, 172]
abbrev dktX3_range_2 : List UInt8 := dkwX3_range_2 ++ []
def dkwX3_range_1 : List UInt8 := [79, 42, 180, 0, 17, 42, 180, 0, 72, 28, 79, 42, 89, 180, 0, 72, 4, 96, 181, 0, 72, 42, 42]
abbrev dktX3_range_1 : List UInt8 := dkwX3_range_1 ++ dktX3_range_2
def dkwX3_range_0 : List UInt8 := [42, 180, 0, 72, 6, 160, 0, 10, 42, 16, 8, 182, 0, 68, 172, 42, 180, 0, 13, 42, 180, 0, 72, 27]
abbrev dktX3_range_0 : List UInt8 := dkwX3_range_0 ++ dktX3_range_1
theorem dksX3_range_0 : cX3_range.data.toList.drop 0 = dktX3_range_0 := by decide +kernel
theorem dksX3_range_1 : cX3_range.data.toList.drop 24 = dktX3_range_1 := dk_seg dksX3_range_0 24 rfl rfl
theorem dksX3_range_2 : cX3_range.data.toList.drop 47 = dktX3_range_2 := dk_seg dksX3_range_1 23 rfl rfl
theorem dX3_range_0 : decode cX3_range 0 = .ok (.aload_n 0, 1) := dk_42 (dk_at dksX3_range_0 0 rfl rfl)
theorem dX3_range_1 : decode cX3_range 1 = .ok (.getfield 72, 3) := dk_180 0 72 (dk_at dksX3_range_0 1 rfl rfl)
theorem dX3_range_4 : decode cX3_range 4 = .ok (.iconst 3, 1) := dk_6 (dk_at dksX3_range_0 4 rfl rfl)
theorem dX3_range_5 : decode cX3_range 5 = .ok (.if_icmp .ne 10, 3) := dk_160 0 10 (dk_at dksX3_range_0 5 rfl rfl)
theorem dX3_range_8 : decode cX3_range 8 = .ok (.aload_n 0, 1) := dk_42 (dk_at dksX3_range_0 8 rfl rfl)
theorem dX3_range_9 : decode cX3_range 9 = .ok (.bipush 8, 2) := dk_16 8 (dk_at dksX3_range_0 9 rfl rfl)
theorem dX3_range_11 : decode cX3_range 11 = .ok (.invokevirtual 68, 3) := dk_182 0 68 (dk_at dksX3_range_0 11 rfl rfl)
theorem dX3_range_14 : decode cX3_range 14 = .ok (.ireturn, 1) := dk_172 (dk_at dksX3_range_0 14 rfl rfl)
theorem dX3_range_15 : decode cX3_range 15 = .ok (.aload_n 0, 1) := dk_42 (dk_at dksX3_range_0 15 rfl rfl)
theorem dX3_range_16 : decode cX3_range 16 = .ok (.getfield 13, 3) := dk_180 0 13 (dk_at dksX3_range_0 16 rfl rfl)
theorem dX3_range_19 : decode cX3_range 19 = .ok (.aload_n 0, 1) := dk_42 (dk_at dksX3_range_0 19 rfl rfl)
theorem dX3_range_20 : decode cX3_range 20 = .ok (.getfield 72, 3) := dk_180 0 72 (dk_at dksX3_range_0 20 rfl rfl)
theorem dX3_range_23 : decode cX3_range 23 = .ok (.iload_n 1, 1) := dk_27 (dk_at dksX3_range_0 23 rfl rfl)
theorem dX3_range_24 : decode cX3_range 24 = .ok (.iastore, 1) := dk_79 (dk_at dksX3_range_1 0 rfl rfl)
theorem dX3_range_25 : decode cX3_range 25 = .ok (.aload_n 0, 1) := dk_42 (dk_at dksX3_range_1 1 rfl rfl)
theorem dX3_range_26 : decode cX3_range 26 = .ok (.getfield 17, 3) := dk_180 0 17 (dk_at dksX3_range_1 2 rfl rfl)
theorem dX3_range_29 : decode cX3_range 29 = .ok (.aload_n 0, 1) := dk_42 (dk_at dksX3_range_1 5 rfl rfl)
theorem dX3_range_30 : decode cX3_range 30 = .ok (.getfield 72, 3) := dk_180 0 72 (dk_at dksX3_range_1 6 rfl rfl)
theorem dX3_range_33 : decode cX3_range 33 = .ok (.iload_n 2, 1) := dk_28 (dk_at dksX3_range_1 9 rfl rfl)
theorem dX3_range_34 : decode cX3_range 34 = .ok (.iastore, 1) := dk_79 (dk_at dksX3_range_1 10 rfl rfl)
theorem dX3_range_35 : decode cX3_range 35 = .ok (.aload_n 0, 1) := dk_42 (dk_at dksX3_range_1 11 rfl rfl)
theorem dX3_range_36 : decode cX3_range 36 = .ok (.dup, 1) := dk_89 (dk_at dksX3_range_1 12 rfl rfl)
theorem dX3_range_37 : decode cX3_range 37 = .ok (.getfield 72, 3) := dk_180 0 72 (dk_at dksX3_range_1 13 rfl rfl)
theorem dX3_range_40 : decode cX3_range 40 = .ok (.iconst 1, 1) := dk_4 (dk_at dksX3_range_1 16 rfl rfl)
theorem dX3_range_41 : decode cX3_range 41 = .ok (.iadd, 1) := dk_96 (dk_at dksX3_range_1 17 rfl rfl)
theorem dX3_range_42 : decode cX3_range 42 = .ok (.putfield 72, 3) := dk_181 0 72 (dk_at dksX3_range_1 18 rfl rfl)
theorem dX3_range_45 : decode cX3_range 45 = .ok (.aload_n 0, 1) := dk_42 (dk_at dksX3_range_1 21 rfl rfl)
theorem dX3_range_46 : decode cX3_range 46 = .ok (.aload_n 0, 1) := dk_42 (dk_at dksX3_range_1 22 rfl rfl)
theorem dX3_range_47 : decode cX3_range 47 = .ok (.getfield 72, 3) := dk_180 0 72 (dk_at dksX3_range_2 0 rfl rfl)
theorem dX3_range_50 : decode cX3_range 50 = .ok (.invokevirtual 75, 3) := dk_182 0 75 (dk_at dksX3_range_2 3 rfl rfl)
theorem dX3_range_53 : decode cX3_range 53 = .ok (.ireturn, 1) := dk_172 (dk_at dksX3_range_2 6 rfl rfl)
abbrev cX3_no : ByteArray := prog_6_method_6_code
def yX3_no : MethodName := ⟨RX3, "no", "(I)I"⟩
def dkwX3_no_0 : List UInt8 := [42, 27, 181, 0, 65, 3, 172]
abbrev dktX3_no_0 : List UInt8 := dkwX3_no_0 ++ []
theorem dksX3_no_0 : cX3_no.data.toList.drop 0 = dktX3_no_0 := by decide +kernel
theorem dX3_no_0 : decode cX3_no 0 = .ok (.aload_n 0, 1) := dk_42 (dk_at dksX3_no_0 0 rfl rfl)
theorem dX3_no_1 : decode cX3_no 1 = .ok (.iload_n 1, 1) := dk_27 (dk_at dksX3_no_0 1 rfl rfl)
theorem dX3_no_2 : decode cX3_no 2 = .ok (.putfield 65, 3) := dk_181 0 65 (dk_at dksX3_no_0 2 rfl rfl)
theorem dX3_no_5 : decode cX3_no 5 = .ok (.iconst 0, 1) := dk_3 (dk_at dksX3_no_0 5 rfl rfl)
theorem dX3_no_6 : decode cX3_no 6 = .ok (.ireturn, 1) := dk_172 (dk_at dksX3_no_0 6 rfl rfl)
abbrev cX3_yes : ByteArray := prog_6_method_8_code
def yX3_yes : MethodName := ⟨RX3, "yes", "(I)I"⟩
def dkwX3_yes_0 : List UInt8 := [42, 3, 181, 0, 65, 27, 172]
abbrev dktX3_yes_0 : List UInt8 := dkwX3_yes_0 ++ []
theorem dksX3_yes_0 : cX3_yes.data.toList.drop 0 = dktX3_yes_0 := by decide +kernel
theorem dX3_yes_0 : decode cX3_yes 0 = .ok (.aload_n 0, 1) := dk_42 (dk_at dksX3_yes_0 0 rfl rfl)
theorem dX3_yes_1 : decode cX3_yes 1 = .ok (.iconst 0, 1) := dk_3 (dk_at dksX3_yes_0 1 rfl rfl)
theorem dX3_yes_2 : decode cX3_yes 2 = .ok (.putfield 65, 3) := dk_181 0 65 (dk_at dksX3_yes_0 2 rfl rfl)
theorem dX3_yes_5 : decode cX3_yes 5 = .ok (.iload_n 1, 1) := dk_27 (dk_at dksX3_yes_0 5 rfl rfl)
theorem dX3_yes_6 : decode cX3_yes 6 = .ok (.ireturn, 1) := dk_172 (dk_at dksX3_yes_0 6 rfl rfl)
abbrev cX3_shapeless : ByteArray := prog_6_method_10_code
def yX3_shapeless : MethodName := ⟨RX3, "shapeless", "()I"⟩
def dkwX3_shapeless_0 : List UInt8 := [42, 180, 0, 72, 60, 42, 3, 181, 0, 72, 42, 27, 182, 0, 75, 172]
abbrev dktX3_shapeless_0 : List UInt8 := dkwX3_shapeless_0 ++ []
theorem dksX3_shapeless_0 : cX3_shapeless.data.toList.drop 0 = dktX3_shapeless_0 := by decide +kernel
theorem dX3_shapeless_0 : decode cX3_shapeless 0 = .ok (.aload_n 0, 1) := dk_42 (dk_at dksX3_shapeless_0 0 rfl rfl)
theorem dX3_shapeless_1 : decode cX3_shapeless 1 = .ok (.getfield 72, 3) := dk_180 0 72 (dk_at dksX3_shapeless_0 1 rfl rfl)
theorem dX3_shapeless_4 : decode cX3_shapeless 4 = .ok (.istore_n 1, 1) := dk_60 (dk_at dksX3_shapeless_0 4 rfl rfl)
theorem dX3_shapeless_5 : decode cX3_shapeless 5 = .ok (.aload_n 0, 1) := dk_42 (dk_at dksX3_shapeless_0 5 rfl rfl)
theorem dX3_shapeless_6 : decode cX3_shapeless 6 = .ok (.iconst 0, 1) := dk_3 (dk_at dksX3_shapeless_0 6 rfl rfl)
theorem dX3_shapeless_7 : decode cX3_shapeless 7 = .ok (.putfield 72, 3) := dk_181 0 72 (dk_at dksX3_shapeless_0 7 rfl rfl)
theorem dX3_shapeless_10 : decode cX3_shapeless 10 = .ok (.aload_n 0, 1) := dk_42 (dk_at dksX3_shapeless_0 10 rfl rfl)
theorem dX3_shapeless_11 : decode cX3_shapeless 11 = .ok (.iload_n 1, 1) := dk_27 (dk_at dksX3_shapeless_0 11 rfl rfl)
theorem dX3_shapeless_12 : decode cX3_shapeless 12 = .ok (.invokevirtual 75, 3) := dk_182 0 75 (dk_at dksX3_shapeless_0 12 rfl rfl)
theorem dX3_shapeless_15 : decode cX3_shapeless 15 = .ok (.ireturn, 1) := dk_172 (dk_at dksX3_shapeless_0 15 rfl rfl)
abbrev cX3_make : ByteArray := prog_6_method_19_code
def yX3_make : MethodName := ⟨RX3, "make", "(I)I"⟩
def dkwX3_make_6 : List UInt8 := [182, 0, 75, 172]
abbrev dktX3_make_6 : List UInt8 := dkwX3_make_6 ++ []
def dkwX3_make_5 : List UInt8 := [182, 0, 125, 167, 0, 14, 42, 180, 0, 32, 29, 42, 28, 182, 0, 111, 79, 42, 3, 181, 0, 72, 42, 29]
abbrev dktX3_make_5 : List UInt8 := dkwX3_make_5 ++ dktX3_make_6
def dkwX3_make_4 : List UInt8 := [160, 0, 10, 42, 16, 8, 182, 0, 68, 172, 42, 27, 2, 182, 0, 121, 62, 27, 7, 160, 0, 11, 42, 29]
abbrev dktX3_make_4 : List UInt8 := dkwX3_make_4 ++ dktX3_make_5
def dkwX3_make_3 : List UInt8 := [184, 0, 78, 20, 0, 82, 148, 158, 0, 9, 42, 8, 182, 0, 68, 172, 42, 180, 0, 98, 16, 24]
abbrev dktX3_make_3 : List UInt8 := dkwX3_make_3 ++ dktX3_make_4
def dkwX3_make_2 : List UInt8 := [17, 1, 244, 163, 0, 30, 27, 7, 160, 0, 31, 42, 180, 0, 13, 3, 46, 42, 180, 0, 17, 3, 46]
abbrev dktX3_make_2 : List UInt8 := dkwX3_make_2 ++ dktX3_make_3
def dkwX3_make_1 : List UInt8 := [160, 0, 18, 42, 180, 0, 72, 5, 159, 0, 10, 42, 16, 9, 182, 0, 68, 172, 42, 182, 0, 117, 61, 28]
abbrev dktX3_make_1 : List UInt8 := dkwX3_make_1 ++ dktX3_make_2
def dkwX3_make_0 : List UInt8 := [27, 133, 9, 20, 0, 114, 184, 0, 101, 154, 0, 6, 18, 116, 172, 42, 180, 0, 72, 153, 0, 16, 27, 7]
abbrev dktX3_make_0 : List UInt8 := dkwX3_make_0 ++ dktX3_make_1
theorem dksX3_make_0 : cX3_make.data.toList.drop 0 = dktX3_make_0 := by decide +kernel
theorem dksX3_make_1 : cX3_make.data.toList.drop 24 = dktX3_make_1 := dk_seg dksX3_make_0 24 rfl rfl
theorem dksX3_make_2 : cX3_make.data.toList.drop 48 = dktX3_make_2 := dk_seg dksX3_make_1 24 rfl rfl
theorem dksX3_make_3 : cX3_make.data.toList.drop 71 = dktX3_make_3 := dk_seg dksX3_make_2 23 rfl rfl
theorem dksX3_make_4 : cX3_make.data.toList.drop 93 = dktX3_make_4 := dk_seg dksX3_make_3 22 rfl rfl
theorem dksX3_make_5 : cX3_make.data.toList.drop 117 = dktX3_make_5 := dk_seg dksX3_make_4 24 rfl rfl
theorem dksX3_make_6 : cX3_make.data.toList.drop 141 = dktX3_make_6 := dk_seg dksX3_make_5 24 rfl rfl
theorem dX3_make_0 : decode cX3_make 0 = .ok (.iload_n 1, 1) := dk_27 (dk_at dksX3_make_0 0 rfl rfl)
theorem dX3_make_1 : decode cX3_make 1 = .ok (.i2l, 1) := dk_133 (dk_at dksX3_make_0 1 rfl rfl)
theorem dX3_make_2 : decode cX3_make 2 = .ok (.lconst 0, 1) := dk_9 (dk_at dksX3_make_0 2 rfl rfl)
theorem dX3_make_3 : decode cX3_make 3 = .ok (.ldc2_w 114, 3) := dk_20 0 114 (dk_at dksX3_make_0 3 rfl rfl)
theorem dX3_make_6 : decode cX3_make 6 = .ok (.invokestatic 101, 3) := dk_184 0 101 (dk_at dksX3_make_0 6 rfl rfl)
theorem dX3_make_9 : decode cX3_make 9 = .ok (.ifCond .ne 6, 3) := dk_154 0 6 (dk_at dksX3_make_0 9 rfl rfl)
theorem dX3_make_12 : decode cX3_make 12 = .ok (.ldc 116, 2) := dk_18 116 (dk_at dksX3_make_0 12 rfl rfl)
theorem dX3_make_14 : decode cX3_make 14 = .ok (.ireturn, 1) := dk_172 (dk_at dksX3_make_0 14 rfl rfl)
theorem dX3_make_15 : decode cX3_make 15 = .ok (.aload_n 0, 1) := dk_42 (dk_at dksX3_make_0 15 rfl rfl)
theorem dX3_make_16 : decode cX3_make 16 = .ok (.getfield 72, 3) := dk_180 0 72 (dk_at dksX3_make_0 16 rfl rfl)
theorem dX3_make_19 : decode cX3_make 19 = .ok (.ifCond .eq 16, 3) := dk_153 0 16 (dk_at dksX3_make_0 19 rfl rfl)
theorem dX3_make_22 : decode cX3_make 22 = .ok (.iload_n 1, 1) := dk_27 (dk_at dksX3_make_0 22 rfl rfl)
theorem dX3_make_23 : decode cX3_make 23 = .ok (.iconst 4, 1) := dk_7 (dk_at dksX3_make_0 23 rfl rfl)
theorem dX3_make_24 : decode cX3_make 24 = .ok (.if_icmp .ne 18, 3) := dk_160 0 18 (dk_at dksX3_make_1 0 rfl rfl)
theorem dX3_make_27 : decode cX3_make 27 = .ok (.aload_n 0, 1) := dk_42 (dk_at dksX3_make_1 3 rfl rfl)
theorem dX3_make_28 : decode cX3_make 28 = .ok (.getfield 72, 3) := dk_180 0 72 (dk_at dksX3_make_1 4 rfl rfl)
theorem dX3_make_31 : decode cX3_make 31 = .ok (.iconst 2, 1) := dk_5 (dk_at dksX3_make_1 7 rfl rfl)
theorem dX3_make_32 : decode cX3_make 32 = .ok (.if_icmp .eq 10, 3) := dk_159 0 10 (dk_at dksX3_make_1 8 rfl rfl)
theorem dX3_make_35 : decode cX3_make 35 = .ok (.aload_n 0, 1) := dk_42 (dk_at dksX3_make_1 11 rfl rfl)
theorem dX3_make_36 : decode cX3_make 36 = .ok (.bipush 9, 2) := dk_16 9 (dk_at dksX3_make_1 12 rfl rfl)
theorem dX3_make_38 : decode cX3_make 38 = .ok (.invokevirtual 68, 3) := dk_182 0 68 (dk_at dksX3_make_1 14 rfl rfl)
theorem dX3_make_41 : decode cX3_make 41 = .ok (.ireturn, 1) := dk_172 (dk_at dksX3_make_1 17 rfl rfl)
theorem dX3_make_42 : decode cX3_make 42 = .ok (.aload_n 0, 1) := dk_42 (dk_at dksX3_make_1 18 rfl rfl)
theorem dX3_make_43 : decode cX3_make 43 = .ok (.invokevirtual 117, 3) := dk_182 0 117 (dk_at dksX3_make_1 19 rfl rfl)
theorem dX3_make_46 : decode cX3_make 46 = .ok (.istore_n 2, 1) := dk_61 (dk_at dksX3_make_1 22 rfl rfl)
theorem dX3_make_47 : decode cX3_make 47 = .ok (.iload_n 2, 1) := dk_28 (dk_at dksX3_make_1 23 rfl rfl)
theorem dX3_make_48 : decode cX3_make 48 = .ok (.sipush 500, 3) := dk_17 1 244 (dk_at dksX3_make_2 0 rfl rfl)
theorem dX3_make_51 : decode cX3_make 51 = .ok (.if_icmp .gt 30, 3) := dk_163 0 30 (dk_at dksX3_make_2 3 rfl rfl)
theorem dX3_make_54 : decode cX3_make 54 = .ok (.iload_n 1, 1) := dk_27 (dk_at dksX3_make_2 6 rfl rfl)
theorem dX3_make_55 : decode cX3_make 55 = .ok (.iconst 4, 1) := dk_7 (dk_at dksX3_make_2 7 rfl rfl)
theorem dX3_make_56 : decode cX3_make 56 = .ok (.if_icmp .ne 31, 3) := dk_160 0 31 (dk_at dksX3_make_2 8 rfl rfl)
theorem dX3_make_59 : decode cX3_make 59 = .ok (.aload_n 0, 1) := dk_42 (dk_at dksX3_make_2 11 rfl rfl)
theorem dX3_make_60 : decode cX3_make 60 = .ok (.getfield 13, 3) := dk_180 0 13 (dk_at dksX3_make_2 12 rfl rfl)
theorem dX3_make_63 : decode cX3_make 63 = .ok (.iconst 0, 1) := dk_3 (dk_at dksX3_make_2 15 rfl rfl)
theorem dX3_make_64 : decode cX3_make 64 = .ok (.iaload, 1) := dk_46 (dk_at dksX3_make_2 16 rfl rfl)
theorem dX3_make_65 : decode cX3_make 65 = .ok (.aload_n 0, 1) := dk_42 (dk_at dksX3_make_2 17 rfl rfl)
theorem dX3_make_66 : decode cX3_make 66 = .ok (.getfield 17, 3) := dk_180 0 17 (dk_at dksX3_make_2 18 rfl rfl)
theorem dX3_make_69 : decode cX3_make 69 = .ok (.iconst 0, 1) := dk_3 (dk_at dksX3_make_2 21 rfl rfl)
theorem dX3_make_70 : decode cX3_make 70 = .ok (.iaload, 1) := dk_46 (dk_at dksX3_make_2 22 rfl rfl)
theorem dX3_make_71 : decode cX3_make 71 = .ok (.invokestatic 78, 3) := dk_184 0 78 (dk_at dksX3_make_3 0 rfl rfl)
theorem dX3_make_74 : decode cX3_make 74 = .ok (.ldc2_w 82, 3) := dk_20 0 82 (dk_at dksX3_make_3 3 rfl rfl)
theorem dX3_make_77 : decode cX3_make 77 = .ok (.lcmp, 1) := dk_148 (dk_at dksX3_make_3 6 rfl rfl)
theorem dX3_make_78 : decode cX3_make 78 = .ok (.ifCond .le 9, 3) := dk_158 0 9 (dk_at dksX3_make_3 7 rfl rfl)
theorem dX3_make_81 : decode cX3_make 81 = .ok (.aload_n 0, 1) := dk_42 (dk_at dksX3_make_3 10 rfl rfl)
theorem dX3_make_82 : decode cX3_make 82 = .ok (.iconst 5, 1) := dk_8 (dk_at dksX3_make_3 11 rfl rfl)
theorem dX3_make_83 : decode cX3_make 83 = .ok (.invokevirtual 68, 3) := dk_182 0 68 (dk_at dksX3_make_3 12 rfl rfl)
theorem dX3_make_86 : decode cX3_make 86 = .ok (.ireturn, 1) := dk_172 (dk_at dksX3_make_3 15 rfl rfl)
theorem dX3_make_87 : decode cX3_make 87 = .ok (.aload_n 0, 1) := dk_42 (dk_at dksX3_make_3 16 rfl rfl)
theorem dX3_make_88 : decode cX3_make 88 = .ok (.getfield 98, 3) := dk_180 0 98 (dk_at dksX3_make_3 17 rfl rfl)
theorem dX3_make_91 : decode cX3_make 91 = .ok (.bipush 24, 2) := dk_16 24 (dk_at dksX3_make_3 20 rfl rfl)
theorem dX3_make_93 : decode cX3_make 93 = .ok (.if_icmp .ne 10, 3) := dk_160 0 10 (dk_at dksX3_make_4 0 rfl rfl)
theorem dX3_make_96 : decode cX3_make 96 = .ok (.aload_n 0, 1) := dk_42 (dk_at dksX3_make_4 3 rfl rfl)
theorem dX3_make_97 : decode cX3_make 97 = .ok (.bipush 8, 2) := dk_16 8 (dk_at dksX3_make_4 4 rfl rfl)
theorem dX3_make_99 : decode cX3_make 99 = .ok (.invokevirtual 68, 3) := dk_182 0 68 (dk_at dksX3_make_4 6 rfl rfl)
theorem dX3_make_102 : decode cX3_make 102 = .ok (.ireturn, 1) := dk_172 (dk_at dksX3_make_4 9 rfl rfl)
theorem dX3_make_103 : decode cX3_make 103 = .ok (.aload_n 0, 1) := dk_42 (dk_at dksX3_make_4 10 rfl rfl)
theorem dX3_make_104 : decode cX3_make 104 = .ok (.iload_n 1, 1) := dk_27 (dk_at dksX3_make_4 11 rfl rfl)
theorem dX3_make_105 : decode cX3_make 105 = .ok (.iconst (-1), 1) := dk_2 (dk_at dksX3_make_4 12 rfl rfl)
theorem dX3_make_106 : decode cX3_make 106 = .ok (.invokevirtual 121, 3) := dk_182 0 121 (dk_at dksX3_make_4 13 rfl rfl)
theorem dX3_make_109 : decode cX3_make 109 = .ok (.istore_n 3, 1) := dk_62 (dk_at dksX3_make_4 16 rfl rfl)
theorem dX3_make_110 : decode cX3_make 110 = .ok (.iload_n 1, 1) := dk_27 (dk_at dksX3_make_4 17 rfl rfl)
theorem dX3_make_111 : decode cX3_make 111 = .ok (.iconst 4, 1) := dk_7 (dk_at dksX3_make_4 18 rfl rfl)
theorem dX3_make_112 : decode cX3_make 112 = .ok (.if_icmp .ne 11, 3) := dk_160 0 11 (dk_at dksX3_make_4 19 rfl rfl)
theorem dX3_make_115 : decode cX3_make 115 = .ok (.aload_n 0, 1) := dk_42 (dk_at dksX3_make_4 22 rfl rfl)
theorem dX3_make_116 : decode cX3_make 116 = .ok (.iload_n 3, 1) := dk_29 (dk_at dksX3_make_4 23 rfl rfl)
theorem dX3_make_117 : decode cX3_make 117 = .ok (.invokevirtual 125, 3) := dk_182 0 125 (dk_at dksX3_make_5 0 rfl rfl)
theorem dX3_make_120 : decode cX3_make 120 = .ok (.goto 14, 3) := dk_167 0 14 (dk_at dksX3_make_5 3 rfl rfl)
theorem dX3_make_123 : decode cX3_make 123 = .ok (.aload_n 0, 1) := dk_42 (dk_at dksX3_make_5 6 rfl rfl)
theorem dX3_make_124 : decode cX3_make 124 = .ok (.getfield 32, 3) := dk_180 0 32 (dk_at dksX3_make_5 7 rfl rfl)
theorem dX3_make_127 : decode cX3_make 127 = .ok (.iload_n 3, 1) := dk_29 (dk_at dksX3_make_5 10 rfl rfl)
theorem dX3_make_128 : decode cX3_make 128 = .ok (.aload_n 0, 1) := dk_42 (dk_at dksX3_make_5 11 rfl rfl)
theorem dX3_make_129 : decode cX3_make 129 = .ok (.iload_n 2, 1) := dk_28 (dk_at dksX3_make_5 12 rfl rfl)
theorem dX3_make_130 : decode cX3_make 130 = .ok (.invokevirtual 111, 3) := dk_182 0 111 (dk_at dksX3_make_5 13 rfl rfl)
theorem dX3_make_133 : decode cX3_make 133 = .ok (.iastore, 1) := dk_79 (dk_at dksX3_make_5 16 rfl rfl)
theorem dX3_make_134 : decode cX3_make 134 = .ok (.aload_n 0, 1) := dk_42 (dk_at dksX3_make_5 17 rfl rfl)
theorem dX3_make_135 : decode cX3_make 135 = .ok (.iconst 0, 1) := dk_3 (dk_at dksX3_make_5 18 rfl rfl)
theorem dX3_make_136 : decode cX3_make 136 = .ok (.putfield 72, 3) := dk_181 0 72 (dk_at dksX3_make_5 19 rfl rfl)
theorem dX3_make_139 : decode cX3_make 139 = .ok (.aload_n 0, 1) := dk_42 (dk_at dksX3_make_5 22 rfl rfl)
theorem dX3_make_140 : decode cX3_make 140 = .ok (.iload_n 3, 1) := dk_29 (dk_at dksX3_make_5 23 rfl rfl)
theorem dX3_make_141 : decode cX3_make 141 = .ok (.invokevirtual 75, 3) := dk_182 0 75 (dk_at dksX3_make_6 0 rfl rfl)
theorem dX3_make_144 : decode cX3_make 144 = .ok (.ireturn, 1) := dk_172 (dk_at dksX3_make_6 3 rfl rfl)
abbrev cX3_within : ByteArray := prog_6_method_3_code
def yX3_within : MethodName := ⟨RX3, "within", "(JJJ)Z"⟩
def dkwX3_within_0 : List UInt8 := [30, 32, 148, 155, 0, 14, 30, 22, 4, 148, 157, 0, 7, 4, 167, 0, 4, 3, 172]
abbrev dktX3_within_0 : List UInt8 := dkwX3_within_0 ++ []
theorem dksX3_within_0 : cX3_within.data.toList.drop 0 = dktX3_within_0 := by decide +kernel
theorem dX3_within_0 : decode cX3_within 0 = .ok (.lload_n 0, 1) := dk_30 (dk_at dksX3_within_0 0 rfl rfl)
theorem dX3_within_1 : decode cX3_within 1 = .ok (.lload_n 2, 1) := dk_32 (dk_at dksX3_within_0 1 rfl rfl)
theorem dX3_within_2 : decode cX3_within 2 = .ok (.lcmp, 1) := dk_148 (dk_at dksX3_within_0 2 rfl rfl)
theorem dX3_within_3 : decode cX3_within 3 = .ok (.ifCond .lt 14, 3) := dk_155 0 14 (dk_at dksX3_within_0 3 rfl rfl)
theorem dX3_within_6 : decode cX3_within 6 = .ok (.lload_n 0, 1) := dk_30 (dk_at dksX3_within_0 6 rfl rfl)
theorem dX3_within_7 : decode cX3_within 7 = .ok (.lload 4, 2) := dk_22 4 (dk_at dksX3_within_0 7 rfl rfl)
theorem dX3_within_9 : decode cX3_within 9 = .ok (.lcmp, 1) := dk_148 (dk_at dksX3_within_0 9 rfl rfl)
theorem dX3_within_10 : decode cX3_within 10 = .ok (.ifCond .gt 7, 3) := dk_157 0 7 (dk_at dksX3_within_0 10 rfl rfl)
theorem dX3_within_13 : decode cX3_within 13 = .ok (.iconst 1, 1) := dk_4 (dk_at dksX3_within_0 13 rfl rfl)
theorem dX3_within_14 : decode cX3_within 14 = .ok (.goto 4, 3) := dk_167 0 4 (dk_at dksX3_within_0 14 rfl rfl)
theorem dX3_within_17 : decode cX3_within 17 = .ok (.iconst 0, 1) := dk_3 (dk_at dksX3_within_0 17 rfl rfl)
theorem dX3_within_18 : decode cX3_within 18 = .ok (.ireturn, 1) := dk_172 (dk_at dksX3_within_0 18 rfl rfl)
abbrev cX3_shapeItems : ByteArray := prog_6_method_12_code
def yX3_shapeItems : MethodName := ⟨RX3, "shapeItems", "()I"⟩
def dkwX3_shapeItems_3 : List UInt8 := [32, 65, 132, 4, 1, 167, 255, 187, 27, 153, 0, 7, 3, 167, 0, 5, 32, 136, 172]
abbrev dktX3_shapeItems_3 : List UInt8 := dkwX3_shapeItems_3 ++ []
def dkwX3_shapeItems_2 : List UInt8 := [167, 0, 4, 3, 60, 32, 22, 5, 105, 65, 32, 20, 0, 82, 148, 158, 0, 9, 20, 0, 84, 167, 0, 4]
abbrev dktX3_shapeItems_2 : List UInt8 := dkwX3_shapeItems_2 ++ dktX3_shapeItems_3
def dkwX3_shapeItems_1 : List UInt8 := [180, 0, 17, 21, 4, 46, 184, 0, 78, 55, 5, 27, 154, 0, 10, 22, 5, 9, 148, 154, 0, 7, 4]
abbrev dktX3_shapeItems_1 : List UInt8 := dkwX3_shapeItems_1 ++ dktX3_shapeItems_2
def dkwX3_shapeItems_0 : List UInt8 := [3, 60, 10, 65, 3, 54, 4, 21, 4, 42, 180, 0, 72, 162, 0, 66, 42, 180, 0, 13, 21, 4, 46, 42]
abbrev dktX3_shapeItems_0 : List UInt8 := dkwX3_shapeItems_0 ++ dktX3_shapeItems_1
theorem dksX3_shapeItems_0 : cX3_shapeItems.data.toList.drop 0 = dktX3_shapeItems_0 := by decide +kernel
theorem dksX3_shapeItems_1 : cX3_shapeItems.data.toList.drop 24 = dktX3_shapeItems_1 := dk_seg dksX3_shapeItems_0 24 rfl rfl
theorem dksX3_shapeItems_2 : cX3_shapeItems.data.toList.drop 47 = dktX3_shapeItems_2 := dk_seg dksX3_shapeItems_1 23 rfl rfl
theorem dksX3_shapeItems_3 : cX3_shapeItems.data.toList.drop 71 = dktX3_shapeItems_3 := dk_seg dksX3_shapeItems_2 24 rfl rfl
theorem dX3_shapeItems_0 : decode cX3_shapeItems 0 = .ok (.iconst 0, 1) := dk_3 (dk_at dksX3_shapeItems_0 0 rfl rfl)
theorem dX3_shapeItems_1 : decode cX3_shapeItems 1 = .ok (.istore_n 1, 1) := dk_60 (dk_at dksX3_shapeItems_0 1 rfl rfl)
theorem dX3_shapeItems_2 : decode cX3_shapeItems 2 = .ok (.lconst 1, 1) := dk_10 (dk_at dksX3_shapeItems_0 2 rfl rfl)
theorem dX3_shapeItems_3 : decode cX3_shapeItems 3 = .ok (.lstore_n 2, 1) := dk_65 (dk_at dksX3_shapeItems_0 3 rfl rfl)
theorem dX3_shapeItems_4 : decode cX3_shapeItems 4 = .ok (.iconst 0, 1) := dk_3 (dk_at dksX3_shapeItems_0 4 rfl rfl)
theorem dX3_shapeItems_5 : decode cX3_shapeItems 5 = .ok (.istore 4, 2) := dk_54 4 (dk_at dksX3_shapeItems_0 5 rfl rfl)
theorem dX3_shapeItems_7 : decode cX3_shapeItems 7 = .ok (.iload 4, 2) := dk_21 4 (dk_at dksX3_shapeItems_0 7 rfl rfl)
theorem dX3_shapeItems_9 : decode cX3_shapeItems 9 = .ok (.aload_n 0, 1) := dk_42 (dk_at dksX3_shapeItems_0 9 rfl rfl)
theorem dX3_shapeItems_10 : decode cX3_shapeItems 10 = .ok (.getfield 72, 3) := dk_180 0 72 (dk_at dksX3_shapeItems_0 10 rfl rfl)
theorem dX3_shapeItems_13 : decode cX3_shapeItems 13 = .ok (.if_icmp .ge 66, 3) := dk_162 0 66 (dk_at dksX3_shapeItems_0 13 rfl rfl)
theorem dX3_shapeItems_16 : decode cX3_shapeItems 16 = .ok (.aload_n 0, 1) := dk_42 (dk_at dksX3_shapeItems_0 16 rfl rfl)
theorem dX3_shapeItems_17 : decode cX3_shapeItems 17 = .ok (.getfield 13, 3) := dk_180 0 13 (dk_at dksX3_shapeItems_0 17 rfl rfl)
theorem dX3_shapeItems_20 : decode cX3_shapeItems 20 = .ok (.iload 4, 2) := dk_21 4 (dk_at dksX3_shapeItems_0 20 rfl rfl)
theorem dX3_shapeItems_22 : decode cX3_shapeItems 22 = .ok (.iaload, 1) := dk_46 (dk_at dksX3_shapeItems_0 22 rfl rfl)
theorem dX3_shapeItems_23 : decode cX3_shapeItems 23 = .ok (.aload_n 0, 1) := dk_42 (dk_at dksX3_shapeItems_0 23 rfl rfl)
theorem dX3_shapeItems_24 : decode cX3_shapeItems 24 = .ok (.getfield 17, 3) := dk_180 0 17 (dk_at dksX3_shapeItems_1 0 rfl rfl)
theorem dX3_shapeItems_27 : decode cX3_shapeItems 27 = .ok (.iload 4, 2) := dk_21 4 (dk_at dksX3_shapeItems_1 3 rfl rfl)
theorem dX3_shapeItems_29 : decode cX3_shapeItems 29 = .ok (.iaload, 1) := dk_46 (dk_at dksX3_shapeItems_1 5 rfl rfl)
theorem dX3_shapeItems_30 : decode cX3_shapeItems 30 = .ok (.invokestatic 78, 3) := dk_184 0 78 (dk_at dksX3_shapeItems_1 6 rfl rfl)
theorem dX3_shapeItems_33 : decode cX3_shapeItems 33 = .ok (.lstore 5, 2) := dk_55 5 (dk_at dksX3_shapeItems_1 9 rfl rfl)
theorem dX3_shapeItems_35 : decode cX3_shapeItems 35 = .ok (.iload_n 1, 1) := dk_27 (dk_at dksX3_shapeItems_1 11 rfl rfl)
theorem dX3_shapeItems_36 : decode cX3_shapeItems 36 = .ok (.ifCond .ne 10, 3) := dk_154 0 10 (dk_at dksX3_shapeItems_1 12 rfl rfl)
theorem dX3_shapeItems_39 : decode cX3_shapeItems 39 = .ok (.lload 5, 2) := dk_22 5 (dk_at dksX3_shapeItems_1 15 rfl rfl)
theorem dX3_shapeItems_41 : decode cX3_shapeItems 41 = .ok (.lconst 0, 1) := dk_9 (dk_at dksX3_shapeItems_1 17 rfl rfl)
theorem dX3_shapeItems_42 : decode cX3_shapeItems 42 = .ok (.lcmp, 1) := dk_148 (dk_at dksX3_shapeItems_1 18 rfl rfl)
theorem dX3_shapeItems_43 : decode cX3_shapeItems 43 = .ok (.ifCond .ne 7, 3) := dk_154 0 7 (dk_at dksX3_shapeItems_1 19 rfl rfl)
theorem dX3_shapeItems_46 : decode cX3_shapeItems 46 = .ok (.iconst 1, 1) := dk_4 (dk_at dksX3_shapeItems_1 22 rfl rfl)
theorem dX3_shapeItems_47 : decode cX3_shapeItems 47 = .ok (.goto 4, 3) := dk_167 0 4 (dk_at dksX3_shapeItems_2 0 rfl rfl)
theorem dX3_shapeItems_50 : decode cX3_shapeItems 50 = .ok (.iconst 0, 1) := dk_3 (dk_at dksX3_shapeItems_2 3 rfl rfl)
theorem dX3_shapeItems_51 : decode cX3_shapeItems 51 = .ok (.istore_n 1, 1) := dk_60 (dk_at dksX3_shapeItems_2 4 rfl rfl)
theorem dX3_shapeItems_52 : decode cX3_shapeItems 52 = .ok (.lload_n 2, 1) := dk_32 (dk_at dksX3_shapeItems_2 5 rfl rfl)
theorem dX3_shapeItems_53 : decode cX3_shapeItems 53 = .ok (.lload 5, 2) := dk_22 5 (dk_at dksX3_shapeItems_2 6 rfl rfl)
theorem dX3_shapeItems_55 : decode cX3_shapeItems 55 = .ok (.lmul, 1) := dk_105 (dk_at dksX3_shapeItems_2 8 rfl rfl)
theorem dX3_shapeItems_56 : decode cX3_shapeItems 56 = .ok (.lstore_n 2, 1) := dk_65 (dk_at dksX3_shapeItems_2 9 rfl rfl)
theorem dX3_shapeItems_57 : decode cX3_shapeItems 57 = .ok (.lload_n 2, 1) := dk_32 (dk_at dksX3_shapeItems_2 10 rfl rfl)
theorem dX3_shapeItems_58 : decode cX3_shapeItems 58 = .ok (.ldc2_w 82, 3) := dk_20 0 82 (dk_at dksX3_shapeItems_2 11 rfl rfl)
theorem dX3_shapeItems_61 : decode cX3_shapeItems 61 = .ok (.lcmp, 1) := dk_148 (dk_at dksX3_shapeItems_2 14 rfl rfl)
theorem dX3_shapeItems_62 : decode cX3_shapeItems 62 = .ok (.ifCond .le 9, 3) := dk_158 0 9 (dk_at dksX3_shapeItems_2 15 rfl rfl)
theorem dX3_shapeItems_65 : decode cX3_shapeItems 65 = .ok (.ldc2_w 84, 3) := dk_20 0 84 (dk_at dksX3_shapeItems_2 18 rfl rfl)
theorem dX3_shapeItems_68 : decode cX3_shapeItems 68 = .ok (.goto 4, 3) := dk_167 0 4 (dk_at dksX3_shapeItems_2 21 rfl rfl)
theorem dX3_shapeItems_71 : decode cX3_shapeItems 71 = .ok (.lload_n 2, 1) := dk_32 (dk_at dksX3_shapeItems_3 0 rfl rfl)
theorem dX3_shapeItems_72 : decode cX3_shapeItems 72 = .ok (.lstore_n 2, 1) := dk_65 (dk_at dksX3_shapeItems_3 1 rfl rfl)
theorem dX3_shapeItems_73 : decode cX3_shapeItems 73 = .ok (.iinc 4 1, 3) := dk_132 4 1 (dk_at dksX3_shapeItems_3 2 rfl rfl)
theorem dX3_shapeItems_76 : decode cX3_shapeItems 76 = .ok (.goto (-69), 3) := dk_167 255 187 (dk_at dksX3_shapeItems_3 5 rfl rfl)
theorem dX3_shapeItems_79 : decode cX3_shapeItems 79 = .ok (.iload_n 1, 1) := dk_27 (dk_at dksX3_shapeItems_3 8 rfl rfl)
theorem dX3_shapeItems_80 : decode cX3_shapeItems 80 = .ok (.ifCond .eq 7, 3) := dk_153 0 7 (dk_at dksX3_shapeItems_3 9 rfl rfl)
theorem dX3_shapeItems_83 : decode cX3_shapeItems 83 = .ok (.iconst 0, 1) := dk_3 (dk_at dksX3_shapeItems_3 12 rfl rfl)
theorem dX3_shapeItems_84 : decode cX3_shapeItems 84 = .ok (.goto 5, 3) := dk_167 0 5 (dk_at dksX3_shapeItems_3 13 rfl rfl)
theorem dX3_shapeItems_87 : decode cX3_shapeItems 87 = .ok (.lload_n 2, 1) := dk_32 (dk_at dksX3_shapeItems_3 16 rfl rfl)
theorem dX3_shapeItems_88 : decode cX3_shapeItems 88 = .ok (.l2i, 1) := dk_136 (dk_at dksX3_shapeItems_3 17 rfl rfl)
theorem dX3_shapeItems_89 : decode cX3_shapeItems 89 = .ok (.ireturn, 1) := dk_172 (dk_at dksX3_shapeItems_3 18 rfl rfl)
abbrev cX3_length : ByteArray := prog_6_method_11_code
def yX3_length : MethodName := ⟨RX3, "length", "(II)J"⟩
def dkwX3_length_0 : List UInt8 := [27, 133, 26, 133, 101, 10, 97, 65, 32, 9, 148, 156, 0, 7, 9, 167, 0, 4, 32, 173]
abbrev dktX3_length_0 : List UInt8 := dkwX3_length_0 ++ []
theorem dksX3_length_0 : cX3_length.data.toList.drop 0 = dktX3_length_0 := by decide +kernel
theorem dX3_length_0 : decode cX3_length 0 = .ok (.iload_n 1, 1) := dk_27 (dk_at dksX3_length_0 0 rfl rfl)
theorem dX3_length_1 : decode cX3_length 1 = .ok (.i2l, 1) := dk_133 (dk_at dksX3_length_0 1 rfl rfl)
theorem dX3_length_2 : decode cX3_length 2 = .ok (.iload_n 0, 1) := dk_26 (dk_at dksX3_length_0 2 rfl rfl)
theorem dX3_length_3 : decode cX3_length 3 = .ok (.i2l, 1) := dk_133 (dk_at dksX3_length_0 3 rfl rfl)
theorem dX3_length_4 : decode cX3_length 4 = .ok (.lsub, 1) := dk_101 (dk_at dksX3_length_0 4 rfl rfl)
theorem dX3_length_5 : decode cX3_length 5 = .ok (.lconst 1, 1) := dk_10 (dk_at dksX3_length_0 5 rfl rfl)
theorem dX3_length_6 : decode cX3_length 6 = .ok (.ladd, 1) := dk_97 (dk_at dksX3_length_0 6 rfl rfl)
theorem dX3_length_7 : decode cX3_length 7 = .ok (.lstore_n 2, 1) := dk_65 (dk_at dksX3_length_0 7 rfl rfl)
theorem dX3_length_8 : decode cX3_length 8 = .ok (.lload_n 2, 1) := dk_32 (dk_at dksX3_length_0 8 rfl rfl)
theorem dX3_length_9 : decode cX3_length 9 = .ok (.lconst 0, 1) := dk_9 (dk_at dksX3_length_0 9 rfl rfl)
theorem dX3_length_10 : decode cX3_length 10 = .ok (.lcmp, 1) := dk_148 (dk_at dksX3_length_0 10 rfl rfl)
theorem dX3_length_11 : decode cX3_length 11 = .ok (.ifCond .ge 7, 3) := dk_156 0 7 (dk_at dksX3_length_0 11 rfl rfl)
theorem dX3_length_14 : decode cX3_length 14 = .ok (.lconst 0, 1) := dk_9 (dk_at dksX3_length_0 14 rfl rfl)
theorem dX3_length_15 : decode cX3_length 15 = .ok (.goto 4, 3) := dk_167 0 4 (dk_at dksX3_length_0 15 rfl rfl)
theorem dX3_length_18 : decode cX3_length 18 = .ok (.lload_n 2, 1) := dk_32 (dk_at dksX3_length_0 18 rfl rfl)
theorem dX3_length_19 : decode cX3_length 19 = .ok (.lreturn, 1) := dk_173 (dk_at dksX3_length_0 19 rfl rfl)
abbrev cX3_newArray : ByteArray := prog_6_method_17_code
def yX3_newArray : MethodName := ⟨RX3, "newArray", "(II)I"⟩
def dkwX3_newArray_5 : List UInt8 := [132, 3, 1, 167, 255, 174, 42, 89, 180, 0, 98, 4, 96, 181, 0, 98, 42, 180, 0, 98, 4, 100, 172]
abbrev dktX3_newArray_5 : List UInt8 := dkwX3_newArray_5 ++ []
def dkwX3_newArray_4 : List UInt8 := [160, 0, 12, 42, 180, 0, 17, 29, 46, 167, 0, 13, 42, 180, 0, 29, 6, 28, 104, 29, 96, 46, 79]
abbrev dktX3_newArray_4 : List UInt8 := dkwX3_newArray_4 ++ dktX3_newArray_5
def dkwX3_newArray_3 : List UInt8 := [180, 0, 26, 6, 28, 104, 29, 96, 46, 79, 42, 180, 0, 29, 6, 42, 180, 0, 98, 104, 29, 96, 28, 2]
abbrev dktX3_newArray_3 : List UInt8 := dkwX3_newArray_3 ++ dktX3_newArray_4
def dkwX3_newArray_2 : List UInt8 := [6, 42, 180, 0, 98, 104, 29, 96, 28, 2, 160, 0, 12, 42, 180, 0, 13, 29, 46, 167, 0, 13, 42]
abbrev dktX3_newArray_2 : List UInt8 := dkwX3_newArray_2 ++ dktX3_newArray_3
def dkwX3_newArray_1 : List UInt8 := [180, 0, 72, 167, 0, 9, 42, 180, 0, 23, 28, 46, 79, 3, 62, 29, 6, 162, 0, 83, 42, 180, 0, 26]
abbrev dktX3_newArray_1 : List UInt8 := dkwX3_newArray_1 ++ dktX3_newArray_2
def dkwX3_newArray_0 : List UInt8 := [42, 180, 0, 20, 42, 180, 0, 98, 27, 79, 42, 180, 0, 23, 42, 180, 0, 98, 28, 2, 160, 0, 10, 42]
abbrev dktX3_newArray_0 : List UInt8 := dkwX3_newArray_0 ++ dktX3_newArray_1
theorem dksX3_newArray_0 : cX3_newArray.data.toList.drop 0 = dktX3_newArray_0 := by decide +kernel
theorem dksX3_newArray_1 : cX3_newArray.data.toList.drop 24 = dktX3_newArray_1 := dk_seg dksX3_newArray_0 24 rfl rfl
theorem dksX3_newArray_2 : cX3_newArray.data.toList.drop 48 = dktX3_newArray_2 := dk_seg dksX3_newArray_1 24 rfl rfl
theorem dksX3_newArray_3 : cX3_newArray.data.toList.drop 71 = dktX3_newArray_3 := dk_seg dksX3_newArray_2 23 rfl rfl
theorem dksX3_newArray_4 : cX3_newArray.data.toList.drop 95 = dktX3_newArray_4 := dk_seg dksX3_newArray_3 24 rfl rfl
theorem dksX3_newArray_5 : cX3_newArray.data.toList.drop 118 = dktX3_newArray_5 := dk_seg dksX3_newArray_4 23 rfl rfl
theorem dX3_newArray_0 : decode cX3_newArray 0 = .ok (.aload_n 0, 1) := dk_42 (dk_at dksX3_newArray_0 0 rfl rfl)
theorem dX3_newArray_1 : decode cX3_newArray 1 = .ok (.getfield 20, 3) := dk_180 0 20 (dk_at dksX3_newArray_0 1 rfl rfl)
theorem dX3_newArray_4 : decode cX3_newArray 4 = .ok (.aload_n 0, 1) := dk_42 (dk_at dksX3_newArray_0 4 rfl rfl)
theorem dX3_newArray_5 : decode cX3_newArray 5 = .ok (.getfield 98, 3) := dk_180 0 98 (dk_at dksX3_newArray_0 5 rfl rfl)
theorem dX3_newArray_8 : decode cX3_newArray 8 = .ok (.iload_n 1, 1) := dk_27 (dk_at dksX3_newArray_0 8 rfl rfl)
theorem dX3_newArray_9 : decode cX3_newArray 9 = .ok (.iastore, 1) := dk_79 (dk_at dksX3_newArray_0 9 rfl rfl)
theorem dX3_newArray_10 : decode cX3_newArray 10 = .ok (.aload_n 0, 1) := dk_42 (dk_at dksX3_newArray_0 10 rfl rfl)
theorem dX3_newArray_11 : decode cX3_newArray 11 = .ok (.getfield 23, 3) := dk_180 0 23 (dk_at dksX3_newArray_0 11 rfl rfl)
theorem dX3_newArray_14 : decode cX3_newArray 14 = .ok (.aload_n 0, 1) := dk_42 (dk_at dksX3_newArray_0 14 rfl rfl)
theorem dX3_newArray_15 : decode cX3_newArray 15 = .ok (.getfield 98, 3) := dk_180 0 98 (dk_at dksX3_newArray_0 15 rfl rfl)
theorem dX3_newArray_18 : decode cX3_newArray 18 = .ok (.iload_n 2, 1) := dk_28 (dk_at dksX3_newArray_0 18 rfl rfl)
theorem dX3_newArray_19 : decode cX3_newArray 19 = .ok (.iconst (-1), 1) := dk_2 (dk_at dksX3_newArray_0 19 rfl rfl)
theorem dX3_newArray_20 : decode cX3_newArray 20 = .ok (.if_icmp .ne 10, 3) := dk_160 0 10 (dk_at dksX3_newArray_0 20 rfl rfl)
theorem dX3_newArray_23 : decode cX3_newArray 23 = .ok (.aload_n 0, 1) := dk_42 (dk_at dksX3_newArray_0 23 rfl rfl)
theorem dX3_newArray_24 : decode cX3_newArray 24 = .ok (.getfield 72, 3) := dk_180 0 72 (dk_at dksX3_newArray_1 0 rfl rfl)
theorem dX3_newArray_27 : decode cX3_newArray 27 = .ok (.goto 9, 3) := dk_167 0 9 (dk_at dksX3_newArray_1 3 rfl rfl)
theorem dX3_newArray_30 : decode cX3_newArray 30 = .ok (.aload_n 0, 1) := dk_42 (dk_at dksX3_newArray_1 6 rfl rfl)
theorem dX3_newArray_31 : decode cX3_newArray 31 = .ok (.getfield 23, 3) := dk_180 0 23 (dk_at dksX3_newArray_1 7 rfl rfl)
theorem dX3_newArray_34 : decode cX3_newArray 34 = .ok (.iload_n 2, 1) := dk_28 (dk_at dksX3_newArray_1 10 rfl rfl)
theorem dX3_newArray_35 : decode cX3_newArray 35 = .ok (.iaload, 1) := dk_46 (dk_at dksX3_newArray_1 11 rfl rfl)
theorem dX3_newArray_36 : decode cX3_newArray 36 = .ok (.iastore, 1) := dk_79 (dk_at dksX3_newArray_1 12 rfl rfl)
theorem dX3_newArray_37 : decode cX3_newArray 37 = .ok (.iconst 0, 1) := dk_3 (dk_at dksX3_newArray_1 13 rfl rfl)
theorem dX3_newArray_38 : decode cX3_newArray 38 = .ok (.istore_n 3, 1) := dk_62 (dk_at dksX3_newArray_1 14 rfl rfl)
theorem dX3_newArray_39 : decode cX3_newArray 39 = .ok (.iload_n 3, 1) := dk_29 (dk_at dksX3_newArray_1 15 rfl rfl)
theorem dX3_newArray_40 : decode cX3_newArray 40 = .ok (.iconst 3, 1) := dk_6 (dk_at dksX3_newArray_1 16 rfl rfl)
theorem dX3_newArray_41 : decode cX3_newArray 41 = .ok (.if_icmp .ge 83, 3) := dk_162 0 83 (dk_at dksX3_newArray_1 17 rfl rfl)
theorem dX3_newArray_44 : decode cX3_newArray 44 = .ok (.aload_n 0, 1) := dk_42 (dk_at dksX3_newArray_1 20 rfl rfl)
theorem dX3_newArray_45 : decode cX3_newArray 45 = .ok (.getfield 26, 3) := dk_180 0 26 (dk_at dksX3_newArray_1 21 rfl rfl)
theorem dX3_newArray_48 : decode cX3_newArray 48 = .ok (.iconst 3, 1) := dk_6 (dk_at dksX3_newArray_2 0 rfl rfl)
theorem dX3_newArray_49 : decode cX3_newArray 49 = .ok (.aload_n 0, 1) := dk_42 (dk_at dksX3_newArray_2 1 rfl rfl)
theorem dX3_newArray_50 : decode cX3_newArray 50 = .ok (.getfield 98, 3) := dk_180 0 98 (dk_at dksX3_newArray_2 2 rfl rfl)
theorem dX3_newArray_53 : decode cX3_newArray 53 = .ok (.imul, 1) := dk_104 (dk_at dksX3_newArray_2 5 rfl rfl)
theorem dX3_newArray_54 : decode cX3_newArray 54 = .ok (.iload_n 3, 1) := dk_29 (dk_at dksX3_newArray_2 6 rfl rfl)
theorem dX3_newArray_55 : decode cX3_newArray 55 = .ok (.iadd, 1) := dk_96 (dk_at dksX3_newArray_2 7 rfl rfl)
theorem dX3_newArray_56 : decode cX3_newArray 56 = .ok (.iload_n 2, 1) := dk_28 (dk_at dksX3_newArray_2 8 rfl rfl)
theorem dX3_newArray_57 : decode cX3_newArray 57 = .ok (.iconst (-1), 1) := dk_2 (dk_at dksX3_newArray_2 9 rfl rfl)
theorem dX3_newArray_58 : decode cX3_newArray 58 = .ok (.if_icmp .ne 12, 3) := dk_160 0 12 (dk_at dksX3_newArray_2 10 rfl rfl)
theorem dX3_newArray_61 : decode cX3_newArray 61 = .ok (.aload_n 0, 1) := dk_42 (dk_at dksX3_newArray_2 13 rfl rfl)
theorem dX3_newArray_62 : decode cX3_newArray 62 = .ok (.getfield 13, 3) := dk_180 0 13 (dk_at dksX3_newArray_2 14 rfl rfl)
theorem dX3_newArray_65 : decode cX3_newArray 65 = .ok (.iload_n 3, 1) := dk_29 (dk_at dksX3_newArray_2 17 rfl rfl)
theorem dX3_newArray_66 : decode cX3_newArray 66 = .ok (.iaload, 1) := dk_46 (dk_at dksX3_newArray_2 18 rfl rfl)
theorem dX3_newArray_67 : decode cX3_newArray 67 = .ok (.goto 13, 3) := dk_167 0 13 (dk_at dksX3_newArray_2 19 rfl rfl)
theorem dX3_newArray_70 : decode cX3_newArray 70 = .ok (.aload_n 0, 1) := dk_42 (dk_at dksX3_newArray_2 22 rfl rfl)
theorem dX3_newArray_71 : decode cX3_newArray 71 = .ok (.getfield 26, 3) := dk_180 0 26 (dk_at dksX3_newArray_3 0 rfl rfl)
theorem dX3_newArray_74 : decode cX3_newArray 74 = .ok (.iconst 3, 1) := dk_6 (dk_at dksX3_newArray_3 3 rfl rfl)
theorem dX3_newArray_75 : decode cX3_newArray 75 = .ok (.iload_n 2, 1) := dk_28 (dk_at dksX3_newArray_3 4 rfl rfl)
theorem dX3_newArray_76 : decode cX3_newArray 76 = .ok (.imul, 1) := dk_104 (dk_at dksX3_newArray_3 5 rfl rfl)
theorem dX3_newArray_77 : decode cX3_newArray 77 = .ok (.iload_n 3, 1) := dk_29 (dk_at dksX3_newArray_3 6 rfl rfl)
theorem dX3_newArray_78 : decode cX3_newArray 78 = .ok (.iadd, 1) := dk_96 (dk_at dksX3_newArray_3 7 rfl rfl)
theorem dX3_newArray_79 : decode cX3_newArray 79 = .ok (.iaload, 1) := dk_46 (dk_at dksX3_newArray_3 8 rfl rfl)
theorem dX3_newArray_80 : decode cX3_newArray 80 = .ok (.iastore, 1) := dk_79 (dk_at dksX3_newArray_3 9 rfl rfl)
theorem dX3_newArray_81 : decode cX3_newArray 81 = .ok (.aload_n 0, 1) := dk_42 (dk_at dksX3_newArray_3 10 rfl rfl)
theorem dX3_newArray_82 : decode cX3_newArray 82 = .ok (.getfield 29, 3) := dk_180 0 29 (dk_at dksX3_newArray_3 11 rfl rfl)
theorem dX3_newArray_85 : decode cX3_newArray 85 = .ok (.iconst 3, 1) := dk_6 (dk_at dksX3_newArray_3 14 rfl rfl)
theorem dX3_newArray_86 : decode cX3_newArray 86 = .ok (.aload_n 0, 1) := dk_42 (dk_at dksX3_newArray_3 15 rfl rfl)
theorem dX3_newArray_87 : decode cX3_newArray 87 = .ok (.getfield 98, 3) := dk_180 0 98 (dk_at dksX3_newArray_3 16 rfl rfl)
theorem dX3_newArray_90 : decode cX3_newArray 90 = .ok (.imul, 1) := dk_104 (dk_at dksX3_newArray_3 19 rfl rfl)
theorem dX3_newArray_91 : decode cX3_newArray 91 = .ok (.iload_n 3, 1) := dk_29 (dk_at dksX3_newArray_3 20 rfl rfl)
theorem dX3_newArray_92 : decode cX3_newArray 92 = .ok (.iadd, 1) := dk_96 (dk_at dksX3_newArray_3 21 rfl rfl)
theorem dX3_newArray_93 : decode cX3_newArray 93 = .ok (.iload_n 2, 1) := dk_28 (dk_at dksX3_newArray_3 22 rfl rfl)
theorem dX3_newArray_94 : decode cX3_newArray 94 = .ok (.iconst (-1), 1) := dk_2 (dk_at dksX3_newArray_3 23 rfl rfl)
theorem dX3_newArray_95 : decode cX3_newArray 95 = .ok (.if_icmp .ne 12, 3) := dk_160 0 12 (dk_at dksX3_newArray_4 0 rfl rfl)
theorem dX3_newArray_98 : decode cX3_newArray 98 = .ok (.aload_n 0, 1) := dk_42 (dk_at dksX3_newArray_4 3 rfl rfl)
theorem dX3_newArray_99 : decode cX3_newArray 99 = .ok (.getfield 17, 3) := dk_180 0 17 (dk_at dksX3_newArray_4 4 rfl rfl)
theorem dX3_newArray_102 : decode cX3_newArray 102 = .ok (.iload_n 3, 1) := dk_29 (dk_at dksX3_newArray_4 7 rfl rfl)
theorem dX3_newArray_103 : decode cX3_newArray 103 = .ok (.iaload, 1) := dk_46 (dk_at dksX3_newArray_4 8 rfl rfl)
theorem dX3_newArray_104 : decode cX3_newArray 104 = .ok (.goto 13, 3) := dk_167 0 13 (dk_at dksX3_newArray_4 9 rfl rfl)
theorem dX3_newArray_107 : decode cX3_newArray 107 = .ok (.aload_n 0, 1) := dk_42 (dk_at dksX3_newArray_4 12 rfl rfl)
theorem dX3_newArray_108 : decode cX3_newArray 108 = .ok (.getfield 29, 3) := dk_180 0 29 (dk_at dksX3_newArray_4 13 rfl rfl)
theorem dX3_newArray_111 : decode cX3_newArray 111 = .ok (.iconst 3, 1) := dk_6 (dk_at dksX3_newArray_4 16 rfl rfl)
theorem dX3_newArray_112 : decode cX3_newArray 112 = .ok (.iload_n 2, 1) := dk_28 (dk_at dksX3_newArray_4 17 rfl rfl)
theorem dX3_newArray_113 : decode cX3_newArray 113 = .ok (.imul, 1) := dk_104 (dk_at dksX3_newArray_4 18 rfl rfl)
theorem dX3_newArray_114 : decode cX3_newArray 114 = .ok (.iload_n 3, 1) := dk_29 (dk_at dksX3_newArray_4 19 rfl rfl)
theorem dX3_newArray_115 : decode cX3_newArray 115 = .ok (.iadd, 1) := dk_96 (dk_at dksX3_newArray_4 20 rfl rfl)
theorem dX3_newArray_116 : decode cX3_newArray 116 = .ok (.iaload, 1) := dk_46 (dk_at dksX3_newArray_4 21 rfl rfl)
theorem dX3_newArray_117 : decode cX3_newArray 117 = .ok (.iastore, 1) := dk_79 (dk_at dksX3_newArray_4 22 rfl rfl)
theorem dX3_newArray_118 : decode cX3_newArray 118 = .ok (.iinc 3 1, 3) := dk_132 3 1 (dk_at dksX3_newArray_5 0 rfl rfl)
theorem dX3_newArray_121 : decode cX3_newArray 121 = .ok (.goto (-82), 3) := dk_167 255 174 (dk_at dksX3_newArray_5 3 rfl rfl)
theorem dX3_newArray_124 : decode cX3_newArray 124 = .ok (.aload_n 0, 1) := dk_42 (dk_at dksX3_newArray_5 6 rfl rfl)
theorem dX3_newArray_125 : decode cX3_newArray 125 = .ok (.dup, 1) := dk_89 (dk_at dksX3_newArray_5 7 rfl rfl)
theorem dX3_newArray_126 : decode cX3_newArray 126 = .ok (.getfield 98, 3) := dk_180 0 98 (dk_at dksX3_newArray_5 8 rfl rfl)
theorem dX3_newArray_129 : decode cX3_newArray 129 = .ok (.iconst 1, 1) := dk_4 (dk_at dksX3_newArray_5 11 rfl rfl)
theorem dX3_newArray_130 : decode cX3_newArray 130 = .ok (.iadd, 1) := dk_96 (dk_at dksX3_newArray_5 12 rfl rfl)
theorem dX3_newArray_131 : decode cX3_newArray 131 = .ok (.putfield 98, 3) := dk_181 0 98 (dk_at dksX3_newArray_5 13 rfl rfl)
theorem dX3_newArray_134 : decode cX3_newArray 134 = .ok (.aload_n 0, 1) := dk_42 (dk_at dksX3_newArray_5 16 rfl rfl)
theorem dX3_newArray_135 : decode cX3_newArray 135 = .ok (.getfield 98, 3) := dk_180 0 98 (dk_at dksX3_newArray_5 17 rfl rfl)
theorem dX3_newArray_138 : decode cX3_newArray 138 = .ok (.iconst 1, 1) := dk_4 (dk_at dksX3_newArray_5 20 rfl rfl)
theorem dX3_newArray_139 : decode cX3_newArray 139 = .ok (.isub, 1) := dk_100 (dk_at dksX3_newArray_5 21 rfl rfl)
theorem dX3_newArray_140 : decode cX3_newArray 140 = .ok (.ireturn, 1) := dk_172 (dk_at dksX3_newArray_5 22 rfl rfl)
abbrev cX3_newTable : ByteArray := prog_6_method_18_code
def yX3_newTable : MethodName := ⟨RX3, "newTable", "(I)V"⟩
def dkwX3_newTable_3 : List UInt8 := [167, 255, 223, 177]
abbrev dktX3_newTable_3 : List UInt8 := dkwX3_newTable_3 ++ []
def dkwX3_newTable_2 : List UInt8 := [42, 180, 0, 105, 42, 29, 182, 0, 111, 79, 42, 89, 180, 0, 105, 4, 96, 181, 0, 105, 132, 4, 1]
abbrev dktX3_newTable_2 : List UInt8 := dkwX3_newTable_2 ++ dktX3_newTable_3
def dkwX3_newTable_1 : List UInt8 := [167, 0, 9, 42, 27, 4, 182, 0, 108, 136, 62, 3, 54, 4, 21, 4, 28, 162, 0, 33, 42, 180, 0, 50]
abbrev dktX3_newTable_1 : List UInt8 := dkwX3_newTable_1 ++ dktX3_newTable_2
def dkwX3_newTable_0 : List UInt8 := [42, 180, 0, 32, 27, 42, 180, 0, 105, 79, 42, 27, 3, 182, 0, 108, 136, 61, 28, 154, 0, 7, 9]
abbrev dktX3_newTable_0 : List UInt8 := dkwX3_newTable_0 ++ dktX3_newTable_1
theorem dksX3_newTable_0 : cX3_newTable.data.toList.drop 0 = dktX3_newTable_0 := by decide +kernel
theorem dksX3_newTable_1 : cX3_newTable.data.toList.drop 23 = dktX3_newTable_1 := dk_seg dksX3_newTable_0 23 rfl rfl
theorem dksX3_newTable_2 : cX3_newTable.data.toList.drop 47 = dktX3_newTable_2 := dk_seg dksX3_newTable_1 24 rfl rfl
theorem dksX3_newTable_3 : cX3_newTable.data.toList.drop 70 = dktX3_newTable_3 := dk_seg dksX3_newTable_2 23 rfl rfl
theorem dX3_newTable_0 : decode cX3_newTable 0 = .ok (.aload_n 0, 1) := dk_42 (dk_at dksX3_newTable_0 0 rfl rfl)
theorem dX3_newTable_1 : decode cX3_newTable 1 = .ok (.getfield 32, 3) := dk_180 0 32 (dk_at dksX3_newTable_0 1 rfl rfl)
theorem dX3_newTable_4 : decode cX3_newTable 4 = .ok (.iload_n 1, 1) := dk_27 (dk_at dksX3_newTable_0 4 rfl rfl)
theorem dX3_newTable_5 : decode cX3_newTable 5 = .ok (.aload_n 0, 1) := dk_42 (dk_at dksX3_newTable_0 5 rfl rfl)
theorem dX3_newTable_6 : decode cX3_newTable 6 = .ok (.getfield 105, 3) := dk_180 0 105 (dk_at dksX3_newTable_0 6 rfl rfl)
theorem dX3_newTable_9 : decode cX3_newTable 9 = .ok (.iastore, 1) := dk_79 (dk_at dksX3_newTable_0 9 rfl rfl)
theorem dX3_newTable_10 : decode cX3_newTable 10 = .ok (.aload_n 0, 1) := dk_42 (dk_at dksX3_newTable_0 10 rfl rfl)
theorem dX3_newTable_11 : decode cX3_newTable 11 = .ok (.iload_n 1, 1) := dk_27 (dk_at dksX3_newTable_0 11 rfl rfl)
theorem dX3_newTable_12 : decode cX3_newTable 12 = .ok (.iconst 0, 1) := dk_3 (dk_at dksX3_newTable_0 12 rfl rfl)
theorem dX3_newTable_13 : decode cX3_newTable 13 = .ok (.invokevirtual 108, 3) := dk_182 0 108 (dk_at dksX3_newTable_0 13 rfl rfl)
theorem dX3_newTable_16 : decode cX3_newTable 16 = .ok (.l2i, 1) := dk_136 (dk_at dksX3_newTable_0 16 rfl rfl)
theorem dX3_newTable_17 : decode cX3_newTable 17 = .ok (.istore_n 2, 1) := dk_61 (dk_at dksX3_newTable_0 17 rfl rfl)
theorem dX3_newTable_18 : decode cX3_newTable 18 = .ok (.iload_n 2, 1) := dk_28 (dk_at dksX3_newTable_0 18 rfl rfl)
theorem dX3_newTable_19 : decode cX3_newTable 19 = .ok (.ifCond .ne 7, 3) := dk_154 0 7 (dk_at dksX3_newTable_0 19 rfl rfl)
theorem dX3_newTable_22 : decode cX3_newTable 22 = .ok (.lconst 0, 1) := dk_9 (dk_at dksX3_newTable_0 22 rfl rfl)
theorem dX3_newTable_23 : decode cX3_newTable 23 = .ok (.goto 9, 3) := dk_167 0 9 (dk_at dksX3_newTable_1 0 rfl rfl)
theorem dX3_newTable_26 : decode cX3_newTable 26 = .ok (.aload_n 0, 1) := dk_42 (dk_at dksX3_newTable_1 3 rfl rfl)
theorem dX3_newTable_27 : decode cX3_newTable 27 = .ok (.iload_n 1, 1) := dk_27 (dk_at dksX3_newTable_1 4 rfl rfl)
theorem dX3_newTable_28 : decode cX3_newTable 28 = .ok (.iconst 1, 1) := dk_4 (dk_at dksX3_newTable_1 5 rfl rfl)
theorem dX3_newTable_29 : decode cX3_newTable 29 = .ok (.invokevirtual 108, 3) := dk_182 0 108 (dk_at dksX3_newTable_1 6 rfl rfl)
theorem dX3_newTable_32 : decode cX3_newTable 32 = .ok (.l2i, 1) := dk_136 (dk_at dksX3_newTable_1 9 rfl rfl)
theorem dX3_newTable_33 : decode cX3_newTable 33 = .ok (.istore_n 3, 1) := dk_62 (dk_at dksX3_newTable_1 10 rfl rfl)
theorem dX3_newTable_34 : decode cX3_newTable 34 = .ok (.iconst 0, 1) := dk_3 (dk_at dksX3_newTable_1 11 rfl rfl)
theorem dX3_newTable_35 : decode cX3_newTable 35 = .ok (.istore 4, 2) := dk_54 4 (dk_at dksX3_newTable_1 12 rfl rfl)
theorem dX3_newTable_37 : decode cX3_newTable 37 = .ok (.iload 4, 2) := dk_21 4 (dk_at dksX3_newTable_1 14 rfl rfl)
theorem dX3_newTable_39 : decode cX3_newTable 39 = .ok (.iload_n 2, 1) := dk_28 (dk_at dksX3_newTable_1 16 rfl rfl)
theorem dX3_newTable_40 : decode cX3_newTable 40 = .ok (.if_icmp .ge 33, 3) := dk_162 0 33 (dk_at dksX3_newTable_1 17 rfl rfl)
theorem dX3_newTable_43 : decode cX3_newTable 43 = .ok (.aload_n 0, 1) := dk_42 (dk_at dksX3_newTable_1 20 rfl rfl)
theorem dX3_newTable_44 : decode cX3_newTable 44 = .ok (.getfield 50, 3) := dk_180 0 50 (dk_at dksX3_newTable_1 21 rfl rfl)
theorem dX3_newTable_47 : decode cX3_newTable 47 = .ok (.aload_n 0, 1) := dk_42 (dk_at dksX3_newTable_2 0 rfl rfl)
theorem dX3_newTable_48 : decode cX3_newTable 48 = .ok (.getfield 105, 3) := dk_180 0 105 (dk_at dksX3_newTable_2 1 rfl rfl)
theorem dX3_newTable_51 : decode cX3_newTable 51 = .ok (.aload_n 0, 1) := dk_42 (dk_at dksX3_newTable_2 4 rfl rfl)
theorem dX3_newTable_52 : decode cX3_newTable 52 = .ok (.iload_n 3, 1) := dk_29 (dk_at dksX3_newTable_2 5 rfl rfl)
theorem dX3_newTable_53 : decode cX3_newTable 53 = .ok (.invokevirtual 111, 3) := dk_182 0 111 (dk_at dksX3_newTable_2 6 rfl rfl)
theorem dX3_newTable_56 : decode cX3_newTable 56 = .ok (.iastore, 1) := dk_79 (dk_at dksX3_newTable_2 9 rfl rfl)
theorem dX3_newTable_57 : decode cX3_newTable 57 = .ok (.aload_n 0, 1) := dk_42 (dk_at dksX3_newTable_2 10 rfl rfl)
theorem dX3_newTable_58 : decode cX3_newTable 58 = .ok (.dup, 1) := dk_89 (dk_at dksX3_newTable_2 11 rfl rfl)
theorem dX3_newTable_59 : decode cX3_newTable 59 = .ok (.getfield 105, 3) := dk_180 0 105 (dk_at dksX3_newTable_2 12 rfl rfl)
theorem dX3_newTable_62 : decode cX3_newTable 62 = .ok (.iconst 1, 1) := dk_4 (dk_at dksX3_newTable_2 15 rfl rfl)
theorem dX3_newTable_63 : decode cX3_newTable 63 = .ok (.iadd, 1) := dk_96 (dk_at dksX3_newTable_2 16 rfl rfl)
theorem dX3_newTable_64 : decode cX3_newTable 64 = .ok (.putfield 105, 3) := dk_181 0 105 (dk_at dksX3_newTable_2 17 rfl rfl)
theorem dX3_newTable_67 : decode cX3_newTable 67 = .ok (.iinc 4 1, 3) := dk_132 4 1 (dk_at dksX3_newTable_2 20 rfl rfl)
theorem dX3_newTable_70 : decode cX3_newTable 70 = .ok (.goto (-33), 3) := dk_167 255 223 (dk_at dksX3_newTable_3 0 rfl rfl)
theorem dX3_newTable_73 : decode cX3_newTable 73 = .ok (.return_, 1) := dk_177 (dk_at dksX3_newTable_3 3 rfl rfl)
abbrev cX3_lengthOf : ByteArray := prog_6_method_13_code
def yX3_lengthOf : MethodName := ⟨RX3, "lengthOf", "(II)J"⟩
def dkwX3_lengthOf_0 : List UInt8 := [42, 180, 0, 26, 6, 27, 104, 28, 96, 46, 42, 180, 0, 29, 6, 27, 104, 28, 96, 46, 184, 0, 78, 173]
abbrev dktX3_lengthOf_0 : List UInt8 := dkwX3_lengthOf_0 ++ []
theorem dksX3_lengthOf_0 : cX3_lengthOf.data.toList.drop 0 = dktX3_lengthOf_0 := by decide +kernel
theorem dX3_lengthOf_0 : decode cX3_lengthOf 0 = .ok (.aload_n 0, 1) := dk_42 (dk_at dksX3_lengthOf_0 0 rfl rfl)
theorem dX3_lengthOf_1 : decode cX3_lengthOf 1 = .ok (.getfield 26, 3) := dk_180 0 26 (dk_at dksX3_lengthOf_0 1 rfl rfl)
theorem dX3_lengthOf_4 : decode cX3_lengthOf 4 = .ok (.iconst 3, 1) := dk_6 (dk_at dksX3_lengthOf_0 4 rfl rfl)
theorem dX3_lengthOf_5 : decode cX3_lengthOf 5 = .ok (.iload_n 1, 1) := dk_27 (dk_at dksX3_lengthOf_0 5 rfl rfl)
theorem dX3_lengthOf_6 : decode cX3_lengthOf 6 = .ok (.imul, 1) := dk_104 (dk_at dksX3_lengthOf_0 6 rfl rfl)
theorem dX3_lengthOf_7 : decode cX3_lengthOf 7 = .ok (.iload_n 2, 1) := dk_28 (dk_at dksX3_lengthOf_0 7 rfl rfl)
theorem dX3_lengthOf_8 : decode cX3_lengthOf 8 = .ok (.iadd, 1) := dk_96 (dk_at dksX3_lengthOf_0 8 rfl rfl)
theorem dX3_lengthOf_9 : decode cX3_lengthOf 9 = .ok (.iaload, 1) := dk_46 (dk_at dksX3_lengthOf_0 9 rfl rfl)
theorem dX3_lengthOf_10 : decode cX3_lengthOf 10 = .ok (.aload_n 0, 1) := dk_42 (dk_at dksX3_lengthOf_0 10 rfl rfl)
theorem dX3_lengthOf_11 : decode cX3_lengthOf 11 = .ok (.getfield 29, 3) := dk_180 0 29 (dk_at dksX3_lengthOf_0 11 rfl rfl)
theorem dX3_lengthOf_14 : decode cX3_lengthOf 14 = .ok (.iconst 3, 1) := dk_6 (dk_at dksX3_lengthOf_0 14 rfl rfl)
theorem dX3_lengthOf_15 : decode cX3_lengthOf 15 = .ok (.iload_n 1, 1) := dk_27 (dk_at dksX3_lengthOf_0 15 rfl rfl)
theorem dX3_lengthOf_16 : decode cX3_lengthOf 16 = .ok (.imul, 1) := dk_104 (dk_at dksX3_lengthOf_0 16 rfl rfl)
theorem dX3_lengthOf_17 : decode cX3_lengthOf 17 = .ok (.iload_n 2, 1) := dk_28 (dk_at dksX3_lengthOf_0 17 rfl rfl)
theorem dX3_lengthOf_18 : decode cX3_lengthOf 18 = .ok (.iadd, 1) := dk_96 (dk_at dksX3_lengthOf_0 18 rfl rfl)
theorem dX3_lengthOf_19 : decode cX3_lengthOf 19 = .ok (.iaload, 1) := dk_46 (dk_at dksX3_lengthOf_0 19 rfl rfl)
theorem dX3_lengthOf_20 : decode cX3_lengthOf 20 = .ok (.invokestatic 78, 3) := dk_184 0 78 (dk_at dksX3_lengthOf_0 20 rfl rfl)
theorem dX3_lengthOf_23 : decode cX3_lengthOf 23 = .ok (.lreturn, 1) := dk_173 (dk_at dksX3_lengthOf_0 23 rfl rfl)
abbrev cX3_newRow : ByteArray := prog_6_method_14_code
def yX3_newRow : MethodName := ⟨RX3, "newRow", "(I)I"⟩
def dkwX3_newRow_3 : List UInt8 := [89, 180, 0, 86, 4, 96, 181, 0, 86, 42, 180, 0, 86, 4, 100, 172]
abbrev dktX3_newRow_3 : List UInt8 := dkwX3_newRow_3 ++ []
def dkwX3_newRow_2 : List UInt8 := [180, 0, 89, 28, 96, 3, 84, 132, 2, 1, 167, 255, 224, 42, 89, 180, 0, 89, 27, 96, 181, 0, 89, 42]
abbrev dktX3_newRow_2 : List UInt8 := dkwX3_newRow_2 ++ dktX3_newRow_3
def dkwX3_newRow_1 : List UInt8 := [61, 28, 27, 162, 0, 33, 42, 180, 0, 42, 42, 180, 0, 89, 28, 96, 9, 80, 42, 180, 0, 46, 42]
abbrev dktX3_newRow_1 : List UInt8 := dkwX3_newRow_1 ++ dktX3_newRow_2
def dkwX3_newRow_0 : List UInt8 := [42, 180, 0, 35, 42, 180, 0, 86, 42, 180, 0, 89, 79, 42, 180, 0, 38, 42, 180, 0, 86, 27, 79, 3]
abbrev dktX3_newRow_0 : List UInt8 := dkwX3_newRow_0 ++ dktX3_newRow_1
theorem dksX3_newRow_0 : cX3_newRow.data.toList.drop 0 = dktX3_newRow_0 := by decide +kernel
theorem dksX3_newRow_1 : cX3_newRow.data.toList.drop 24 = dktX3_newRow_1 := dk_seg dksX3_newRow_0 24 rfl rfl
theorem dksX3_newRow_2 : cX3_newRow.data.toList.drop 47 = dktX3_newRow_2 := dk_seg dksX3_newRow_1 23 rfl rfl
theorem dksX3_newRow_3 : cX3_newRow.data.toList.drop 71 = dktX3_newRow_3 := dk_seg dksX3_newRow_2 24 rfl rfl
theorem dX3_newRow_0 : decode cX3_newRow 0 = .ok (.aload_n 0, 1) := dk_42 (dk_at dksX3_newRow_0 0 rfl rfl)
theorem dX3_newRow_1 : decode cX3_newRow 1 = .ok (.getfield 35, 3) := dk_180 0 35 (dk_at dksX3_newRow_0 1 rfl rfl)
theorem dX3_newRow_4 : decode cX3_newRow 4 = .ok (.aload_n 0, 1) := dk_42 (dk_at dksX3_newRow_0 4 rfl rfl)
theorem dX3_newRow_5 : decode cX3_newRow 5 = .ok (.getfield 86, 3) := dk_180 0 86 (dk_at dksX3_newRow_0 5 rfl rfl)
theorem dX3_newRow_8 : decode cX3_newRow 8 = .ok (.aload_n 0, 1) := dk_42 (dk_at dksX3_newRow_0 8 rfl rfl)
theorem dX3_newRow_9 : decode cX3_newRow 9 = .ok (.getfield 89, 3) := dk_180 0 89 (dk_at dksX3_newRow_0 9 rfl rfl)
theorem dX3_newRow_12 : decode cX3_newRow 12 = .ok (.iastore, 1) := dk_79 (dk_at dksX3_newRow_0 12 rfl rfl)
theorem dX3_newRow_13 : decode cX3_newRow 13 = .ok (.aload_n 0, 1) := dk_42 (dk_at dksX3_newRow_0 13 rfl rfl)
theorem dX3_newRow_14 : decode cX3_newRow 14 = .ok (.getfield 38, 3) := dk_180 0 38 (dk_at dksX3_newRow_0 14 rfl rfl)
theorem dX3_newRow_17 : decode cX3_newRow 17 = .ok (.aload_n 0, 1) := dk_42 (dk_at dksX3_newRow_0 17 rfl rfl)
theorem dX3_newRow_18 : decode cX3_newRow 18 = .ok (.getfield 86, 3) := dk_180 0 86 (dk_at dksX3_newRow_0 18 rfl rfl)
theorem dX3_newRow_21 : decode cX3_newRow 21 = .ok (.iload_n 1, 1) := dk_27 (dk_at dksX3_newRow_0 21 rfl rfl)
theorem dX3_newRow_22 : decode cX3_newRow 22 = .ok (.iastore, 1) := dk_79 (dk_at dksX3_newRow_0 22 rfl rfl)
theorem dX3_newRow_23 : decode cX3_newRow 23 = .ok (.iconst 0, 1) := dk_3 (dk_at dksX3_newRow_0 23 rfl rfl)
theorem dX3_newRow_24 : decode cX3_newRow 24 = .ok (.istore_n 2, 1) := dk_61 (dk_at dksX3_newRow_1 0 rfl rfl)
theorem dX3_newRow_25 : decode cX3_newRow 25 = .ok (.iload_n 2, 1) := dk_28 (dk_at dksX3_newRow_1 1 rfl rfl)
theorem dX3_newRow_26 : decode cX3_newRow 26 = .ok (.iload_n 1, 1) := dk_27 (dk_at dksX3_newRow_1 2 rfl rfl)
theorem dX3_newRow_27 : decode cX3_newRow 27 = .ok (.if_icmp .ge 33, 3) := dk_162 0 33 (dk_at dksX3_newRow_1 3 rfl rfl)
theorem dX3_newRow_30 : decode cX3_newRow 30 = .ok (.aload_n 0, 1) := dk_42 (dk_at dksX3_newRow_1 6 rfl rfl)
theorem dX3_newRow_31 : decode cX3_newRow 31 = .ok (.getfield 42, 3) := dk_180 0 42 (dk_at dksX3_newRow_1 7 rfl rfl)
theorem dX3_newRow_34 : decode cX3_newRow 34 = .ok (.aload_n 0, 1) := dk_42 (dk_at dksX3_newRow_1 10 rfl rfl)
theorem dX3_newRow_35 : decode cX3_newRow 35 = .ok (.getfield 89, 3) := dk_180 0 89 (dk_at dksX3_newRow_1 11 rfl rfl)
theorem dX3_newRow_38 : decode cX3_newRow 38 = .ok (.iload_n 2, 1) := dk_28 (dk_at dksX3_newRow_1 14 rfl rfl)
theorem dX3_newRow_39 : decode cX3_newRow 39 = .ok (.iadd, 1) := dk_96 (dk_at dksX3_newRow_1 15 rfl rfl)
theorem dX3_newRow_40 : decode cX3_newRow 40 = .ok (.lconst 0, 1) := dk_9 (dk_at dksX3_newRow_1 16 rfl rfl)
theorem dX3_newRow_41 : decode cX3_newRow 41 = .ok (.lastore, 1) := dk_80 (dk_at dksX3_newRow_1 17 rfl rfl)
theorem dX3_newRow_42 : decode cX3_newRow 42 = .ok (.aload_n 0, 1) := dk_42 (dk_at dksX3_newRow_1 18 rfl rfl)
theorem dX3_newRow_43 : decode cX3_newRow 43 = .ok (.getfield 46, 3) := dk_180 0 46 (dk_at dksX3_newRow_1 19 rfl rfl)
theorem dX3_newRow_46 : decode cX3_newRow 46 = .ok (.aload_n 0, 1) := dk_42 (dk_at dksX3_newRow_1 22 rfl rfl)
theorem dX3_newRow_47 : decode cX3_newRow 47 = .ok (.getfield 89, 3) := dk_180 0 89 (dk_at dksX3_newRow_2 0 rfl rfl)
theorem dX3_newRow_50 : decode cX3_newRow 50 = .ok (.iload_n 2, 1) := dk_28 (dk_at dksX3_newRow_2 3 rfl rfl)
theorem dX3_newRow_51 : decode cX3_newRow 51 = .ok (.iadd, 1) := dk_96 (dk_at dksX3_newRow_2 4 rfl rfl)
theorem dX3_newRow_52 : decode cX3_newRow 52 = .ok (.iconst 0, 1) := dk_3 (dk_at dksX3_newRow_2 5 rfl rfl)
theorem dX3_newRow_53 : decode cX3_newRow 53 = .ok (.bastore, 1) := dk_84 (dk_at dksX3_newRow_2 6 rfl rfl)
theorem dX3_newRow_54 : decode cX3_newRow 54 = .ok (.iinc 2 1, 3) := dk_132 2 1 (dk_at dksX3_newRow_2 7 rfl rfl)
theorem dX3_newRow_57 : decode cX3_newRow 57 = .ok (.goto (-32), 3) := dk_167 255 224 (dk_at dksX3_newRow_2 10 rfl rfl)
theorem dX3_newRow_60 : decode cX3_newRow 60 = .ok (.aload_n 0, 1) := dk_42 (dk_at dksX3_newRow_2 13 rfl rfl)
theorem dX3_newRow_61 : decode cX3_newRow 61 = .ok (.dup, 1) := dk_89 (dk_at dksX3_newRow_2 14 rfl rfl)
theorem dX3_newRow_62 : decode cX3_newRow 62 = .ok (.getfield 89, 3) := dk_180 0 89 (dk_at dksX3_newRow_2 15 rfl rfl)
theorem dX3_newRow_65 : decode cX3_newRow 65 = .ok (.iload_n 1, 1) := dk_27 (dk_at dksX3_newRow_2 18 rfl rfl)
theorem dX3_newRow_66 : decode cX3_newRow 66 = .ok (.iadd, 1) := dk_96 (dk_at dksX3_newRow_2 19 rfl rfl)
theorem dX3_newRow_67 : decode cX3_newRow 67 = .ok (.putfield 89, 3) := dk_181 0 89 (dk_at dksX3_newRow_2 20 rfl rfl)
theorem dX3_newRow_70 : decode cX3_newRow 70 = .ok (.aload_n 0, 1) := dk_42 (dk_at dksX3_newRow_2 23 rfl rfl)
theorem dX3_newRow_71 : decode cX3_newRow 71 = .ok (.dup, 1) := dk_89 (dk_at dksX3_newRow_3 0 rfl rfl)
theorem dX3_newRow_72 : decode cX3_newRow 72 = .ok (.getfield 86, 3) := dk_180 0 86 (dk_at dksX3_newRow_3 1 rfl rfl)
theorem dX3_newRow_75 : decode cX3_newRow 75 = .ok (.iconst 1, 1) := dk_4 (dk_at dksX3_newRow_3 4 rfl rfl)
theorem dX3_newRow_76 : decode cX3_newRow 76 = .ok (.iadd, 1) := dk_96 (dk_at dksX3_newRow_3 5 rfl rfl)
theorem dX3_newRow_77 : decode cX3_newRow 77 = .ok (.putfield 86, 3) := dk_181 0 86 (dk_at dksX3_newRow_3 6 rfl rfl)
theorem dX3_newRow_80 : decode cX3_newRow 80 = .ok (.aload_n 0, 1) := dk_42 (dk_at dksX3_newRow_3 9 rfl rfl)
theorem dX3_newRow_81 : decode cX3_newRow 81 = .ok (.getfield 86, 3) := dk_180 0 86 (dk_at dksX3_newRow_3 10 rfl rfl)
theorem dX3_newRow_84 : decode cX3_newRow 84 = .ok (.iconst 1, 1) := dk_4 (dk_at dksX3_newRow_3 13 rfl rfl)
theorem dX3_newRow_85 : decode cX3_newRow 85 = .ok (.isub, 1) := dk_100 (dk_at dksX3_newRow_3 14 rfl rfl)
theorem dX3_newRow_86 : decode cX3_newRow 86 = .ok (.ireturn, 1) := dk_172 (dk_at dksX3_newRow_3 15 rfl rfl)
abbrev cX3_raw : ByteArray := prog_6_method_20_code
def yX3_raw : MethodName := ⟨RX3, "raw", "(II)I"⟩
def dkwX3_raw_5 : List UInt8 := [96, 181, 0, 98, 42, 42, 180, 0, 98, 4, 100, 182, 0, 75, 172]
abbrev dktX3_raw_5 : List UInt8 := dkwX3_raw_5 ++ []
def dkwX3_raw_4 : List UInt8 := [28, 4, 100, 79, 42, 180, 0, 32, 42, 180, 0, 98, 42, 28, 182, 0, 111, 79, 42, 89, 180, 0, 98, 4]
abbrev dktX3_raw_4 : List UInt8 := dkwX3_raw_4 ++ dktX3_raw_5
def dkwX3_raw_3 : List UInt8 := [4, 79, 42, 180, 0, 26, 6, 42, 180, 0, 98, 104, 3, 79, 42, 180, 0, 29, 6, 42, 180, 0, 98, 104]
abbrev dktX3_raw_3 : List UInt8 := dkwX3_raw_3 ++ dktX3_raw_4
def dkwX3_raw_2 : List UInt8 := [16, 8, 182, 0, 68, 172, 42, 180, 0, 20, 42, 180, 0, 98, 27, 79, 42, 180, 0, 23, 42, 180, 0, 98]
abbrev dktX3_raw_2 : List UInt8 := dkwX3_raw_2 ++ dktX3_raw_3
def dkwX3_raw_1 : List UInt8 := [172, 28, 17, 1, 244, 164, 0, 9, 42, 8, 182, 0, 68, 172, 42, 180, 0, 98, 16, 24, 160, 0, 10, 42]
abbrev dktX3_raw_1 : List UInt8 := dkwX3_raw_1 ++ dktX3_raw_2
def dkwX3_raw_0 : List UInt8 := [27, 133, 9, 20, 0, 129, 184, 0, 101, 154, 0, 6, 18, 116, 172, 28, 156, 0, 9, 42, 7, 182, 0, 68]
abbrev dktX3_raw_0 : List UInt8 := dkwX3_raw_0 ++ dktX3_raw_1
theorem dksX3_raw_0 : cX3_raw.data.toList.drop 0 = dktX3_raw_0 := by decide +kernel
theorem dksX3_raw_1 : cX3_raw.data.toList.drop 24 = dktX3_raw_1 := dk_seg dksX3_raw_0 24 rfl rfl
theorem dksX3_raw_2 : cX3_raw.data.toList.drop 48 = dktX3_raw_2 := dk_seg dksX3_raw_1 24 rfl rfl
theorem dksX3_raw_3 : cX3_raw.data.toList.drop 72 = dktX3_raw_3 := dk_seg dksX3_raw_2 24 rfl rfl
theorem dksX3_raw_4 : cX3_raw.data.toList.drop 96 = dktX3_raw_4 := dk_seg dksX3_raw_3 24 rfl rfl
theorem dksX3_raw_5 : cX3_raw.data.toList.drop 120 = dktX3_raw_5 := dk_seg dksX3_raw_4 24 rfl rfl
theorem dX3_raw_0 : decode cX3_raw 0 = .ok (.iload_n 1, 1) := dk_27 (dk_at dksX3_raw_0 0 rfl rfl)
theorem dX3_raw_1 : decode cX3_raw 1 = .ok (.i2l, 1) := dk_133 (dk_at dksX3_raw_0 1 rfl rfl)
theorem dX3_raw_2 : decode cX3_raw 2 = .ok (.lconst 0, 1) := dk_9 (dk_at dksX3_raw_0 2 rfl rfl)
theorem dX3_raw_3 : decode cX3_raw 3 = .ok (.ldc2_w 129, 3) := dk_20 0 129 (dk_at dksX3_raw_0 3 rfl rfl)
theorem dX3_raw_6 : decode cX3_raw 6 = .ok (.invokestatic 101, 3) := dk_184 0 101 (dk_at dksX3_raw_0 6 rfl rfl)
theorem dX3_raw_9 : decode cX3_raw 9 = .ok (.ifCond .ne 6, 3) := dk_154 0 6 (dk_at dksX3_raw_0 9 rfl rfl)
theorem dX3_raw_12 : decode cX3_raw 12 = .ok (.ldc 116, 2) := dk_18 116 (dk_at dksX3_raw_0 12 rfl rfl)
theorem dX3_raw_14 : decode cX3_raw 14 = .ok (.ireturn, 1) := dk_172 (dk_at dksX3_raw_0 14 rfl rfl)
theorem dX3_raw_15 : decode cX3_raw 15 = .ok (.iload_n 2, 1) := dk_28 (dk_at dksX3_raw_0 15 rfl rfl)
theorem dX3_raw_16 : decode cX3_raw 16 = .ok (.ifCond .ge 9, 3) := dk_156 0 9 (dk_at dksX3_raw_0 16 rfl rfl)
theorem dX3_raw_19 : decode cX3_raw 19 = .ok (.aload_n 0, 1) := dk_42 (dk_at dksX3_raw_0 19 rfl rfl)
theorem dX3_raw_20 : decode cX3_raw 20 = .ok (.iconst 4, 1) := dk_7 (dk_at dksX3_raw_0 20 rfl rfl)
theorem dX3_raw_21 : decode cX3_raw 21 = .ok (.invokevirtual 68, 3) := dk_182 0 68 (dk_at dksX3_raw_0 21 rfl rfl)
theorem dX3_raw_24 : decode cX3_raw 24 = .ok (.ireturn, 1) := dk_172 (dk_at dksX3_raw_1 0 rfl rfl)
theorem dX3_raw_25 : decode cX3_raw 25 = .ok (.iload_n 2, 1) := dk_28 (dk_at dksX3_raw_1 1 rfl rfl)
theorem dX3_raw_26 : decode cX3_raw 26 = .ok (.sipush 500, 3) := dk_17 1 244 (dk_at dksX3_raw_1 2 rfl rfl)
theorem dX3_raw_29 : decode cX3_raw 29 = .ok (.if_icmp .le 9, 3) := dk_164 0 9 (dk_at dksX3_raw_1 5 rfl rfl)
theorem dX3_raw_32 : decode cX3_raw 32 = .ok (.aload_n 0, 1) := dk_42 (dk_at dksX3_raw_1 8 rfl rfl)
theorem dX3_raw_33 : decode cX3_raw 33 = .ok (.iconst 5, 1) := dk_8 (dk_at dksX3_raw_1 9 rfl rfl)
theorem dX3_raw_34 : decode cX3_raw 34 = .ok (.invokevirtual 68, 3) := dk_182 0 68 (dk_at dksX3_raw_1 10 rfl rfl)
theorem dX3_raw_37 : decode cX3_raw 37 = .ok (.ireturn, 1) := dk_172 (dk_at dksX3_raw_1 13 rfl rfl)
theorem dX3_raw_38 : decode cX3_raw 38 = .ok (.aload_n 0, 1) := dk_42 (dk_at dksX3_raw_1 14 rfl rfl)
theorem dX3_raw_39 : decode cX3_raw 39 = .ok (.getfield 98, 3) := dk_180 0 98 (dk_at dksX3_raw_1 15 rfl rfl)
theorem dX3_raw_42 : decode cX3_raw 42 = .ok (.bipush 24, 2) := dk_16 24 (dk_at dksX3_raw_1 18 rfl rfl)
theorem dX3_raw_44 : decode cX3_raw 44 = .ok (.if_icmp .ne 10, 3) := dk_160 0 10 (dk_at dksX3_raw_1 20 rfl rfl)
theorem dX3_raw_47 : decode cX3_raw 47 = .ok (.aload_n 0, 1) := dk_42 (dk_at dksX3_raw_1 23 rfl rfl)
theorem dX3_raw_48 : decode cX3_raw 48 = .ok (.bipush 8, 2) := dk_16 8 (dk_at dksX3_raw_2 0 rfl rfl)
theorem dX3_raw_50 : decode cX3_raw 50 = .ok (.invokevirtual 68, 3) := dk_182 0 68 (dk_at dksX3_raw_2 2 rfl rfl)
theorem dX3_raw_53 : decode cX3_raw 53 = .ok (.ireturn, 1) := dk_172 (dk_at dksX3_raw_2 5 rfl rfl)
theorem dX3_raw_54 : decode cX3_raw 54 = .ok (.aload_n 0, 1) := dk_42 (dk_at dksX3_raw_2 6 rfl rfl)
theorem dX3_raw_55 : decode cX3_raw 55 = .ok (.getfield 20, 3) := dk_180 0 20 (dk_at dksX3_raw_2 7 rfl rfl)
theorem dX3_raw_58 : decode cX3_raw 58 = .ok (.aload_n 0, 1) := dk_42 (dk_at dksX3_raw_2 10 rfl rfl)
theorem dX3_raw_59 : decode cX3_raw 59 = .ok (.getfield 98, 3) := dk_180 0 98 (dk_at dksX3_raw_2 11 rfl rfl)
theorem dX3_raw_62 : decode cX3_raw 62 = .ok (.iload_n 1, 1) := dk_27 (dk_at dksX3_raw_2 14 rfl rfl)
theorem dX3_raw_63 : decode cX3_raw 63 = .ok (.iastore, 1) := dk_79 (dk_at dksX3_raw_2 15 rfl rfl)
theorem dX3_raw_64 : decode cX3_raw 64 = .ok (.aload_n 0, 1) := dk_42 (dk_at dksX3_raw_2 16 rfl rfl)
theorem dX3_raw_65 : decode cX3_raw 65 = .ok (.getfield 23, 3) := dk_180 0 23 (dk_at dksX3_raw_2 17 rfl rfl)
theorem dX3_raw_68 : decode cX3_raw 68 = .ok (.aload_n 0, 1) := dk_42 (dk_at dksX3_raw_2 20 rfl rfl)
theorem dX3_raw_69 : decode cX3_raw 69 = .ok (.getfield 98, 3) := dk_180 0 98 (dk_at dksX3_raw_2 21 rfl rfl)
theorem dX3_raw_72 : decode cX3_raw 72 = .ok (.iconst 1, 1) := dk_4 (dk_at dksX3_raw_3 0 rfl rfl)
theorem dX3_raw_73 : decode cX3_raw 73 = .ok (.iastore, 1) := dk_79 (dk_at dksX3_raw_3 1 rfl rfl)
theorem dX3_raw_74 : decode cX3_raw 74 = .ok (.aload_n 0, 1) := dk_42 (dk_at dksX3_raw_3 2 rfl rfl)
theorem dX3_raw_75 : decode cX3_raw 75 = .ok (.getfield 26, 3) := dk_180 0 26 (dk_at dksX3_raw_3 3 rfl rfl)
theorem dX3_raw_78 : decode cX3_raw 78 = .ok (.iconst 3, 1) := dk_6 (dk_at dksX3_raw_3 6 rfl rfl)
theorem dX3_raw_79 : decode cX3_raw 79 = .ok (.aload_n 0, 1) := dk_42 (dk_at dksX3_raw_3 7 rfl rfl)
theorem dX3_raw_80 : decode cX3_raw 80 = .ok (.getfield 98, 3) := dk_180 0 98 (dk_at dksX3_raw_3 8 rfl rfl)
theorem dX3_raw_83 : decode cX3_raw 83 = .ok (.imul, 1) := dk_104 (dk_at dksX3_raw_3 11 rfl rfl)
theorem dX3_raw_84 : decode cX3_raw 84 = .ok (.iconst 0, 1) := dk_3 (dk_at dksX3_raw_3 12 rfl rfl)
theorem dX3_raw_85 : decode cX3_raw 85 = .ok (.iastore, 1) := dk_79 (dk_at dksX3_raw_3 13 rfl rfl)
theorem dX3_raw_86 : decode cX3_raw 86 = .ok (.aload_n 0, 1) := dk_42 (dk_at dksX3_raw_3 14 rfl rfl)
theorem dX3_raw_87 : decode cX3_raw 87 = .ok (.getfield 29, 3) := dk_180 0 29 (dk_at dksX3_raw_3 15 rfl rfl)
theorem dX3_raw_90 : decode cX3_raw 90 = .ok (.iconst 3, 1) := dk_6 (dk_at dksX3_raw_3 18 rfl rfl)
theorem dX3_raw_91 : decode cX3_raw 91 = .ok (.aload_n 0, 1) := dk_42 (dk_at dksX3_raw_3 19 rfl rfl)
theorem dX3_raw_92 : decode cX3_raw 92 = .ok (.getfield 98, 3) := dk_180 0 98 (dk_at dksX3_raw_3 20 rfl rfl)
theorem dX3_raw_95 : decode cX3_raw 95 = .ok (.imul, 1) := dk_104 (dk_at dksX3_raw_3 23 rfl rfl)
theorem dX3_raw_96 : decode cX3_raw 96 = .ok (.iload_n 2, 1) := dk_28 (dk_at dksX3_raw_4 0 rfl rfl)
theorem dX3_raw_97 : decode cX3_raw 97 = .ok (.iconst 1, 1) := dk_4 (dk_at dksX3_raw_4 1 rfl rfl)
theorem dX3_raw_98 : decode cX3_raw 98 = .ok (.isub, 1) := dk_100 (dk_at dksX3_raw_4 2 rfl rfl)
theorem dX3_raw_99 : decode cX3_raw 99 = .ok (.iastore, 1) := dk_79 (dk_at dksX3_raw_4 3 rfl rfl)
theorem dX3_raw_100 : decode cX3_raw 100 = .ok (.aload_n 0, 1) := dk_42 (dk_at dksX3_raw_4 4 rfl rfl)
theorem dX3_raw_101 : decode cX3_raw 101 = .ok (.getfield 32, 3) := dk_180 0 32 (dk_at dksX3_raw_4 5 rfl rfl)
theorem dX3_raw_104 : decode cX3_raw 104 = .ok (.aload_n 0, 1) := dk_42 (dk_at dksX3_raw_4 8 rfl rfl)
theorem dX3_raw_105 : decode cX3_raw 105 = .ok (.getfield 98, 3) := dk_180 0 98 (dk_at dksX3_raw_4 9 rfl rfl)
theorem dX3_raw_108 : decode cX3_raw 108 = .ok (.aload_n 0, 1) := dk_42 (dk_at dksX3_raw_4 12 rfl rfl)
theorem dX3_raw_109 : decode cX3_raw 109 = .ok (.iload_n 2, 1) := dk_28 (dk_at dksX3_raw_4 13 rfl rfl)
theorem dX3_raw_110 : decode cX3_raw 110 = .ok (.invokevirtual 111, 3) := dk_182 0 111 (dk_at dksX3_raw_4 14 rfl rfl)
theorem dX3_raw_113 : decode cX3_raw 113 = .ok (.iastore, 1) := dk_79 (dk_at dksX3_raw_4 17 rfl rfl)
theorem dX3_raw_114 : decode cX3_raw 114 = .ok (.aload_n 0, 1) := dk_42 (dk_at dksX3_raw_4 18 rfl rfl)
theorem dX3_raw_115 : decode cX3_raw 115 = .ok (.dup, 1) := dk_89 (dk_at dksX3_raw_4 19 rfl rfl)
theorem dX3_raw_116 : decode cX3_raw 116 = .ok (.getfield 98, 3) := dk_180 0 98 (dk_at dksX3_raw_4 20 rfl rfl)
theorem dX3_raw_119 : decode cX3_raw 119 = .ok (.iconst 1, 1) := dk_4 (dk_at dksX3_raw_4 23 rfl rfl)
theorem dX3_raw_120 : decode cX3_raw 120 = .ok (.iadd, 1) := dk_96 (dk_at dksX3_raw_5 0 rfl rfl)
theorem dX3_raw_121 : decode cX3_raw 121 = .ok (.putfield 98, 3) := dk_181 0 98 (dk_at dksX3_raw_5 1 rfl rfl)
theorem dX3_raw_124 : decode cX3_raw 124 = .ok (.aload_n 0, 1) := dk_42 (dk_at dksX3_raw_5 4 rfl rfl)
theorem dX3_raw_125 : decode cX3_raw 125 = .ok (.aload_n 0, 1) := dk_42 (dk_at dksX3_raw_5 5 rfl rfl)
theorem dX3_raw_126 : decode cX3_raw 126 = .ok (.getfield 98, 3) := dk_180 0 98 (dk_at dksX3_raw_5 6 rfl rfl)
theorem dX3_raw_129 : decode cX3_raw 129 = .ok (.iconst 1, 1) := dk_4 (dk_at dksX3_raw_5 9 rfl rfl)
theorem dX3_raw_130 : decode cX3_raw 130 = .ok (.isub, 1) := dk_100 (dk_at dksX3_raw_5 10 rfl rfl)
theorem dX3_raw_131 : decode cX3_raw 131 = .ok (.invokevirtual 75, 3) := dk_182 0 75 (dk_at dksX3_raw_5 11 rfl rfl)
theorem dX3_raw_134 : decode cX3_raw 134 = .ok (.ireturn, 1) := dk_172 (dk_at dksX3_raw_5 14 rfl rfl)
abbrev cX3_see : ByteArray := prog_6_method_22_code
def yX3_see : MethodName := ⟨RX3, "see", "(I)I"⟩
def dkwX3_see_4 : List UInt8 := [79, 42, 3, 181, 0, 72, 42, 29, 182, 0, 75, 172]
abbrev dktX3_see_4 : List UInt8 := dkwX3_see_4 ++ []
def dkwX3_see_3 : List UInt8 := [172, 42, 42, 180, 0, 20, 27, 46, 2, 182, 0, 121, 62, 42, 180, 0, 32, 29, 42, 180, 0, 32, 27, 46]
abbrev dktX3_see_3 : List UInt8 := dkwX3_see_3 ++ dktX3_see_4
def dkwX3_see_2 : List UInt8 := [154, 0, 15, 42, 180, 0, 98, 16, 24, 160, 0, 6, 16, 8, 61, 28, 153, 0, 9, 42, 28, 182, 0, 68]
abbrev dktX3_see_2 : List UInt8 := dkwX3_see_2 ++ dktX3_see_3
def dkwX3_see_1 : List UInt8 := [42, 182, 0, 117, 42, 180, 0, 38, 42, 180, 0, 32, 27, 46, 46, 159, 0, 6, 16, 10, 61, 28]
abbrev dktX3_see_1 : List UInt8 := dkwX3_see_1 ++ dktX3_see_2
def dkwX3_see_0 : List UInt8 := [42, 27, 182, 0, 135, 61, 28, 154, 0, 13, 42, 180, 0, 72, 154, 0, 6, 16, 9, 61, 28, 154, 0, 24]
abbrev dktX3_see_0 : List UInt8 := dkwX3_see_0 ++ dktX3_see_1
theorem dksX3_see_0 : cX3_see.data.toList.drop 0 = dktX3_see_0 := by decide +kernel
theorem dksX3_see_1 : cX3_see.data.toList.drop 24 = dktX3_see_1 := dk_seg dksX3_see_0 24 rfl rfl
theorem dksX3_see_2 : cX3_see.data.toList.drop 46 = dktX3_see_2 := dk_seg dksX3_see_1 22 rfl rfl
theorem dksX3_see_3 : cX3_see.data.toList.drop 70 = dktX3_see_3 := dk_seg dksX3_see_2 24 rfl rfl
theorem dksX3_see_4 : cX3_see.data.toList.drop 94 = dktX3_see_4 := dk_seg dksX3_see_3 24 rfl rfl
theorem dX3_see_0 : decode cX3_see 0 = .ok (.aload_n 0, 1) := dk_42 (dk_at dksX3_see_0 0 rfl rfl)
theorem dX3_see_1 : decode cX3_see 1 = .ok (.iload_n 1, 1) := dk_27 (dk_at dksX3_see_0 1 rfl rfl)
theorem dX3_see_2 : decode cX3_see 2 = .ok (.invokevirtual 135, 3) := dk_182 0 135 (dk_at dksX3_see_0 2 rfl rfl)
theorem dX3_see_5 : decode cX3_see 5 = .ok (.istore_n 2, 1) := dk_61 (dk_at dksX3_see_0 5 rfl rfl)
theorem dX3_see_6 : decode cX3_see 6 = .ok (.iload_n 2, 1) := dk_28 (dk_at dksX3_see_0 6 rfl rfl)
theorem dX3_see_7 : decode cX3_see 7 = .ok (.ifCond .ne 13, 3) := dk_154 0 13 (dk_at dksX3_see_0 7 rfl rfl)
theorem dX3_see_10 : decode cX3_see 10 = .ok (.aload_n 0, 1) := dk_42 (dk_at dksX3_see_0 10 rfl rfl)
theorem dX3_see_11 : decode cX3_see 11 = .ok (.getfield 72, 3) := dk_180 0 72 (dk_at dksX3_see_0 11 rfl rfl)
theorem dX3_see_14 : decode cX3_see 14 = .ok (.ifCond .ne 6, 3) := dk_154 0 6 (dk_at dksX3_see_0 14 rfl rfl)
theorem dX3_see_17 : decode cX3_see 17 = .ok (.bipush 9, 2) := dk_16 9 (dk_at dksX3_see_0 17 rfl rfl)
theorem dX3_see_19 : decode cX3_see 19 = .ok (.istore_n 2, 1) := dk_61 (dk_at dksX3_see_0 19 rfl rfl)
theorem dX3_see_20 : decode cX3_see 20 = .ok (.iload_n 2, 1) := dk_28 (dk_at dksX3_see_0 20 rfl rfl)
theorem dX3_see_21 : decode cX3_see 21 = .ok (.ifCond .ne 24, 3) := dk_154 0 24 (dk_at dksX3_see_0 21 rfl rfl)
theorem dX3_see_24 : decode cX3_see 24 = .ok (.aload_n 0, 1) := dk_42 (dk_at dksX3_see_1 0 rfl rfl)
theorem dX3_see_25 : decode cX3_see 25 = .ok (.invokevirtual 117, 3) := dk_182 0 117 (dk_at dksX3_see_1 1 rfl rfl)
theorem dX3_see_28 : decode cX3_see 28 = .ok (.aload_n 0, 1) := dk_42 (dk_at dksX3_see_1 4 rfl rfl)
theorem dX3_see_29 : decode cX3_see 29 = .ok (.getfield 38, 3) := dk_180 0 38 (dk_at dksX3_see_1 5 rfl rfl)
theorem dX3_see_32 : decode cX3_see 32 = .ok (.aload_n 0, 1) := dk_42 (dk_at dksX3_see_1 8 rfl rfl)
theorem dX3_see_33 : decode cX3_see 33 = .ok (.getfield 32, 3) := dk_180 0 32 (dk_at dksX3_see_1 9 rfl rfl)
theorem dX3_see_36 : decode cX3_see 36 = .ok (.iload_n 1, 1) := dk_27 (dk_at dksX3_see_1 12 rfl rfl)
theorem dX3_see_37 : decode cX3_see 37 = .ok (.iaload, 1) := dk_46 (dk_at dksX3_see_1 13 rfl rfl)
theorem dX3_see_38 : decode cX3_see 38 = .ok (.iaload, 1) := dk_46 (dk_at dksX3_see_1 14 rfl rfl)
theorem dX3_see_39 : decode cX3_see 39 = .ok (.if_icmp .eq 6, 3) := dk_159 0 6 (dk_at dksX3_see_1 15 rfl rfl)
theorem dX3_see_42 : decode cX3_see 42 = .ok (.bipush 10, 2) := dk_16 10 (dk_at dksX3_see_1 18 rfl rfl)
theorem dX3_see_44 : decode cX3_see 44 = .ok (.istore_n 2, 1) := dk_61 (dk_at dksX3_see_1 20 rfl rfl)
theorem dX3_see_45 : decode cX3_see 45 = .ok (.iload_n 2, 1) := dk_28 (dk_at dksX3_see_1 21 rfl rfl)
theorem dX3_see_46 : decode cX3_see 46 = .ok (.ifCond .ne 15, 3) := dk_154 0 15 (dk_at dksX3_see_2 0 rfl rfl)
theorem dX3_see_49 : decode cX3_see 49 = .ok (.aload_n 0, 1) := dk_42 (dk_at dksX3_see_2 3 rfl rfl)
theorem dX3_see_50 : decode cX3_see 50 = .ok (.getfield 98, 3) := dk_180 0 98 (dk_at dksX3_see_2 4 rfl rfl)
theorem dX3_see_53 : decode cX3_see 53 = .ok (.bipush 24, 2) := dk_16 24 (dk_at dksX3_see_2 7 rfl rfl)
theorem dX3_see_55 : decode cX3_see 55 = .ok (.if_icmp .ne 6, 3) := dk_160 0 6 (dk_at dksX3_see_2 9 rfl rfl)
theorem dX3_see_58 : decode cX3_see 58 = .ok (.bipush 8, 2) := dk_16 8 (dk_at dksX3_see_2 12 rfl rfl)
theorem dX3_see_60 : decode cX3_see 60 = .ok (.istore_n 2, 1) := dk_61 (dk_at dksX3_see_2 14 rfl rfl)
theorem dX3_see_61 : decode cX3_see 61 = .ok (.iload_n 2, 1) := dk_28 (dk_at dksX3_see_2 15 rfl rfl)
theorem dX3_see_62 : decode cX3_see 62 = .ok (.ifCond .eq 9, 3) := dk_153 0 9 (dk_at dksX3_see_2 16 rfl rfl)
theorem dX3_see_65 : decode cX3_see 65 = .ok (.aload_n 0, 1) := dk_42 (dk_at dksX3_see_2 19 rfl rfl)
theorem dX3_see_66 : decode cX3_see 66 = .ok (.iload_n 2, 1) := dk_28 (dk_at dksX3_see_2 20 rfl rfl)
theorem dX3_see_67 : decode cX3_see 67 = .ok (.invokevirtual 68, 3) := dk_182 0 68 (dk_at dksX3_see_2 21 rfl rfl)
theorem dX3_see_70 : decode cX3_see 70 = .ok (.ireturn, 1) := dk_172 (dk_at dksX3_see_3 0 rfl rfl)
theorem dX3_see_71 : decode cX3_see 71 = .ok (.aload_n 0, 1) := dk_42 (dk_at dksX3_see_3 1 rfl rfl)
theorem dX3_see_72 : decode cX3_see 72 = .ok (.aload_n 0, 1) := dk_42 (dk_at dksX3_see_3 2 rfl rfl)
theorem dX3_see_73 : decode cX3_see 73 = .ok (.getfield 20, 3) := dk_180 0 20 (dk_at dksX3_see_3 3 rfl rfl)
theorem dX3_see_76 : decode cX3_see 76 = .ok (.iload_n 1, 1) := dk_27 (dk_at dksX3_see_3 6 rfl rfl)
theorem dX3_see_77 : decode cX3_see 77 = .ok (.iaload, 1) := dk_46 (dk_at dksX3_see_3 7 rfl rfl)
theorem dX3_see_78 : decode cX3_see 78 = .ok (.iconst (-1), 1) := dk_2 (dk_at dksX3_see_3 8 rfl rfl)
theorem dX3_see_79 : decode cX3_see 79 = .ok (.invokevirtual 121, 3) := dk_182 0 121 (dk_at dksX3_see_3 9 rfl rfl)
theorem dX3_see_82 : decode cX3_see 82 = .ok (.istore_n 3, 1) := dk_62 (dk_at dksX3_see_3 12 rfl rfl)
theorem dX3_see_83 : decode cX3_see 83 = .ok (.aload_n 0, 1) := dk_42 (dk_at dksX3_see_3 13 rfl rfl)
theorem dX3_see_84 : decode cX3_see 84 = .ok (.getfield 32, 3) := dk_180 0 32 (dk_at dksX3_see_3 14 rfl rfl)
theorem dX3_see_87 : decode cX3_see 87 = .ok (.iload_n 3, 1) := dk_29 (dk_at dksX3_see_3 17 rfl rfl)
theorem dX3_see_88 : decode cX3_see 88 = .ok (.aload_n 0, 1) := dk_42 (dk_at dksX3_see_3 18 rfl rfl)
theorem dX3_see_89 : decode cX3_see 89 = .ok (.getfield 32, 3) := dk_180 0 32 (dk_at dksX3_see_3 19 rfl rfl)
theorem dX3_see_92 : decode cX3_see 92 = .ok (.iload_n 1, 1) := dk_27 (dk_at dksX3_see_3 22 rfl rfl)
theorem dX3_see_93 : decode cX3_see 93 = .ok (.iaload, 1) := dk_46 (dk_at dksX3_see_3 23 rfl rfl)
theorem dX3_see_94 : decode cX3_see 94 = .ok (.iastore, 1) := dk_79 (dk_at dksX3_see_4 0 rfl rfl)
theorem dX3_see_95 : decode cX3_see 95 = .ok (.aload_n 0, 1) := dk_42 (dk_at dksX3_see_4 1 rfl rfl)
theorem dX3_see_96 : decode cX3_see 96 = .ok (.iconst 0, 1) := dk_3 (dk_at dksX3_see_4 2 rfl rfl)
theorem dX3_see_97 : decode cX3_see 97 = .ok (.putfield 72, 3) := dk_181 0 72 (dk_at dksX3_see_4 3 rfl rfl)
theorem dX3_see_100 : decode cX3_see 100 = .ok (.aload_n 0, 1) := dk_42 (dk_at dksX3_see_4 6 rfl rfl)
theorem dX3_see_101 : decode cX3_see 101 = .ok (.iload_n 3, 1) := dk_29 (dk_at dksX3_see_4 7 rfl rfl)
theorem dX3_see_102 : decode cX3_see 102 = .ok (.invokevirtual 75, 3) := dk_182 0 75 (dk_at dksX3_see_4 8 rfl rfl)
theorem dX3_see_105 : decode cX3_see 105 = .ok (.ireturn, 1) := dk_172 (dk_at dksX3_see_4 11 rfl rfl)
abbrev cX3_wants : ByteArray := prog_6_method_21_code
def yX3_wants : MethodName := ⟨RX3, "wants", "(I)I"⟩
def dkwX3_wants_1 : List UInt8 := [167, 0, 4, 3, 172]
abbrev dktX3_wants_1 : List UInt8 := dkwX3_wants_1 ++ []
def dkwX3_wants_0 : List UInt8 := [42, 27, 182, 0, 131, 154, 0, 8, 16, 7, 167, 0, 18, 42, 180, 0, 20, 27, 46, 7, 160, 0, 7, 5]
abbrev dktX3_wants_0 : List UInt8 := dkwX3_wants_0 ++ dktX3_wants_1
theorem dksX3_wants_0 : cX3_wants.data.toList.drop 0 = dktX3_wants_0 := by decide +kernel
theorem dksX3_wants_1 : cX3_wants.data.toList.drop 24 = dktX3_wants_1 := dk_seg dksX3_wants_0 24 rfl rfl
theorem dX3_wants_0 : decode cX3_wants 0 = .ok (.aload_n 0, 1) := dk_42 (dk_at dksX3_wants_0 0 rfl rfl)
theorem dX3_wants_1 : decode cX3_wants 1 = .ok (.iload_n 1, 1) := dk_27 (dk_at dksX3_wants_0 1 rfl rfl)
theorem dX3_wants_2 : decode cX3_wants 2 = .ok (.invokevirtual 131, 3) := dk_182 0 131 (dk_at dksX3_wants_0 2 rfl rfl)
theorem dX3_wants_5 : decode cX3_wants 5 = .ok (.ifCond .ne 8, 3) := dk_154 0 8 (dk_at dksX3_wants_0 5 rfl rfl)
theorem dX3_wants_8 : decode cX3_wants 8 = .ok (.bipush 7, 2) := dk_16 7 (dk_at dksX3_wants_0 8 rfl rfl)
theorem dX3_wants_10 : decode cX3_wants 10 = .ok (.goto 18, 3) := dk_167 0 18 (dk_at dksX3_wants_0 10 rfl rfl)
theorem dX3_wants_13 : decode cX3_wants 13 = .ok (.aload_n 0, 1) := dk_42 (dk_at dksX3_wants_0 13 rfl rfl)
theorem dX3_wants_14 : decode cX3_wants 14 = .ok (.getfield 20, 3) := dk_180 0 20 (dk_at dksX3_wants_0 14 rfl rfl)
theorem dX3_wants_17 : decode cX3_wants 17 = .ok (.iload_n 1, 1) := dk_27 (dk_at dksX3_wants_0 17 rfl rfl)
theorem dX3_wants_18 : decode cX3_wants 18 = .ok (.iaload, 1) := dk_46 (dk_at dksX3_wants_0 18 rfl rfl)
theorem dX3_wants_19 : decode cX3_wants 19 = .ok (.iconst 4, 1) := dk_7 (dk_at dksX3_wants_0 19 rfl rfl)
theorem dX3_wants_20 : decode cX3_wants 20 = .ok (.if_icmp .ne 7, 3) := dk_160 0 7 (dk_at dksX3_wants_0 20 rfl rfl)
theorem dX3_wants_23 : decode cX3_wants 23 = .ok (.iconst 2, 1) := dk_5 (dk_at dksX3_wants_0 23 rfl rfl)
theorem dX3_wants_24 : decode cX3_wants 24 = .ok (.goto 4, 3) := dk_167 0 4 (dk_at dksX3_wants_1 0 rfl rfl)
theorem dX3_wants_27 : decode cX3_wants 27 = .ok (.iconst 0, 1) := dk_3 (dk_at dksX3_wants_1 3 rfl rfl)
theorem dX3_wants_28 : decode cX3_wants 28 = .ok (.ireturn, 1) := dk_172 (dk_at dksX3_wants_1 4 rfl rfl)
abbrev cX3_isArray : ByteArray := prog_6_method_16_code
def yX3_isArray : MethodName := ⟨RX3, "isArray", "(I)Z"⟩
def dkwX3_isArray_0 : List UInt8 := [27, 133, 9, 42, 180, 0, 98, 4, 100, 133, 184, 0, 101, 172]
abbrev dktX3_isArray_0 : List UInt8 := dkwX3_isArray_0 ++ []
theorem dksX3_isArray_0 : cX3_isArray.data.toList.drop 0 = dktX3_isArray_0 := by decide +kernel
theorem dX3_isArray_0 : decode cX3_isArray 0 = .ok (.iload_n 1, 1) := dk_27 (dk_at dksX3_isArray_0 0 rfl rfl)
theorem dX3_isArray_1 : decode cX3_isArray 1 = .ok (.i2l, 1) := dk_133 (dk_at dksX3_isArray_0 1 rfl rfl)
theorem dX3_isArray_2 : decode cX3_isArray 2 = .ok (.lconst 0, 1) := dk_9 (dk_at dksX3_isArray_0 2 rfl rfl)
theorem dX3_isArray_3 : decode cX3_isArray 3 = .ok (.aload_n 0, 1) := dk_42 (dk_at dksX3_isArray_0 3 rfl rfl)
theorem dX3_isArray_4 : decode cX3_isArray 4 = .ok (.getfield 98, 3) := dk_180 0 98 (dk_at dksX3_isArray_0 4 rfl rfl)
theorem dX3_isArray_7 : decode cX3_isArray 7 = .ok (.iconst 1, 1) := dk_4 (dk_at dksX3_isArray_0 7 rfl rfl)
theorem dX3_isArray_8 : decode cX3_isArray 8 = .ok (.isub, 1) := dk_100 (dk_at dksX3_isArray_0 8 rfl rfl)
theorem dX3_isArray_9 : decode cX3_isArray 9 = .ok (.i2l, 1) := dk_133 (dk_at dksX3_isArray_0 9 rfl rfl)
theorem dX3_isArray_10 : decode cX3_isArray 10 = .ok (.invokestatic 101, 3) := dk_184 0 101 (dk_at dksX3_isArray_0 10 rfl rfl)
theorem dX3_isArray_13 : decode cX3_isArray 13 = .ok (.ireturn, 1) := dk_172 (dk_at dksX3_isArray_0 13 rfl rfl)
abbrev cX3_turn : ByteArray := prog_6_method_24_code
def yX3_turn : MethodName := ⟨RX3, "turn", "(I)I"⟩
def dkwX3_turn_13 : List UInt8 := [42, 29, 182, 0, 75, 172]
abbrev dktX3_turn_13 : List UInt8 := dkwX3_turn_13 ++ []
def dkwX3_turn_12 : List UInt8 := [21, 10, 21, 7, 104, 21, 11, 96, 21, 6, 104, 96, 21, 9, 96, 182, 0, 138, 132, 8, 1, 167, 255, 175]
abbrev dktX3_turn_12 : List UInt8 := dkwX3_turn_12 ++ dktX3_turn_13
def dkwX3_turn_11 : List UInt8 := [180, 0, 35, 42, 180, 0, 32, 27, 46, 46, 21, 8, 96, 42, 180, 0, 35, 42, 180, 0, 32, 29, 46, 46]
abbrev dktX3_turn_11 : List UInt8 := dkwX3_turn_11 ++ dktX3_turn_12
def dkwX3_turn_10 : List UInt8 := [21, 8, 21, 6, 108, 21, 5, 112, 54, 10, 21, 8, 21, 6, 108, 21, 5, 108, 54, 11, 42, 42]
abbrev dktX3_turn_10 : List UInt8 := dkwX3_turn_10 ++ dktX3_turn_11
def dkwX3_turn_9 : List UInt8 := [182, 0, 108, 136, 54, 7, 3, 54, 8, 21, 8, 21, 4, 162, 0, 80, 21, 8, 21, 6, 112, 54, 9]
abbrev dktX3_turn_9 : List UInt8 := dkwX3_turn_9 ++ dktX3_turn_10
def dkwX3_turn_8 : List UInt8 := [167, 0, 10, 42, 27, 5, 182, 0, 108, 136, 54, 6, 21, 4, 154, 0, 7, 4, 167, 0, 10, 42, 27, 3]
abbrev dktX3_turn_8 : List UInt8 := dkwX3_turn_8 ++ dktX3_turn_9
def dkwX3_turn_7 : List UInt8 := [27, 4, 182, 0, 108, 136, 54, 5, 21, 4, 153, 0, 13, 42, 180, 0, 23, 27, 46, 5, 160, 0, 7, 4]
abbrev dktX3_turn_7 : List UInt8 := dkwX3_turn_7 ++ dktX3_turn_8
def dkwX3_turn_6 : List UInt8 := [54, 4, 42, 180, 0, 32, 29, 42, 21, 4, 182, 0, 111, 79, 21, 4, 154, 0, 7, 4, 167, 0, 10, 42]
abbrev dktX3_turn_6 : List UInt8 := dkwX3_turn_6 ++ dktX3_turn_7
def dkwX3_turn_5 : List UInt8 := [29, 104, 4, 96, 42, 180, 0, 29, 6, 27, 104, 46, 79, 42, 180, 0, 38, 42, 180, 0, 32, 27, 46, 46]
abbrev dktX3_turn_5 : List UInt8 := dkwX3_turn_5 ++ dktX3_turn_6
def dkwX3_turn_4 : List UInt8 := [79, 42, 180, 0, 26, 6, 29, 104, 4, 96, 42, 180, 0, 26, 6, 27, 104, 46, 79, 42, 180, 0, 29, 6]
abbrev dktX3_turn_4 : List UInt8 := dkwX3_turn_4 ++ dktX3_turn_5
def dkwX3_turn_3 : List UInt8 := [6, 27, 104, 4, 96, 46, 79, 42, 180, 0, 29, 6, 29, 104, 42, 180, 0, 29, 6, 27, 104, 4, 96, 46]
abbrev dktX3_turn_3 : List UInt8 := dkwX3_turn_3 ++ dktX3_turn_4
def dkwX3_turn_2 : List UInt8 := [172, 42, 42, 180, 0, 20, 27, 46, 27, 182, 0, 121, 62, 42, 180, 0, 26, 6, 29, 104, 42, 180, 0, 26]
abbrev dktX3_turn_2 : List UInt8 := dkwX3_turn_2 ++ dktX3_turn_3
def dkwX3_turn_1 : List UInt8 := [154, 0, 15, 42, 180, 0, 98, 16, 24, 160, 0, 6, 16, 8, 61, 28, 153, 0, 9, 42, 28, 182, 0, 68]
abbrev dktX3_turn_1 : List UInt8 := dkwX3_turn_1 ++ dktX3_turn_2
def dkwX3_turn_0 : List UInt8 := [42, 27, 182, 0, 135, 61, 28, 154, 0, 16, 42, 180, 0, 23, 27, 46, 4, 160, 0, 6, 16, 9, 61, 28]
abbrev dktX3_turn_0 : List UInt8 := dkwX3_turn_0 ++ dktX3_turn_1
theorem dksX3_turn_0 : cX3_turn.data.toList.drop 0 = dktX3_turn_0 := by decide +kernel
theorem dksX3_turn_1 : cX3_turn.data.toList.drop 24 = dktX3_turn_1 := dk_seg dksX3_turn_0 24 rfl rfl
theorem dksX3_turn_2 : cX3_turn.data.toList.drop 48 = dktX3_turn_2 := dk_seg dksX3_turn_1 24 rfl rfl
theorem dksX3_turn_3 : cX3_turn.data.toList.drop 72 = dktX3_turn_3 := dk_seg dksX3_turn_2 24 rfl rfl
theorem dksX3_turn_4 : cX3_turn.data.toList.drop 96 = dktX3_turn_4 := dk_seg dksX3_turn_3 24 rfl rfl
theorem dksX3_turn_5 : cX3_turn.data.toList.drop 120 = dktX3_turn_5 := dk_seg dksX3_turn_4 24 rfl rfl
theorem dksX3_turn_6 : cX3_turn.data.toList.drop 144 = dktX3_turn_6 := dk_seg dksX3_turn_5 24 rfl rfl
theorem dksX3_turn_7 : cX3_turn.data.toList.drop 168 = dktX3_turn_7 := dk_seg dksX3_turn_6 24 rfl rfl
theorem dksX3_turn_8 : cX3_turn.data.toList.drop 192 = dktX3_turn_8 := dk_seg dksX3_turn_7 24 rfl rfl
theorem dksX3_turn_9 : cX3_turn.data.toList.drop 216 = dktX3_turn_9 := dk_seg dksX3_turn_8 24 rfl rfl
theorem dksX3_turn_10 : cX3_turn.data.toList.drop 239 = dktX3_turn_10 := dk_seg dksX3_turn_9 23 rfl rfl
theorem dksX3_turn_11 : cX3_turn.data.toList.drop 261 = dktX3_turn_11 := dk_seg dksX3_turn_10 22 rfl rfl
theorem dksX3_turn_12 : cX3_turn.data.toList.drop 285 = dktX3_turn_12 := dk_seg dksX3_turn_11 24 rfl rfl
theorem dksX3_turn_13 : cX3_turn.data.toList.drop 309 = dktX3_turn_13 := dk_seg dksX3_turn_12 24 rfl rfl
theorem dX3_turn_0 : decode cX3_turn 0 = .ok (.aload_n 0, 1) := dk_42 (dk_at dksX3_turn_0 0 rfl rfl)
theorem dX3_turn_1 : decode cX3_turn 1 = .ok (.iload_n 1, 1) := dk_27 (dk_at dksX3_turn_0 1 rfl rfl)
theorem dX3_turn_2 : decode cX3_turn 2 = .ok (.invokevirtual 135, 3) := dk_182 0 135 (dk_at dksX3_turn_0 2 rfl rfl)
theorem dX3_turn_5 : decode cX3_turn 5 = .ok (.istore_n 2, 1) := dk_61 (dk_at dksX3_turn_0 5 rfl rfl)
theorem dX3_turn_6 : decode cX3_turn 6 = .ok (.iload_n 2, 1) := dk_28 (dk_at dksX3_turn_0 6 rfl rfl)
theorem dX3_turn_7 : decode cX3_turn 7 = .ok (.ifCond .ne 16, 3) := dk_154 0 16 (dk_at dksX3_turn_0 7 rfl rfl)
theorem dX3_turn_10 : decode cX3_turn 10 = .ok (.aload_n 0, 1) := dk_42 (dk_at dksX3_turn_0 10 rfl rfl)
theorem dX3_turn_11 : decode cX3_turn 11 = .ok (.getfield 23, 3) := dk_180 0 23 (dk_at dksX3_turn_0 11 rfl rfl)
theorem dX3_turn_14 : decode cX3_turn 14 = .ok (.iload_n 1, 1) := dk_27 (dk_at dksX3_turn_0 14 rfl rfl)
theorem dX3_turn_15 : decode cX3_turn 15 = .ok (.iaload, 1) := dk_46 (dk_at dksX3_turn_0 15 rfl rfl)
theorem dX3_turn_16 : decode cX3_turn 16 = .ok (.iconst 1, 1) := dk_4 (dk_at dksX3_turn_0 16 rfl rfl)
theorem dX3_turn_17 : decode cX3_turn 17 = .ok (.if_icmp .ne 6, 3) := dk_160 0 6 (dk_at dksX3_turn_0 17 rfl rfl)
theorem dX3_turn_20 : decode cX3_turn 20 = .ok (.bipush 9, 2) := dk_16 9 (dk_at dksX3_turn_0 20 rfl rfl)
theorem dX3_turn_22 : decode cX3_turn 22 = .ok (.istore_n 2, 1) := dk_61 (dk_at dksX3_turn_0 22 rfl rfl)
theorem dX3_turn_23 : decode cX3_turn 23 = .ok (.iload_n 2, 1) := dk_28 (dk_at dksX3_turn_0 23 rfl rfl)
theorem dX3_turn_24 : decode cX3_turn 24 = .ok (.ifCond .ne 15, 3) := dk_154 0 15 (dk_at dksX3_turn_1 0 rfl rfl)
theorem dX3_turn_27 : decode cX3_turn 27 = .ok (.aload_n 0, 1) := dk_42 (dk_at dksX3_turn_1 3 rfl rfl)
theorem dX3_turn_28 : decode cX3_turn 28 = .ok (.getfield 98, 3) := dk_180 0 98 (dk_at dksX3_turn_1 4 rfl rfl)
theorem dX3_turn_31 : decode cX3_turn 31 = .ok (.bipush 24, 2) := dk_16 24 (dk_at dksX3_turn_1 7 rfl rfl)
theorem dX3_turn_33 : decode cX3_turn 33 = .ok (.if_icmp .ne 6, 3) := dk_160 0 6 (dk_at dksX3_turn_1 9 rfl rfl)
theorem dX3_turn_36 : decode cX3_turn 36 = .ok (.bipush 8, 2) := dk_16 8 (dk_at dksX3_turn_1 12 rfl rfl)
theorem dX3_turn_38 : decode cX3_turn 38 = .ok (.istore_n 2, 1) := dk_61 (dk_at dksX3_turn_1 14 rfl rfl)
theorem dX3_turn_39 : decode cX3_turn 39 = .ok (.iload_n 2, 1) := dk_28 (dk_at dksX3_turn_1 15 rfl rfl)
theorem dX3_turn_40 : decode cX3_turn 40 = .ok (.ifCond .eq 9, 3) := dk_153 0 9 (dk_at dksX3_turn_1 16 rfl rfl)
theorem dX3_turn_43 : decode cX3_turn 43 = .ok (.aload_n 0, 1) := dk_42 (dk_at dksX3_turn_1 19 rfl rfl)
theorem dX3_turn_44 : decode cX3_turn 44 = .ok (.iload_n 2, 1) := dk_28 (dk_at dksX3_turn_1 20 rfl rfl)
theorem dX3_turn_45 : decode cX3_turn 45 = .ok (.invokevirtual 68, 3) := dk_182 0 68 (dk_at dksX3_turn_1 21 rfl rfl)
theorem dX3_turn_48 : decode cX3_turn 48 = .ok (.ireturn, 1) := dk_172 (dk_at dksX3_turn_2 0 rfl rfl)
theorem dX3_turn_49 : decode cX3_turn 49 = .ok (.aload_n 0, 1) := dk_42 (dk_at dksX3_turn_2 1 rfl rfl)
theorem dX3_turn_50 : decode cX3_turn 50 = .ok (.aload_n 0, 1) := dk_42 (dk_at dksX3_turn_2 2 rfl rfl)
theorem dX3_turn_51 : decode cX3_turn 51 = .ok (.getfield 20, 3) := dk_180 0 20 (dk_at dksX3_turn_2 3 rfl rfl)
theorem dX3_turn_54 : decode cX3_turn 54 = .ok (.iload_n 1, 1) := dk_27 (dk_at dksX3_turn_2 6 rfl rfl)
theorem dX3_turn_55 : decode cX3_turn 55 = .ok (.iaload, 1) := dk_46 (dk_at dksX3_turn_2 7 rfl rfl)
theorem dX3_turn_56 : decode cX3_turn 56 = .ok (.iload_n 1, 1) := dk_27 (dk_at dksX3_turn_2 8 rfl rfl)
theorem dX3_turn_57 : decode cX3_turn 57 = .ok (.invokevirtual 121, 3) := dk_182 0 121 (dk_at dksX3_turn_2 9 rfl rfl)
theorem dX3_turn_60 : decode cX3_turn 60 = .ok (.istore_n 3, 1) := dk_62 (dk_at dksX3_turn_2 12 rfl rfl)
theorem dX3_turn_61 : decode cX3_turn 61 = .ok (.aload_n 0, 1) := dk_42 (dk_at dksX3_turn_2 13 rfl rfl)
theorem dX3_turn_62 : decode cX3_turn 62 = .ok (.getfield 26, 3) := dk_180 0 26 (dk_at dksX3_turn_2 14 rfl rfl)
theorem dX3_turn_65 : decode cX3_turn 65 = .ok (.iconst 3, 1) := dk_6 (dk_at dksX3_turn_2 17 rfl rfl)
theorem dX3_turn_66 : decode cX3_turn 66 = .ok (.iload_n 3, 1) := dk_29 (dk_at dksX3_turn_2 18 rfl rfl)
theorem dX3_turn_67 : decode cX3_turn 67 = .ok (.imul, 1) := dk_104 (dk_at dksX3_turn_2 19 rfl rfl)
theorem dX3_turn_68 : decode cX3_turn 68 = .ok (.aload_n 0, 1) := dk_42 (dk_at dksX3_turn_2 20 rfl rfl)
theorem dX3_turn_69 : decode cX3_turn 69 = .ok (.getfield 26, 3) := dk_180 0 26 (dk_at dksX3_turn_2 21 rfl rfl)
theorem dX3_turn_72 : decode cX3_turn 72 = .ok (.iconst 3, 1) := dk_6 (dk_at dksX3_turn_3 0 rfl rfl)
theorem dX3_turn_73 : decode cX3_turn 73 = .ok (.iload_n 1, 1) := dk_27 (dk_at dksX3_turn_3 1 rfl rfl)
theorem dX3_turn_74 : decode cX3_turn 74 = .ok (.imul, 1) := dk_104 (dk_at dksX3_turn_3 2 rfl rfl)
theorem dX3_turn_75 : decode cX3_turn 75 = .ok (.iconst 1, 1) := dk_4 (dk_at dksX3_turn_3 3 rfl rfl)
theorem dX3_turn_76 : decode cX3_turn 76 = .ok (.iadd, 1) := dk_96 (dk_at dksX3_turn_3 4 rfl rfl)
theorem dX3_turn_77 : decode cX3_turn 77 = .ok (.iaload, 1) := dk_46 (dk_at dksX3_turn_3 5 rfl rfl)
theorem dX3_turn_78 : decode cX3_turn 78 = .ok (.iastore, 1) := dk_79 (dk_at dksX3_turn_3 6 rfl rfl)
theorem dX3_turn_79 : decode cX3_turn 79 = .ok (.aload_n 0, 1) := dk_42 (dk_at dksX3_turn_3 7 rfl rfl)
theorem dX3_turn_80 : decode cX3_turn 80 = .ok (.getfield 29, 3) := dk_180 0 29 (dk_at dksX3_turn_3 8 rfl rfl)
theorem dX3_turn_83 : decode cX3_turn 83 = .ok (.iconst 3, 1) := dk_6 (dk_at dksX3_turn_3 11 rfl rfl)
theorem dX3_turn_84 : decode cX3_turn 84 = .ok (.iload_n 3, 1) := dk_29 (dk_at dksX3_turn_3 12 rfl rfl)
theorem dX3_turn_85 : decode cX3_turn 85 = .ok (.imul, 1) := dk_104 (dk_at dksX3_turn_3 13 rfl rfl)
theorem dX3_turn_86 : decode cX3_turn 86 = .ok (.aload_n 0, 1) := dk_42 (dk_at dksX3_turn_3 14 rfl rfl)
theorem dX3_turn_87 : decode cX3_turn 87 = .ok (.getfield 29, 3) := dk_180 0 29 (dk_at dksX3_turn_3 15 rfl rfl)
theorem dX3_turn_90 : decode cX3_turn 90 = .ok (.iconst 3, 1) := dk_6 (dk_at dksX3_turn_3 18 rfl rfl)
theorem dX3_turn_91 : decode cX3_turn 91 = .ok (.iload_n 1, 1) := dk_27 (dk_at dksX3_turn_3 19 rfl rfl)
theorem dX3_turn_92 : decode cX3_turn 92 = .ok (.imul, 1) := dk_104 (dk_at dksX3_turn_3 20 rfl rfl)
theorem dX3_turn_93 : decode cX3_turn 93 = .ok (.iconst 1, 1) := dk_4 (dk_at dksX3_turn_3 21 rfl rfl)
theorem dX3_turn_94 : decode cX3_turn 94 = .ok (.iadd, 1) := dk_96 (dk_at dksX3_turn_3 22 rfl rfl)
theorem dX3_turn_95 : decode cX3_turn 95 = .ok (.iaload, 1) := dk_46 (dk_at dksX3_turn_3 23 rfl rfl)
theorem dX3_turn_96 : decode cX3_turn 96 = .ok (.iastore, 1) := dk_79 (dk_at dksX3_turn_4 0 rfl rfl)
theorem dX3_turn_97 : decode cX3_turn 97 = .ok (.aload_n 0, 1) := dk_42 (dk_at dksX3_turn_4 1 rfl rfl)
theorem dX3_turn_98 : decode cX3_turn 98 = .ok (.getfield 26, 3) := dk_180 0 26 (dk_at dksX3_turn_4 2 rfl rfl)
theorem dX3_turn_101 : decode cX3_turn 101 = .ok (.iconst 3, 1) := dk_6 (dk_at dksX3_turn_4 5 rfl rfl)
theorem dX3_turn_102 : decode cX3_turn 102 = .ok (.iload_n 3, 1) := dk_29 (dk_at dksX3_turn_4 6 rfl rfl)
theorem dX3_turn_103 : decode cX3_turn 103 = .ok (.imul, 1) := dk_104 (dk_at dksX3_turn_4 7 rfl rfl)
theorem dX3_turn_104 : decode cX3_turn 104 = .ok (.iconst 1, 1) := dk_4 (dk_at dksX3_turn_4 8 rfl rfl)
theorem dX3_turn_105 : decode cX3_turn 105 = .ok (.iadd, 1) := dk_96 (dk_at dksX3_turn_4 9 rfl rfl)
theorem dX3_turn_106 : decode cX3_turn 106 = .ok (.aload_n 0, 1) := dk_42 (dk_at dksX3_turn_4 10 rfl rfl)
theorem dX3_turn_107 : decode cX3_turn 107 = .ok (.getfield 26, 3) := dk_180 0 26 (dk_at dksX3_turn_4 11 rfl rfl)
theorem dX3_turn_110 : decode cX3_turn 110 = .ok (.iconst 3, 1) := dk_6 (dk_at dksX3_turn_4 14 rfl rfl)
theorem dX3_turn_111 : decode cX3_turn 111 = .ok (.iload_n 1, 1) := dk_27 (dk_at dksX3_turn_4 15 rfl rfl)
theorem dX3_turn_112 : decode cX3_turn 112 = .ok (.imul, 1) := dk_104 (dk_at dksX3_turn_4 16 rfl rfl)
theorem dX3_turn_113 : decode cX3_turn 113 = .ok (.iaload, 1) := dk_46 (dk_at dksX3_turn_4 17 rfl rfl)
theorem dX3_turn_114 : decode cX3_turn 114 = .ok (.iastore, 1) := dk_79 (dk_at dksX3_turn_4 18 rfl rfl)
theorem dX3_turn_115 : decode cX3_turn 115 = .ok (.aload_n 0, 1) := dk_42 (dk_at dksX3_turn_4 19 rfl rfl)
theorem dX3_turn_116 : decode cX3_turn 116 = .ok (.getfield 29, 3) := dk_180 0 29 (dk_at dksX3_turn_4 20 rfl rfl)
theorem dX3_turn_119 : decode cX3_turn 119 = .ok (.iconst 3, 1) := dk_6 (dk_at dksX3_turn_4 23 rfl rfl)
theorem dX3_turn_120 : decode cX3_turn 120 = .ok (.iload_n 3, 1) := dk_29 (dk_at dksX3_turn_5 0 rfl rfl)
theorem dX3_turn_121 : decode cX3_turn 121 = .ok (.imul, 1) := dk_104 (dk_at dksX3_turn_5 1 rfl rfl)
theorem dX3_turn_122 : decode cX3_turn 122 = .ok (.iconst 1, 1) := dk_4 (dk_at dksX3_turn_5 2 rfl rfl)
theorem dX3_turn_123 : decode cX3_turn 123 = .ok (.iadd, 1) := dk_96 (dk_at dksX3_turn_5 3 rfl rfl)
theorem dX3_turn_124 : decode cX3_turn 124 = .ok (.aload_n 0, 1) := dk_42 (dk_at dksX3_turn_5 4 rfl rfl)
theorem dX3_turn_125 : decode cX3_turn 125 = .ok (.getfield 29, 3) := dk_180 0 29 (dk_at dksX3_turn_5 5 rfl rfl)
theorem dX3_turn_128 : decode cX3_turn 128 = .ok (.iconst 3, 1) := dk_6 (dk_at dksX3_turn_5 8 rfl rfl)
theorem dX3_turn_129 : decode cX3_turn 129 = .ok (.iload_n 1, 1) := dk_27 (dk_at dksX3_turn_5 9 rfl rfl)
theorem dX3_turn_130 : decode cX3_turn 130 = .ok (.imul, 1) := dk_104 (dk_at dksX3_turn_5 10 rfl rfl)
theorem dX3_turn_131 : decode cX3_turn 131 = .ok (.iaload, 1) := dk_46 (dk_at dksX3_turn_5 11 rfl rfl)
theorem dX3_turn_132 : decode cX3_turn 132 = .ok (.iastore, 1) := dk_79 (dk_at dksX3_turn_5 12 rfl rfl)
theorem dX3_turn_133 : decode cX3_turn 133 = .ok (.aload_n 0, 1) := dk_42 (dk_at dksX3_turn_5 13 rfl rfl)
theorem dX3_turn_134 : decode cX3_turn 134 = .ok (.getfield 38, 3) := dk_180 0 38 (dk_at dksX3_turn_5 14 rfl rfl)
theorem dX3_turn_137 : decode cX3_turn 137 = .ok (.aload_n 0, 1) := dk_42 (dk_at dksX3_turn_5 17 rfl rfl)
theorem dX3_turn_138 : decode cX3_turn 138 = .ok (.getfield 32, 3) := dk_180 0 32 (dk_at dksX3_turn_5 18 rfl rfl)
theorem dX3_turn_141 : decode cX3_turn 141 = .ok (.iload_n 1, 1) := dk_27 (dk_at dksX3_turn_5 21 rfl rfl)
theorem dX3_turn_142 : decode cX3_turn 142 = .ok (.iaload, 1) := dk_46 (dk_at dksX3_turn_5 22 rfl rfl)
theorem dX3_turn_143 : decode cX3_turn 143 = .ok (.iaload, 1) := dk_46 (dk_at dksX3_turn_5 23 rfl rfl)
theorem dX3_turn_144 : decode cX3_turn 144 = .ok (.istore 4, 2) := dk_54 4 (dk_at dksX3_turn_6 0 rfl rfl)
theorem dX3_turn_146 : decode cX3_turn 146 = .ok (.aload_n 0, 1) := dk_42 (dk_at dksX3_turn_6 2 rfl rfl)
theorem dX3_turn_147 : decode cX3_turn 147 = .ok (.getfield 32, 3) := dk_180 0 32 (dk_at dksX3_turn_6 3 rfl rfl)
theorem dX3_turn_150 : decode cX3_turn 150 = .ok (.iload_n 3, 1) := dk_29 (dk_at dksX3_turn_6 6 rfl rfl)
theorem dX3_turn_151 : decode cX3_turn 151 = .ok (.aload_n 0, 1) := dk_42 (dk_at dksX3_turn_6 7 rfl rfl)
theorem dX3_turn_152 : decode cX3_turn 152 = .ok (.iload 4, 2) := dk_21 4 (dk_at dksX3_turn_6 8 rfl rfl)
theorem dX3_turn_154 : decode cX3_turn 154 = .ok (.invokevirtual 111, 3) := dk_182 0 111 (dk_at dksX3_turn_6 10 rfl rfl)
theorem dX3_turn_157 : decode cX3_turn 157 = .ok (.iastore, 1) := dk_79 (dk_at dksX3_turn_6 13 rfl rfl)
theorem dX3_turn_158 : decode cX3_turn 158 = .ok (.iload 4, 2) := dk_21 4 (dk_at dksX3_turn_6 14 rfl rfl)
theorem dX3_turn_160 : decode cX3_turn 160 = .ok (.ifCond .ne 7, 3) := dk_154 0 7 (dk_at dksX3_turn_6 16 rfl rfl)
theorem dX3_turn_163 : decode cX3_turn 163 = .ok (.iconst 1, 1) := dk_4 (dk_at dksX3_turn_6 19 rfl rfl)
theorem dX3_turn_164 : decode cX3_turn 164 = .ok (.goto 10, 3) := dk_167 0 10 (dk_at dksX3_turn_6 20 rfl rfl)
theorem dX3_turn_167 : decode cX3_turn 167 = .ok (.aload_n 0, 1) := dk_42 (dk_at dksX3_turn_6 23 rfl rfl)
theorem dX3_turn_168 : decode cX3_turn 168 = .ok (.iload_n 1, 1) := dk_27 (dk_at dksX3_turn_7 0 rfl rfl)
theorem dX3_turn_169 : decode cX3_turn 169 = .ok (.iconst 1, 1) := dk_4 (dk_at dksX3_turn_7 1 rfl rfl)
theorem dX3_turn_170 : decode cX3_turn 170 = .ok (.invokevirtual 108, 3) := dk_182 0 108 (dk_at dksX3_turn_7 2 rfl rfl)
theorem dX3_turn_173 : decode cX3_turn 173 = .ok (.l2i, 1) := dk_136 (dk_at dksX3_turn_7 5 rfl rfl)
theorem dX3_turn_174 : decode cX3_turn 174 = .ok (.istore 5, 2) := dk_54 5 (dk_at dksX3_turn_7 6 rfl rfl)
theorem dX3_turn_176 : decode cX3_turn 176 = .ok (.iload 4, 2) := dk_21 4 (dk_at dksX3_turn_7 8 rfl rfl)
theorem dX3_turn_178 : decode cX3_turn 178 = .ok (.ifCond .eq 13, 3) := dk_153 0 13 (dk_at dksX3_turn_7 10 rfl rfl)
theorem dX3_turn_181 : decode cX3_turn 181 = .ok (.aload_n 0, 1) := dk_42 (dk_at dksX3_turn_7 13 rfl rfl)
theorem dX3_turn_182 : decode cX3_turn 182 = .ok (.getfield 23, 3) := dk_180 0 23 (dk_at dksX3_turn_7 14 rfl rfl)
theorem dX3_turn_185 : decode cX3_turn 185 = .ok (.iload_n 1, 1) := dk_27 (dk_at dksX3_turn_7 17 rfl rfl)
theorem dX3_turn_186 : decode cX3_turn 186 = .ok (.iaload, 1) := dk_46 (dk_at dksX3_turn_7 18 rfl rfl)
theorem dX3_turn_187 : decode cX3_turn 187 = .ok (.iconst 2, 1) := dk_5 (dk_at dksX3_turn_7 19 rfl rfl)
theorem dX3_turn_188 : decode cX3_turn 188 = .ok (.if_icmp .ne 7, 3) := dk_160 0 7 (dk_at dksX3_turn_7 20 rfl rfl)
theorem dX3_turn_191 : decode cX3_turn 191 = .ok (.iconst 1, 1) := dk_4 (dk_at dksX3_turn_7 23 rfl rfl)
theorem dX3_turn_192 : decode cX3_turn 192 = .ok (.goto 10, 3) := dk_167 0 10 (dk_at dksX3_turn_8 0 rfl rfl)
theorem dX3_turn_195 : decode cX3_turn 195 = .ok (.aload_n 0, 1) := dk_42 (dk_at dksX3_turn_8 3 rfl rfl)
theorem dX3_turn_196 : decode cX3_turn 196 = .ok (.iload_n 1, 1) := dk_27 (dk_at dksX3_turn_8 4 rfl rfl)
theorem dX3_turn_197 : decode cX3_turn 197 = .ok (.iconst 2, 1) := dk_5 (dk_at dksX3_turn_8 5 rfl rfl)
theorem dX3_turn_198 : decode cX3_turn 198 = .ok (.invokevirtual 108, 3) := dk_182 0 108 (dk_at dksX3_turn_8 6 rfl rfl)
theorem dX3_turn_201 : decode cX3_turn 201 = .ok (.l2i, 1) := dk_136 (dk_at dksX3_turn_8 9 rfl rfl)
theorem dX3_turn_202 : decode cX3_turn 202 = .ok (.istore 6, 2) := dk_54 6 (dk_at dksX3_turn_8 10 rfl rfl)
theorem dX3_turn_204 : decode cX3_turn 204 = .ok (.iload 4, 2) := dk_21 4 (dk_at dksX3_turn_8 12 rfl rfl)
theorem dX3_turn_206 : decode cX3_turn 206 = .ok (.ifCond .ne 7, 3) := dk_154 0 7 (dk_at dksX3_turn_8 14 rfl rfl)
theorem dX3_turn_209 : decode cX3_turn 209 = .ok (.iconst 1, 1) := dk_4 (dk_at dksX3_turn_8 17 rfl rfl)
theorem dX3_turn_210 : decode cX3_turn 210 = .ok (.goto 10, 3) := dk_167 0 10 (dk_at dksX3_turn_8 18 rfl rfl)
theorem dX3_turn_213 : decode cX3_turn 213 = .ok (.aload_n 0, 1) := dk_42 (dk_at dksX3_turn_8 21 rfl rfl)
theorem dX3_turn_214 : decode cX3_turn 214 = .ok (.iload_n 1, 1) := dk_27 (dk_at dksX3_turn_8 22 rfl rfl)
theorem dX3_turn_215 : decode cX3_turn 215 = .ok (.iconst 0, 1) := dk_3 (dk_at dksX3_turn_8 23 rfl rfl)
theorem dX3_turn_216 : decode cX3_turn 216 = .ok (.invokevirtual 108, 3) := dk_182 0 108 (dk_at dksX3_turn_9 0 rfl rfl)
theorem dX3_turn_219 : decode cX3_turn 219 = .ok (.l2i, 1) := dk_136 (dk_at dksX3_turn_9 3 rfl rfl)
theorem dX3_turn_220 : decode cX3_turn 220 = .ok (.istore 7, 2) := dk_54 7 (dk_at dksX3_turn_9 4 rfl rfl)
theorem dX3_turn_222 : decode cX3_turn 222 = .ok (.iconst 0, 1) := dk_3 (dk_at dksX3_turn_9 6 rfl rfl)
theorem dX3_turn_223 : decode cX3_turn 223 = .ok (.istore 8, 2) := dk_54 8 (dk_at dksX3_turn_9 7 rfl rfl)
theorem dX3_turn_225 : decode cX3_turn 225 = .ok (.iload 8, 2) := dk_21 8 (dk_at dksX3_turn_9 9 rfl rfl)
theorem dX3_turn_227 : decode cX3_turn 227 = .ok (.iload 4, 2) := dk_21 4 (dk_at dksX3_turn_9 11 rfl rfl)
theorem dX3_turn_229 : decode cX3_turn 229 = .ok (.if_icmp .ge 80, 3) := dk_162 0 80 (dk_at dksX3_turn_9 13 rfl rfl)
theorem dX3_turn_232 : decode cX3_turn 232 = .ok (.iload 8, 2) := dk_21 8 (dk_at dksX3_turn_9 16 rfl rfl)
theorem dX3_turn_234 : decode cX3_turn 234 = .ok (.iload 6, 2) := dk_21 6 (dk_at dksX3_turn_9 18 rfl rfl)
theorem dX3_turn_236 : decode cX3_turn 236 = .ok (.irem, 1) := dk_112 (dk_at dksX3_turn_9 20 rfl rfl)
theorem dX3_turn_237 : decode cX3_turn 237 = .ok (.istore 9, 2) := dk_54 9 (dk_at dksX3_turn_9 21 rfl rfl)
theorem dX3_turn_239 : decode cX3_turn 239 = .ok (.iload 8, 2) := dk_21 8 (dk_at dksX3_turn_10 0 rfl rfl)
theorem dX3_turn_241 : decode cX3_turn 241 = .ok (.iload 6, 2) := dk_21 6 (dk_at dksX3_turn_10 2 rfl rfl)
theorem dX3_turn_243 : decode cX3_turn 243 = .ok (.idiv, 1) := dk_108 (dk_at dksX3_turn_10 4 rfl rfl)
theorem dX3_turn_244 : decode cX3_turn 244 = .ok (.iload 5, 2) := dk_21 5 (dk_at dksX3_turn_10 5 rfl rfl)
theorem dX3_turn_246 : decode cX3_turn 246 = .ok (.irem, 1) := dk_112 (dk_at dksX3_turn_10 7 rfl rfl)
theorem dX3_turn_247 : decode cX3_turn 247 = .ok (.istore 10, 2) := dk_54 10 (dk_at dksX3_turn_10 8 rfl rfl)
theorem dX3_turn_249 : decode cX3_turn 249 = .ok (.iload 8, 2) := dk_21 8 (dk_at dksX3_turn_10 10 rfl rfl)
theorem dX3_turn_251 : decode cX3_turn 251 = .ok (.iload 6, 2) := dk_21 6 (dk_at dksX3_turn_10 12 rfl rfl)
theorem dX3_turn_253 : decode cX3_turn 253 = .ok (.idiv, 1) := dk_108 (dk_at dksX3_turn_10 14 rfl rfl)
theorem dX3_turn_254 : decode cX3_turn 254 = .ok (.iload 5, 2) := dk_21 5 (dk_at dksX3_turn_10 15 rfl rfl)
theorem dX3_turn_256 : decode cX3_turn 256 = .ok (.idiv, 1) := dk_108 (dk_at dksX3_turn_10 17 rfl rfl)
theorem dX3_turn_257 : decode cX3_turn 257 = .ok (.istore 11, 2) := dk_54 11 (dk_at dksX3_turn_10 18 rfl rfl)
theorem dX3_turn_259 : decode cX3_turn 259 = .ok (.aload_n 0, 1) := dk_42 (dk_at dksX3_turn_10 20 rfl rfl)
theorem dX3_turn_260 : decode cX3_turn 260 = .ok (.aload_n 0, 1) := dk_42 (dk_at dksX3_turn_10 21 rfl rfl)
theorem dX3_turn_261 : decode cX3_turn 261 = .ok (.getfield 35, 3) := dk_180 0 35 (dk_at dksX3_turn_11 0 rfl rfl)
theorem dX3_turn_264 : decode cX3_turn 264 = .ok (.aload_n 0, 1) := dk_42 (dk_at dksX3_turn_11 3 rfl rfl)
theorem dX3_turn_265 : decode cX3_turn 265 = .ok (.getfield 32, 3) := dk_180 0 32 (dk_at dksX3_turn_11 4 rfl rfl)
theorem dX3_turn_268 : decode cX3_turn 268 = .ok (.iload_n 1, 1) := dk_27 (dk_at dksX3_turn_11 7 rfl rfl)
theorem dX3_turn_269 : decode cX3_turn 269 = .ok (.iaload, 1) := dk_46 (dk_at dksX3_turn_11 8 rfl rfl)
theorem dX3_turn_270 : decode cX3_turn 270 = .ok (.iaload, 1) := dk_46 (dk_at dksX3_turn_11 9 rfl rfl)
theorem dX3_turn_271 : decode cX3_turn 271 = .ok (.iload 8, 2) := dk_21 8 (dk_at dksX3_turn_11 10 rfl rfl)
theorem dX3_turn_273 : decode cX3_turn 273 = .ok (.iadd, 1) := dk_96 (dk_at dksX3_turn_11 12 rfl rfl)
theorem dX3_turn_274 : decode cX3_turn 274 = .ok (.aload_n 0, 1) := dk_42 (dk_at dksX3_turn_11 13 rfl rfl)
theorem dX3_turn_275 : decode cX3_turn 275 = .ok (.getfield 35, 3) := dk_180 0 35 (dk_at dksX3_turn_11 14 rfl rfl)
theorem dX3_turn_278 : decode cX3_turn 278 = .ok (.aload_n 0, 1) := dk_42 (dk_at dksX3_turn_11 17 rfl rfl)
theorem dX3_turn_279 : decode cX3_turn 279 = .ok (.getfield 32, 3) := dk_180 0 32 (dk_at dksX3_turn_11 18 rfl rfl)
theorem dX3_turn_282 : decode cX3_turn 282 = .ok (.iload_n 3, 1) := dk_29 (dk_at dksX3_turn_11 21 rfl rfl)
theorem dX3_turn_283 : decode cX3_turn 283 = .ok (.iaload, 1) := dk_46 (dk_at dksX3_turn_11 22 rfl rfl)
theorem dX3_turn_284 : decode cX3_turn 284 = .ok (.iaload, 1) := dk_46 (dk_at dksX3_turn_11 23 rfl rfl)
theorem dX3_turn_285 : decode cX3_turn 285 = .ok (.iload 10, 2) := dk_21 10 (dk_at dksX3_turn_12 0 rfl rfl)
theorem dX3_turn_287 : decode cX3_turn 287 = .ok (.iload 7, 2) := dk_21 7 (dk_at dksX3_turn_12 2 rfl rfl)
theorem dX3_turn_289 : decode cX3_turn 289 = .ok (.imul, 1) := dk_104 (dk_at dksX3_turn_12 4 rfl rfl)
theorem dX3_turn_290 : decode cX3_turn 290 = .ok (.iload 11, 2) := dk_21 11 (dk_at dksX3_turn_12 5 rfl rfl)
theorem dX3_turn_292 : decode cX3_turn 292 = .ok (.iadd, 1) := dk_96 (dk_at dksX3_turn_12 7 rfl rfl)
theorem dX3_turn_293 : decode cX3_turn 293 = .ok (.iload 6, 2) := dk_21 6 (dk_at dksX3_turn_12 8 rfl rfl)
theorem dX3_turn_295 : decode cX3_turn 295 = .ok (.imul, 1) := dk_104 (dk_at dksX3_turn_12 10 rfl rfl)
theorem dX3_turn_296 : decode cX3_turn 296 = .ok (.iadd, 1) := dk_96 (dk_at dksX3_turn_12 11 rfl rfl)
theorem dX3_turn_297 : decode cX3_turn 297 = .ok (.iload 9, 2) := dk_21 9 (dk_at dksX3_turn_12 12 rfl rfl)
theorem dX3_turn_299 : decode cX3_turn 299 = .ok (.iadd, 1) := dk_96 (dk_at dksX3_turn_12 14 rfl rfl)
theorem dX3_turn_300 : decode cX3_turn 300 = .ok (.invokevirtual 138, 3) := dk_182 0 138 (dk_at dksX3_turn_12 15 rfl rfl)
theorem dX3_turn_303 : decode cX3_turn 303 = .ok (.iinc 8 1, 3) := dk_132 8 1 (dk_at dksX3_turn_12 18 rfl rfl)
theorem dX3_turn_306 : decode cX3_turn 306 = .ok (.goto (-81), 3) := dk_167 255 175 (dk_at dksX3_turn_12 21 rfl rfl)
theorem dX3_turn_309 : decode cX3_turn 309 = .ok (.aload_n 0, 1) := dk_42 (dk_at dksX3_turn_13 0 rfl rfl)
theorem dX3_turn_310 : decode cX3_turn 310 = .ok (.iload_n 3, 1) := dk_29 (dk_at dksX3_turn_13 1 rfl rfl)
theorem dX3_turn_311 : decode cX3_turn 311 = .ok (.invokevirtual 75, 3) := dk_182 0 75 (dk_at dksX3_turn_13 2 rfl rfl)
theorem dX3_turn_314 : decode cX3_turn 314 = .ok (.ireturn, 1) := dk_172 (dk_at dksX3_turn_13 5 rfl rfl)
abbrev cX3_copy : ByteArray := prog_6_method_23_code
def yX3_copy : MethodName := ⟨RX3, "copy", "(II)V"⟩
def dkwX3_copy_1 : List UInt8 := [177]
abbrev dktX3_copy_1 : List UInt8 := dkwX3_copy_1 ++ []
def dkwX3_copy_0 : List UInt8 := [42, 180, 0, 42, 28, 42, 180, 0, 42, 27, 47, 80, 42, 180, 0, 46, 28, 42, 180, 0, 46, 27, 51, 84]
abbrev dktX3_copy_0 : List UInt8 := dkwX3_copy_0 ++ dktX3_copy_1
theorem dksX3_copy_0 : cX3_copy.data.toList.drop 0 = dktX3_copy_0 := by decide +kernel
theorem dksX3_copy_1 : cX3_copy.data.toList.drop 24 = dktX3_copy_1 := dk_seg dksX3_copy_0 24 rfl rfl
theorem dX3_copy_0 : decode cX3_copy 0 = .ok (.aload_n 0, 1) := dk_42 (dk_at dksX3_copy_0 0 rfl rfl)
theorem dX3_copy_1 : decode cX3_copy 1 = .ok (.getfield 42, 3) := dk_180 0 42 (dk_at dksX3_copy_0 1 rfl rfl)
theorem dX3_copy_4 : decode cX3_copy 4 = .ok (.iload_n 2, 1) := dk_28 (dk_at dksX3_copy_0 4 rfl rfl)
theorem dX3_copy_5 : decode cX3_copy 5 = .ok (.aload_n 0, 1) := dk_42 (dk_at dksX3_copy_0 5 rfl rfl)
theorem dX3_copy_6 : decode cX3_copy 6 = .ok (.getfield 42, 3) := dk_180 0 42 (dk_at dksX3_copy_0 6 rfl rfl)
theorem dX3_copy_9 : decode cX3_copy 9 = .ok (.iload_n 1, 1) := dk_27 (dk_at dksX3_copy_0 9 rfl rfl)
theorem dX3_copy_10 : decode cX3_copy 10 = .ok (.laload, 1) := dk_47 (dk_at dksX3_copy_0 10 rfl rfl)
theorem dX3_copy_11 : decode cX3_copy 11 = .ok (.lastore, 1) := dk_80 (dk_at dksX3_copy_0 11 rfl rfl)
theorem dX3_copy_12 : decode cX3_copy 12 = .ok (.aload_n 0, 1) := dk_42 (dk_at dksX3_copy_0 12 rfl rfl)
theorem dX3_copy_13 : decode cX3_copy 13 = .ok (.getfield 46, 3) := dk_180 0 46 (dk_at dksX3_copy_0 13 rfl rfl)
theorem dX3_copy_16 : decode cX3_copy 16 = .ok (.iload_n 2, 1) := dk_28 (dk_at dksX3_copy_0 16 rfl rfl)
theorem dX3_copy_17 : decode cX3_copy 17 = .ok (.aload_n 0, 1) := dk_42 (dk_at dksX3_copy_0 17 rfl rfl)
theorem dX3_copy_18 : decode cX3_copy 18 = .ok (.getfield 46, 3) := dk_180 0 46 (dk_at dksX3_copy_0 18 rfl rfl)
theorem dX3_copy_21 : decode cX3_copy 21 = .ok (.iload_n 1, 1) := dk_27 (dk_at dksX3_copy_0 21 rfl rfl)
theorem dX3_copy_22 : decode cX3_copy 22 = .ok (.baload, 1) := dk_51 (dk_at dksX3_copy_0 22 rfl rfl)
theorem dX3_copy_23 : decode cX3_copy 23 = .ok (.bastore, 1) := dk_84 (dk_at dksX3_copy_0 23 rfl rfl)
theorem dX3_copy_24 : decode cX3_copy 24 = .ok (.return_, 1) := dk_177 (dk_at dksX3_copy_1 0 rfl rfl)
abbrev cX3_cut : ByteArray := prog_6_method_27_code
def yX3_cut : MethodName := ⟨RX3, "cut", "(I)I"⟩
def dkwX3_cut_15 : List UInt8 := [167, 255, 159, 42, 3, 181, 0, 72, 42, 21, 6, 182, 0, 75, 172]
abbrev dktX3_cut_15 : List UInt8 := dkwX3_cut_15 ++ []
def dkwX3_cut_14 : List UInt8 := [21, 8, 96, 42, 180, 0, 35, 42, 180, 0, 32, 21, 6, 46, 46, 21, 7, 96, 182, 0, 138, 132, 7, 1]
abbrev dktX3_cut_14 : List UInt8 := dkwX3_cut_14 ++ dktX3_cut_15
def dkwX3_cut_13 : List UInt8 := [21, 5, 112, 184, 0, 145, 182, 0, 148, 54, 8, 42, 42, 180, 0, 35, 42, 180, 0, 32, 27, 46, 46]
abbrev dktX3_cut_13 : List UInt8 := dkwX3_cut_13 ++ dktX3_cut_14
def dkwX3_cut_12 : List UInt8 := [180, 0, 13, 4, 46, 21, 7, 21, 5, 108, 21, 4, 112, 184, 0, 145, 42, 180, 0, 13, 5, 46, 21, 7]
abbrev dktX3_cut_12 : List UInt8 := dkwX3_cut_12 ++ dktX3_cut_13
def dkwX3_cut_11 : List UInt8 := [162, 0, 97, 42, 27, 42, 180, 0, 13, 3, 46, 21, 7, 21, 5, 108, 21, 4, 108, 184, 0, 145, 42]
abbrev dktX3_cut_11 : List UInt8 := dkwX3_cut_11 ++ dktX3_cut_12
def dkwX3_cut_10 : List UInt8 := [182, 0, 121, 54, 6, 42, 180, 0, 32, 21, 6, 42, 29, 182, 0, 111, 79, 3, 54, 7, 21, 7, 29]
abbrev dktX3_cut_10 : List UInt8 := dkwX3_cut_10 ++ dktX3_cut_11
def dkwX3_cut_9 : List UInt8 := [180, 0, 98, 16, 24, 160, 0, 10, 42, 16, 8, 182, 0, 68, 172, 42, 42, 180, 0, 20, 27, 46, 2]
abbrev dktX3_cut_9 : List UInt8 := dkwX3_cut_9 ++ dktX3_cut_10
def dkwX3_cut_8 : List UInt8 := [182, 0, 148, 2, 160, 0, 12, 42, 42, 180, 0, 142, 182, 0, 152, 172, 132, 6, 1, 167, 255, 181, 42]
abbrev dktX3_cut_8 : List UInt8 := dkwX3_cut_8 ++ dktX3_cut_9
def dkwX3_cut_7 : List UInt8 := [21, 5, 108, 21, 4, 112, 184, 0, 145, 42, 180, 0, 13, 5, 46, 21, 6, 21, 5, 112, 184, 0, 145]
abbrev dktX3_cut_7 : List UInt8 := dkwX3_cut_7 ++ dktX3_cut_8
def dkwX3_cut_6 : List UInt8 := [180, 0, 13, 3, 46, 21, 6, 21, 5, 108, 21, 4, 108, 184, 0, 145, 42, 180, 0, 13, 4, 46, 21, 6]
abbrev dktX3_cut_6 : List UInt8 := dkwX3_cut_6 ++ dktX3_cut_7
def dkwX3_cut_5 : List UInt8 := [180, 0, 17, 5, 46, 184, 0, 78, 136, 54, 5, 3, 54, 6, 21, 6, 29, 162, 0, 75, 42, 27, 42]
abbrev dktX3_cut_5 : List UInt8 := dkwX3_cut_5 ++ dktX3_cut_6
def dkwX3_cut_4 : List UInt8 := [153, 0, 11, 42, 180, 0, 72, 6, 162, 0, 7, 4, 167, 0, 19, 42, 180, 0, 13, 5, 46, 42]
abbrev dktX3_cut_4 : List UInt8 := dkwX3_cut_4 ++ dktX3_cut_5
def dkwX3_cut_3 : List UInt8 := [167, 0, 19, 42, 180, 0, 13, 4, 46, 42, 180, 0, 17, 4, 46, 184, 0, 78, 136, 54, 4, 29]
abbrev dktX3_cut_3 : List UInt8 := dkwX3_cut_3 ++ dktX3_cut_4
def dkwX3_cut_2 : List UInt8 := [153, 0, 9, 42, 28, 182, 0, 68, 172, 29, 153, 0, 11, 42, 180, 0, 72, 5, 162, 0, 7, 4]
abbrev dktX3_cut_2 : List UInt8 := dkwX3_cut_2 ++ dktX3_cut_3
def dkwX3_cut_1 : List UInt8 := [16, 9, 61, 42, 182, 0, 117, 62, 28, 154, 0, 12, 29, 17, 1, 244, 164, 0, 5, 8, 61, 28]
abbrev dktX3_cut_1 : List UInt8 := dkwX3_cut_1 ++ dktX3_cut_2
def dkwX3_cut_0 : List UInt8 := [42, 27, 182, 0, 135, 61, 28, 154, 0, 19, 42, 180, 0, 72, 42, 180, 0, 23, 27, 46, 159, 0, 6]
abbrev dktX3_cut_0 : List UInt8 := dkwX3_cut_0 ++ dktX3_cut_1
theorem dksX3_cut_0 : cX3_cut.data.toList.drop 0 = dktX3_cut_0 := by decide +kernel
theorem dksX3_cut_1 : cX3_cut.data.toList.drop 23 = dktX3_cut_1 := dk_seg dksX3_cut_0 23 rfl rfl
theorem dksX3_cut_2 : cX3_cut.data.toList.drop 45 = dktX3_cut_2 := dk_seg dksX3_cut_1 22 rfl rfl
theorem dksX3_cut_3 : cX3_cut.data.toList.drop 67 = dktX3_cut_3 := dk_seg dksX3_cut_2 22 rfl rfl
theorem dksX3_cut_4 : cX3_cut.data.toList.drop 89 = dktX3_cut_4 := dk_seg dksX3_cut_3 22 rfl rfl
theorem dksX3_cut_5 : cX3_cut.data.toList.drop 111 = dktX3_cut_5 := dk_seg dksX3_cut_4 22 rfl rfl
theorem dksX3_cut_6 : cX3_cut.data.toList.drop 134 = dktX3_cut_6 := dk_seg dksX3_cut_5 23 rfl rfl
theorem dksX3_cut_7 : cX3_cut.data.toList.drop 158 = dktX3_cut_7 := dk_seg dksX3_cut_6 24 rfl rfl
theorem dksX3_cut_8 : cX3_cut.data.toList.drop 181 = dktX3_cut_8 := dk_seg dksX3_cut_7 23 rfl rfl
theorem dksX3_cut_9 : cX3_cut.data.toList.drop 204 = dktX3_cut_9 := dk_seg dksX3_cut_8 23 rfl rfl
theorem dksX3_cut_10 : cX3_cut.data.toList.drop 227 = dktX3_cut_10 := dk_seg dksX3_cut_9 23 rfl rfl
theorem dksX3_cut_11 : cX3_cut.data.toList.drop 250 = dktX3_cut_11 := dk_seg dksX3_cut_10 23 rfl rfl
theorem dksX3_cut_12 : cX3_cut.data.toList.drop 273 = dktX3_cut_12 := dk_seg dksX3_cut_11 23 rfl rfl
theorem dksX3_cut_13 : cX3_cut.data.toList.drop 297 = dktX3_cut_13 := dk_seg dksX3_cut_12 24 rfl rfl
theorem dksX3_cut_14 : cX3_cut.data.toList.drop 320 = dktX3_cut_14 := dk_seg dksX3_cut_13 23 rfl rfl
theorem dksX3_cut_15 : cX3_cut.data.toList.drop 344 = dktX3_cut_15 := dk_seg dksX3_cut_14 24 rfl rfl
theorem dX3_cut_0 : decode cX3_cut 0 = .ok (.aload_n 0, 1) := dk_42 (dk_at dksX3_cut_0 0 rfl rfl)
theorem dX3_cut_1 : decode cX3_cut 1 = .ok (.iload_n 1, 1) := dk_27 (dk_at dksX3_cut_0 1 rfl rfl)
theorem dX3_cut_2 : decode cX3_cut 2 = .ok (.invokevirtual 135, 3) := dk_182 0 135 (dk_at dksX3_cut_0 2 rfl rfl)
theorem dX3_cut_5 : decode cX3_cut 5 = .ok (.istore_n 2, 1) := dk_61 (dk_at dksX3_cut_0 5 rfl rfl)
theorem dX3_cut_6 : decode cX3_cut 6 = .ok (.iload_n 2, 1) := dk_28 (dk_at dksX3_cut_0 6 rfl rfl)
theorem dX3_cut_7 : decode cX3_cut 7 = .ok (.ifCond .ne 19, 3) := dk_154 0 19 (dk_at dksX3_cut_0 7 rfl rfl)
theorem dX3_cut_10 : decode cX3_cut 10 = .ok (.aload_n 0, 1) := dk_42 (dk_at dksX3_cut_0 10 rfl rfl)
theorem dX3_cut_11 : decode cX3_cut 11 = .ok (.getfield 72, 3) := dk_180 0 72 (dk_at dksX3_cut_0 11 rfl rfl)
theorem dX3_cut_14 : decode cX3_cut 14 = .ok (.aload_n 0, 1) := dk_42 (dk_at dksX3_cut_0 14 rfl rfl)
theorem dX3_cut_15 : decode cX3_cut 15 = .ok (.getfield 23, 3) := dk_180 0 23 (dk_at dksX3_cut_0 15 rfl rfl)
theorem dX3_cut_18 : decode cX3_cut 18 = .ok (.iload_n 1, 1) := dk_27 (dk_at dksX3_cut_0 18 rfl rfl)
theorem dX3_cut_19 : decode cX3_cut 19 = .ok (.iaload, 1) := dk_46 (dk_at dksX3_cut_0 19 rfl rfl)
theorem dX3_cut_20 : decode cX3_cut 20 = .ok (.if_icmp .eq 6, 3) := dk_159 0 6 (dk_at dksX3_cut_0 20 rfl rfl)
theorem dX3_cut_23 : decode cX3_cut 23 = .ok (.bipush 9, 2) := dk_16 9 (dk_at dksX3_cut_1 0 rfl rfl)
theorem dX3_cut_25 : decode cX3_cut 25 = .ok (.istore_n 2, 1) := dk_61 (dk_at dksX3_cut_1 2 rfl rfl)
theorem dX3_cut_26 : decode cX3_cut 26 = .ok (.aload_n 0, 1) := dk_42 (dk_at dksX3_cut_1 3 rfl rfl)
theorem dX3_cut_27 : decode cX3_cut 27 = .ok (.invokevirtual 117, 3) := dk_182 0 117 (dk_at dksX3_cut_1 4 rfl rfl)
theorem dX3_cut_30 : decode cX3_cut 30 = .ok (.istore_n 3, 1) := dk_62 (dk_at dksX3_cut_1 7 rfl rfl)
theorem dX3_cut_31 : decode cX3_cut 31 = .ok (.iload_n 2, 1) := dk_28 (dk_at dksX3_cut_1 8 rfl rfl)
theorem dX3_cut_32 : decode cX3_cut 32 = .ok (.ifCond .ne 12, 3) := dk_154 0 12 (dk_at dksX3_cut_1 9 rfl rfl)
theorem dX3_cut_35 : decode cX3_cut 35 = .ok (.iload_n 3, 1) := dk_29 (dk_at dksX3_cut_1 12 rfl rfl)
theorem dX3_cut_36 : decode cX3_cut 36 = .ok (.sipush 500, 3) := dk_17 1 244 (dk_at dksX3_cut_1 13 rfl rfl)
theorem dX3_cut_39 : decode cX3_cut 39 = .ok (.if_icmp .le 5, 3) := dk_164 0 5 (dk_at dksX3_cut_1 16 rfl rfl)
theorem dX3_cut_42 : decode cX3_cut 42 = .ok (.iconst 5, 1) := dk_8 (dk_at dksX3_cut_1 19 rfl rfl)
theorem dX3_cut_43 : decode cX3_cut 43 = .ok (.istore_n 2, 1) := dk_61 (dk_at dksX3_cut_1 20 rfl rfl)
theorem dX3_cut_44 : decode cX3_cut 44 = .ok (.iload_n 2, 1) := dk_28 (dk_at dksX3_cut_1 21 rfl rfl)
theorem dX3_cut_45 : decode cX3_cut 45 = .ok (.ifCond .eq 9, 3) := dk_153 0 9 (dk_at dksX3_cut_2 0 rfl rfl)
theorem dX3_cut_48 : decode cX3_cut 48 = .ok (.aload_n 0, 1) := dk_42 (dk_at dksX3_cut_2 3 rfl rfl)
theorem dX3_cut_49 : decode cX3_cut 49 = .ok (.iload_n 2, 1) := dk_28 (dk_at dksX3_cut_2 4 rfl rfl)
theorem dX3_cut_50 : decode cX3_cut 50 = .ok (.invokevirtual 68, 3) := dk_182 0 68 (dk_at dksX3_cut_2 5 rfl rfl)
theorem dX3_cut_53 : decode cX3_cut 53 = .ok (.ireturn, 1) := dk_172 (dk_at dksX3_cut_2 8 rfl rfl)
theorem dX3_cut_54 : decode cX3_cut 54 = .ok (.iload_n 3, 1) := dk_29 (dk_at dksX3_cut_2 9 rfl rfl)
theorem dX3_cut_55 : decode cX3_cut 55 = .ok (.ifCond .eq 11, 3) := dk_153 0 11 (dk_at dksX3_cut_2 10 rfl rfl)
theorem dX3_cut_58 : decode cX3_cut 58 = .ok (.aload_n 0, 1) := dk_42 (dk_at dksX3_cut_2 13 rfl rfl)
theorem dX3_cut_59 : decode cX3_cut 59 = .ok (.getfield 72, 3) := dk_180 0 72 (dk_at dksX3_cut_2 14 rfl rfl)
theorem dX3_cut_62 : decode cX3_cut 62 = .ok (.iconst 2, 1) := dk_5 (dk_at dksX3_cut_2 17 rfl rfl)
theorem dX3_cut_63 : decode cX3_cut 63 = .ok (.if_icmp .ge 7, 3) := dk_162 0 7 (dk_at dksX3_cut_2 18 rfl rfl)
theorem dX3_cut_66 : decode cX3_cut 66 = .ok (.iconst 1, 1) := dk_4 (dk_at dksX3_cut_2 21 rfl rfl)
theorem dX3_cut_67 : decode cX3_cut 67 = .ok (.goto 19, 3) := dk_167 0 19 (dk_at dksX3_cut_3 0 rfl rfl)
theorem dX3_cut_70 : decode cX3_cut 70 = .ok (.aload_n 0, 1) := dk_42 (dk_at dksX3_cut_3 3 rfl rfl)
theorem dX3_cut_71 : decode cX3_cut 71 = .ok (.getfield 13, 3) := dk_180 0 13 (dk_at dksX3_cut_3 4 rfl rfl)
theorem dX3_cut_74 : decode cX3_cut 74 = .ok (.iconst 1, 1) := dk_4 (dk_at dksX3_cut_3 7 rfl rfl)
theorem dX3_cut_75 : decode cX3_cut 75 = .ok (.iaload, 1) := dk_46 (dk_at dksX3_cut_3 8 rfl rfl)
theorem dX3_cut_76 : decode cX3_cut 76 = .ok (.aload_n 0, 1) := dk_42 (dk_at dksX3_cut_3 9 rfl rfl)
theorem dX3_cut_77 : decode cX3_cut 77 = .ok (.getfield 17, 3) := dk_180 0 17 (dk_at dksX3_cut_3 10 rfl rfl)
theorem dX3_cut_80 : decode cX3_cut 80 = .ok (.iconst 1, 1) := dk_4 (dk_at dksX3_cut_3 13 rfl rfl)
theorem dX3_cut_81 : decode cX3_cut 81 = .ok (.iaload, 1) := dk_46 (dk_at dksX3_cut_3 14 rfl rfl)
theorem dX3_cut_82 : decode cX3_cut 82 = .ok (.invokestatic 78, 3) := dk_184 0 78 (dk_at dksX3_cut_3 15 rfl rfl)
theorem dX3_cut_85 : decode cX3_cut 85 = .ok (.l2i, 1) := dk_136 (dk_at dksX3_cut_3 18 rfl rfl)
theorem dX3_cut_86 : decode cX3_cut 86 = .ok (.istore 4, 2) := dk_54 4 (dk_at dksX3_cut_3 19 rfl rfl)
theorem dX3_cut_88 : decode cX3_cut 88 = .ok (.iload_n 3, 1) := dk_29 (dk_at dksX3_cut_3 21 rfl rfl)
theorem dX3_cut_89 : decode cX3_cut 89 = .ok (.ifCond .eq 11, 3) := dk_153 0 11 (dk_at dksX3_cut_4 0 rfl rfl)
theorem dX3_cut_92 : decode cX3_cut 92 = .ok (.aload_n 0, 1) := dk_42 (dk_at dksX3_cut_4 3 rfl rfl)
theorem dX3_cut_93 : decode cX3_cut 93 = .ok (.getfield 72, 3) := dk_180 0 72 (dk_at dksX3_cut_4 4 rfl rfl)
theorem dX3_cut_96 : decode cX3_cut 96 = .ok (.iconst 3, 1) := dk_6 (dk_at dksX3_cut_4 7 rfl rfl)
theorem dX3_cut_97 : decode cX3_cut 97 = .ok (.if_icmp .ge 7, 3) := dk_162 0 7 (dk_at dksX3_cut_4 8 rfl rfl)
theorem dX3_cut_100 : decode cX3_cut 100 = .ok (.iconst 1, 1) := dk_4 (dk_at dksX3_cut_4 11 rfl rfl)
theorem dX3_cut_101 : decode cX3_cut 101 = .ok (.goto 19, 3) := dk_167 0 19 (dk_at dksX3_cut_4 12 rfl rfl)
theorem dX3_cut_104 : decode cX3_cut 104 = .ok (.aload_n 0, 1) := dk_42 (dk_at dksX3_cut_4 15 rfl rfl)
theorem dX3_cut_105 : decode cX3_cut 105 = .ok (.getfield 13, 3) := dk_180 0 13 (dk_at dksX3_cut_4 16 rfl rfl)
theorem dX3_cut_108 : decode cX3_cut 108 = .ok (.iconst 2, 1) := dk_5 (dk_at dksX3_cut_4 19 rfl rfl)
theorem dX3_cut_109 : decode cX3_cut 109 = .ok (.iaload, 1) := dk_46 (dk_at dksX3_cut_4 20 rfl rfl)
theorem dX3_cut_110 : decode cX3_cut 110 = .ok (.aload_n 0, 1) := dk_42 (dk_at dksX3_cut_4 21 rfl rfl)
theorem dX3_cut_111 : decode cX3_cut 111 = .ok (.getfield 17, 3) := dk_180 0 17 (dk_at dksX3_cut_5 0 rfl rfl)
theorem dX3_cut_114 : decode cX3_cut 114 = .ok (.iconst 2, 1) := dk_5 (dk_at dksX3_cut_5 3 rfl rfl)
theorem dX3_cut_115 : decode cX3_cut 115 = .ok (.iaload, 1) := dk_46 (dk_at dksX3_cut_5 4 rfl rfl)
theorem dX3_cut_116 : decode cX3_cut 116 = .ok (.invokestatic 78, 3) := dk_184 0 78 (dk_at dksX3_cut_5 5 rfl rfl)
theorem dX3_cut_119 : decode cX3_cut 119 = .ok (.l2i, 1) := dk_136 (dk_at dksX3_cut_5 8 rfl rfl)
theorem dX3_cut_120 : decode cX3_cut 120 = .ok (.istore 5, 2) := dk_54 5 (dk_at dksX3_cut_5 9 rfl rfl)
theorem dX3_cut_122 : decode cX3_cut 122 = .ok (.iconst 0, 1) := dk_3 (dk_at dksX3_cut_5 11 rfl rfl)
theorem dX3_cut_123 : decode cX3_cut 123 = .ok (.istore 6, 2) := dk_54 6 (dk_at dksX3_cut_5 12 rfl rfl)
theorem dX3_cut_125 : decode cX3_cut 125 = .ok (.iload 6, 2) := dk_21 6 (dk_at dksX3_cut_5 14 rfl rfl)
theorem dX3_cut_127 : decode cX3_cut 127 = .ok (.iload_n 3, 1) := dk_29 (dk_at dksX3_cut_5 16 rfl rfl)
theorem dX3_cut_128 : decode cX3_cut 128 = .ok (.if_icmp .ge 75, 3) := dk_162 0 75 (dk_at dksX3_cut_5 17 rfl rfl)
theorem dX3_cut_131 : decode cX3_cut 131 = .ok (.aload_n 0, 1) := dk_42 (dk_at dksX3_cut_5 20 rfl rfl)
theorem dX3_cut_132 : decode cX3_cut 132 = .ok (.iload_n 1, 1) := dk_27 (dk_at dksX3_cut_5 21 rfl rfl)
theorem dX3_cut_133 : decode cX3_cut 133 = .ok (.aload_n 0, 1) := dk_42 (dk_at dksX3_cut_5 22 rfl rfl)
theorem dX3_cut_134 : decode cX3_cut 134 = .ok (.getfield 13, 3) := dk_180 0 13 (dk_at dksX3_cut_6 0 rfl rfl)
theorem dX3_cut_137 : decode cX3_cut 137 = .ok (.iconst 0, 1) := dk_3 (dk_at dksX3_cut_6 3 rfl rfl)
theorem dX3_cut_138 : decode cX3_cut 138 = .ok (.iaload, 1) := dk_46 (dk_at dksX3_cut_6 4 rfl rfl)
theorem dX3_cut_139 : decode cX3_cut 139 = .ok (.iload 6, 2) := dk_21 6 (dk_at dksX3_cut_6 5 rfl rfl)
theorem dX3_cut_141 : decode cX3_cut 141 = .ok (.iload 5, 2) := dk_21 5 (dk_at dksX3_cut_6 7 rfl rfl)
theorem dX3_cut_143 : decode cX3_cut 143 = .ok (.idiv, 1) := dk_108 (dk_at dksX3_cut_6 9 rfl rfl)
theorem dX3_cut_144 : decode cX3_cut 144 = .ok (.iload 4, 2) := dk_21 4 (dk_at dksX3_cut_6 10 rfl rfl)
theorem dX3_cut_146 : decode cX3_cut 146 = .ok (.idiv, 1) := dk_108 (dk_at dksX3_cut_6 12 rfl rfl)
theorem dX3_cut_147 : decode cX3_cut 147 = .ok (.invokestatic 145, 3) := dk_184 0 145 (dk_at dksX3_cut_6 13 rfl rfl)
theorem dX3_cut_150 : decode cX3_cut 150 = .ok (.aload_n 0, 1) := dk_42 (dk_at dksX3_cut_6 16 rfl rfl)
theorem dX3_cut_151 : decode cX3_cut 151 = .ok (.getfield 13, 3) := dk_180 0 13 (dk_at dksX3_cut_6 17 rfl rfl)
theorem dX3_cut_154 : decode cX3_cut 154 = .ok (.iconst 1, 1) := dk_4 (dk_at dksX3_cut_6 20 rfl rfl)
theorem dX3_cut_155 : decode cX3_cut 155 = .ok (.iaload, 1) := dk_46 (dk_at dksX3_cut_6 21 rfl rfl)
theorem dX3_cut_156 : decode cX3_cut 156 = .ok (.iload 6, 2) := dk_21 6 (dk_at dksX3_cut_6 22 rfl rfl)
theorem dX3_cut_158 : decode cX3_cut 158 = .ok (.iload 5, 2) := dk_21 5 (dk_at dksX3_cut_7 0 rfl rfl)
theorem dX3_cut_160 : decode cX3_cut 160 = .ok (.idiv, 1) := dk_108 (dk_at dksX3_cut_7 2 rfl rfl)
theorem dX3_cut_161 : decode cX3_cut 161 = .ok (.iload 4, 2) := dk_21 4 (dk_at dksX3_cut_7 3 rfl rfl)
theorem dX3_cut_163 : decode cX3_cut 163 = .ok (.irem, 1) := dk_112 (dk_at dksX3_cut_7 5 rfl rfl)
theorem dX3_cut_164 : decode cX3_cut 164 = .ok (.invokestatic 145, 3) := dk_184 0 145 (dk_at dksX3_cut_7 6 rfl rfl)
theorem dX3_cut_167 : decode cX3_cut 167 = .ok (.aload_n 0, 1) := dk_42 (dk_at dksX3_cut_7 9 rfl rfl)
theorem dX3_cut_168 : decode cX3_cut 168 = .ok (.getfield 13, 3) := dk_180 0 13 (dk_at dksX3_cut_7 10 rfl rfl)
theorem dX3_cut_171 : decode cX3_cut 171 = .ok (.iconst 2, 1) := dk_5 (dk_at dksX3_cut_7 13 rfl rfl)
theorem dX3_cut_172 : decode cX3_cut 172 = .ok (.iaload, 1) := dk_46 (dk_at dksX3_cut_7 14 rfl rfl)
theorem dX3_cut_173 : decode cX3_cut 173 = .ok (.iload 6, 2) := dk_21 6 (dk_at dksX3_cut_7 15 rfl rfl)
theorem dX3_cut_175 : decode cX3_cut 175 = .ok (.iload 5, 2) := dk_21 5 (dk_at dksX3_cut_7 17 rfl rfl)
theorem dX3_cut_177 : decode cX3_cut 177 = .ok (.irem, 1) := dk_112 (dk_at dksX3_cut_7 19 rfl rfl)
theorem dX3_cut_178 : decode cX3_cut 178 = .ok (.invokestatic 145, 3) := dk_184 0 145 (dk_at dksX3_cut_7 20 rfl rfl)
theorem dX3_cut_181 : decode cX3_cut 181 = .ok (.invokevirtual 148, 3) := dk_182 0 148 (dk_at dksX3_cut_8 0 rfl rfl)
theorem dX3_cut_184 : decode cX3_cut 184 = .ok (.iconst (-1), 1) := dk_2 (dk_at dksX3_cut_8 3 rfl rfl)
theorem dX3_cut_185 : decode cX3_cut 185 = .ok (.if_icmp .ne 12, 3) := dk_160 0 12 (dk_at dksX3_cut_8 4 rfl rfl)
theorem dX3_cut_188 : decode cX3_cut 188 = .ok (.aload_n 0, 1) := dk_42 (dk_at dksX3_cut_8 7 rfl rfl)
theorem dX3_cut_189 : decode cX3_cut 189 = .ok (.aload_n 0, 1) := dk_42 (dk_at dksX3_cut_8 8 rfl rfl)
theorem dX3_cut_190 : decode cX3_cut 190 = .ok (.getfield 142, 3) := dk_180 0 142 (dk_at dksX3_cut_8 9 rfl rfl)
theorem dX3_cut_193 : decode cX3_cut 193 = .ok (.invokevirtual 152, 3) := dk_182 0 152 (dk_at dksX3_cut_8 12 rfl rfl)
theorem dX3_cut_196 : decode cX3_cut 196 = .ok (.ireturn, 1) := dk_172 (dk_at dksX3_cut_8 15 rfl rfl)
theorem dX3_cut_197 : decode cX3_cut 197 = .ok (.iinc 6 1, 3) := dk_132 6 1 (dk_at dksX3_cut_8 16 rfl rfl)
theorem dX3_cut_200 : decode cX3_cut 200 = .ok (.goto (-75), 3) := dk_167 255 181 (dk_at dksX3_cut_8 19 rfl rfl)
theorem dX3_cut_203 : decode cX3_cut 203 = .ok (.aload_n 0, 1) := dk_42 (dk_at dksX3_cut_8 22 rfl rfl)
theorem dX3_cut_204 : decode cX3_cut 204 = .ok (.getfield 98, 3) := dk_180 0 98 (dk_at dksX3_cut_9 0 rfl rfl)
theorem dX3_cut_207 : decode cX3_cut 207 = .ok (.bipush 24, 2) := dk_16 24 (dk_at dksX3_cut_9 3 rfl rfl)
theorem dX3_cut_209 : decode cX3_cut 209 = .ok (.if_icmp .ne 10, 3) := dk_160 0 10 (dk_at dksX3_cut_9 5 rfl rfl)
theorem dX3_cut_212 : decode cX3_cut 212 = .ok (.aload_n 0, 1) := dk_42 (dk_at dksX3_cut_9 8 rfl rfl)
theorem dX3_cut_213 : decode cX3_cut 213 = .ok (.bipush 8, 2) := dk_16 8 (dk_at dksX3_cut_9 9 rfl rfl)
theorem dX3_cut_215 : decode cX3_cut 215 = .ok (.invokevirtual 68, 3) := dk_182 0 68 (dk_at dksX3_cut_9 11 rfl rfl)
theorem dX3_cut_218 : decode cX3_cut 218 = .ok (.ireturn, 1) := dk_172 (dk_at dksX3_cut_9 14 rfl rfl)
theorem dX3_cut_219 : decode cX3_cut 219 = .ok (.aload_n 0, 1) := dk_42 (dk_at dksX3_cut_9 15 rfl rfl)
theorem dX3_cut_220 : decode cX3_cut 220 = .ok (.aload_n 0, 1) := dk_42 (dk_at dksX3_cut_9 16 rfl rfl)
theorem dX3_cut_221 : decode cX3_cut 221 = .ok (.getfield 20, 3) := dk_180 0 20 (dk_at dksX3_cut_9 17 rfl rfl)
theorem dX3_cut_224 : decode cX3_cut 224 = .ok (.iload_n 1, 1) := dk_27 (dk_at dksX3_cut_9 20 rfl rfl)
theorem dX3_cut_225 : decode cX3_cut 225 = .ok (.iaload, 1) := dk_46 (dk_at dksX3_cut_9 21 rfl rfl)
theorem dX3_cut_226 : decode cX3_cut 226 = .ok (.iconst (-1), 1) := dk_2 (dk_at dksX3_cut_9 22 rfl rfl)
theorem dX3_cut_227 : decode cX3_cut 227 = .ok (.invokevirtual 121, 3) := dk_182 0 121 (dk_at dksX3_cut_10 0 rfl rfl)
theorem dX3_cut_230 : decode cX3_cut 230 = .ok (.istore 6, 2) := dk_54 6 (dk_at dksX3_cut_10 3 rfl rfl)
theorem dX3_cut_232 : decode cX3_cut 232 = .ok (.aload_n 0, 1) := dk_42 (dk_at dksX3_cut_10 5 rfl rfl)
theorem dX3_cut_233 : decode cX3_cut 233 = .ok (.getfield 32, 3) := dk_180 0 32 (dk_at dksX3_cut_10 6 rfl rfl)
theorem dX3_cut_236 : decode cX3_cut 236 = .ok (.iload 6, 2) := dk_21 6 (dk_at dksX3_cut_10 9 rfl rfl)
theorem dX3_cut_238 : decode cX3_cut 238 = .ok (.aload_n 0, 1) := dk_42 (dk_at dksX3_cut_10 11 rfl rfl)
theorem dX3_cut_239 : decode cX3_cut 239 = .ok (.iload_n 3, 1) := dk_29 (dk_at dksX3_cut_10 12 rfl rfl)
theorem dX3_cut_240 : decode cX3_cut 240 = .ok (.invokevirtual 111, 3) := dk_182 0 111 (dk_at dksX3_cut_10 13 rfl rfl)
theorem dX3_cut_243 : decode cX3_cut 243 = .ok (.iastore, 1) := dk_79 (dk_at dksX3_cut_10 16 rfl rfl)
theorem dX3_cut_244 : decode cX3_cut 244 = .ok (.iconst 0, 1) := dk_3 (dk_at dksX3_cut_10 17 rfl rfl)
theorem dX3_cut_245 : decode cX3_cut 245 = .ok (.istore 7, 2) := dk_54 7 (dk_at dksX3_cut_10 18 rfl rfl)
theorem dX3_cut_247 : decode cX3_cut 247 = .ok (.iload 7, 2) := dk_21 7 (dk_at dksX3_cut_10 20 rfl rfl)
theorem dX3_cut_249 : decode cX3_cut 249 = .ok (.iload_n 3, 1) := dk_29 (dk_at dksX3_cut_10 22 rfl rfl)
theorem dX3_cut_250 : decode cX3_cut 250 = .ok (.if_icmp .ge 97, 3) := dk_162 0 97 (dk_at dksX3_cut_11 0 rfl rfl)
theorem dX3_cut_253 : decode cX3_cut 253 = .ok (.aload_n 0, 1) := dk_42 (dk_at dksX3_cut_11 3 rfl rfl)
theorem dX3_cut_254 : decode cX3_cut 254 = .ok (.iload_n 1, 1) := dk_27 (dk_at dksX3_cut_11 4 rfl rfl)
theorem dX3_cut_255 : decode cX3_cut 255 = .ok (.aload_n 0, 1) := dk_42 (dk_at dksX3_cut_11 5 rfl rfl)
theorem dX3_cut_256 : decode cX3_cut 256 = .ok (.getfield 13, 3) := dk_180 0 13 (dk_at dksX3_cut_11 6 rfl rfl)
theorem dX3_cut_259 : decode cX3_cut 259 = .ok (.iconst 0, 1) := dk_3 (dk_at dksX3_cut_11 9 rfl rfl)
theorem dX3_cut_260 : decode cX3_cut 260 = .ok (.iaload, 1) := dk_46 (dk_at dksX3_cut_11 10 rfl rfl)
theorem dX3_cut_261 : decode cX3_cut 261 = .ok (.iload 7, 2) := dk_21 7 (dk_at dksX3_cut_11 11 rfl rfl)
theorem dX3_cut_263 : decode cX3_cut 263 = .ok (.iload 5, 2) := dk_21 5 (dk_at dksX3_cut_11 13 rfl rfl)
theorem dX3_cut_265 : decode cX3_cut 265 = .ok (.idiv, 1) := dk_108 (dk_at dksX3_cut_11 15 rfl rfl)
theorem dX3_cut_266 : decode cX3_cut 266 = .ok (.iload 4, 2) := dk_21 4 (dk_at dksX3_cut_11 16 rfl rfl)
theorem dX3_cut_268 : decode cX3_cut 268 = .ok (.idiv, 1) := dk_108 (dk_at dksX3_cut_11 18 rfl rfl)
theorem dX3_cut_269 : decode cX3_cut 269 = .ok (.invokestatic 145, 3) := dk_184 0 145 (dk_at dksX3_cut_11 19 rfl rfl)
theorem dX3_cut_272 : decode cX3_cut 272 = .ok (.aload_n 0, 1) := dk_42 (dk_at dksX3_cut_11 22 rfl rfl)
theorem dX3_cut_273 : decode cX3_cut 273 = .ok (.getfield 13, 3) := dk_180 0 13 (dk_at dksX3_cut_12 0 rfl rfl)
theorem dX3_cut_276 : decode cX3_cut 276 = .ok (.iconst 1, 1) := dk_4 (dk_at dksX3_cut_12 3 rfl rfl)
theorem dX3_cut_277 : decode cX3_cut 277 = .ok (.iaload, 1) := dk_46 (dk_at dksX3_cut_12 4 rfl rfl)
theorem dX3_cut_278 : decode cX3_cut 278 = .ok (.iload 7, 2) := dk_21 7 (dk_at dksX3_cut_12 5 rfl rfl)
theorem dX3_cut_280 : decode cX3_cut 280 = .ok (.iload 5, 2) := dk_21 5 (dk_at dksX3_cut_12 7 rfl rfl)
theorem dX3_cut_282 : decode cX3_cut 282 = .ok (.idiv, 1) := dk_108 (dk_at dksX3_cut_12 9 rfl rfl)
theorem dX3_cut_283 : decode cX3_cut 283 = .ok (.iload 4, 2) := dk_21 4 (dk_at dksX3_cut_12 10 rfl rfl)
theorem dX3_cut_285 : decode cX3_cut 285 = .ok (.irem, 1) := dk_112 (dk_at dksX3_cut_12 12 rfl rfl)
theorem dX3_cut_286 : decode cX3_cut 286 = .ok (.invokestatic 145, 3) := dk_184 0 145 (dk_at dksX3_cut_12 13 rfl rfl)
theorem dX3_cut_289 : decode cX3_cut 289 = .ok (.aload_n 0, 1) := dk_42 (dk_at dksX3_cut_12 16 rfl rfl)
theorem dX3_cut_290 : decode cX3_cut 290 = .ok (.getfield 13, 3) := dk_180 0 13 (dk_at dksX3_cut_12 17 rfl rfl)
theorem dX3_cut_293 : decode cX3_cut 293 = .ok (.iconst 2, 1) := dk_5 (dk_at dksX3_cut_12 20 rfl rfl)
theorem dX3_cut_294 : decode cX3_cut 294 = .ok (.iaload, 1) := dk_46 (dk_at dksX3_cut_12 21 rfl rfl)
theorem dX3_cut_295 : decode cX3_cut 295 = .ok (.iload 7, 2) := dk_21 7 (dk_at dksX3_cut_12 22 rfl rfl)
theorem dX3_cut_297 : decode cX3_cut 297 = .ok (.iload 5, 2) := dk_21 5 (dk_at dksX3_cut_13 0 rfl rfl)
theorem dX3_cut_299 : decode cX3_cut 299 = .ok (.irem, 1) := dk_112 (dk_at dksX3_cut_13 2 rfl rfl)
theorem dX3_cut_300 : decode cX3_cut 300 = .ok (.invokestatic 145, 3) := dk_184 0 145 (dk_at dksX3_cut_13 3 rfl rfl)
theorem dX3_cut_303 : decode cX3_cut 303 = .ok (.invokevirtual 148, 3) := dk_182 0 148 (dk_at dksX3_cut_13 6 rfl rfl)
theorem dX3_cut_306 : decode cX3_cut 306 = .ok (.istore 8, 2) := dk_54 8 (dk_at dksX3_cut_13 9 rfl rfl)
theorem dX3_cut_308 : decode cX3_cut 308 = .ok (.aload_n 0, 1) := dk_42 (dk_at dksX3_cut_13 11 rfl rfl)
theorem dX3_cut_309 : decode cX3_cut 309 = .ok (.aload_n 0, 1) := dk_42 (dk_at dksX3_cut_13 12 rfl rfl)
theorem dX3_cut_310 : decode cX3_cut 310 = .ok (.getfield 35, 3) := dk_180 0 35 (dk_at dksX3_cut_13 13 rfl rfl)
theorem dX3_cut_313 : decode cX3_cut 313 = .ok (.aload_n 0, 1) := dk_42 (dk_at dksX3_cut_13 16 rfl rfl)
theorem dX3_cut_314 : decode cX3_cut 314 = .ok (.getfield 32, 3) := dk_180 0 32 (dk_at dksX3_cut_13 17 rfl rfl)
theorem dX3_cut_317 : decode cX3_cut 317 = .ok (.iload_n 1, 1) := dk_27 (dk_at dksX3_cut_13 20 rfl rfl)
theorem dX3_cut_318 : decode cX3_cut 318 = .ok (.iaload, 1) := dk_46 (dk_at dksX3_cut_13 21 rfl rfl)
theorem dX3_cut_319 : decode cX3_cut 319 = .ok (.iaload, 1) := dk_46 (dk_at dksX3_cut_13 22 rfl rfl)
theorem dX3_cut_320 : decode cX3_cut 320 = .ok (.iload 8, 2) := dk_21 8 (dk_at dksX3_cut_14 0 rfl rfl)
theorem dX3_cut_322 : decode cX3_cut 322 = .ok (.iadd, 1) := dk_96 (dk_at dksX3_cut_14 2 rfl rfl)
theorem dX3_cut_323 : decode cX3_cut 323 = .ok (.aload_n 0, 1) := dk_42 (dk_at dksX3_cut_14 3 rfl rfl)
theorem dX3_cut_324 : decode cX3_cut 324 = .ok (.getfield 35, 3) := dk_180 0 35 (dk_at dksX3_cut_14 4 rfl rfl)
theorem dX3_cut_327 : decode cX3_cut 327 = .ok (.aload_n 0, 1) := dk_42 (dk_at dksX3_cut_14 7 rfl rfl)
theorem dX3_cut_328 : decode cX3_cut 328 = .ok (.getfield 32, 3) := dk_180 0 32 (dk_at dksX3_cut_14 8 rfl rfl)
theorem dX3_cut_331 : decode cX3_cut 331 = .ok (.iload 6, 2) := dk_21 6 (dk_at dksX3_cut_14 11 rfl rfl)
theorem dX3_cut_333 : decode cX3_cut 333 = .ok (.iaload, 1) := dk_46 (dk_at dksX3_cut_14 13 rfl rfl)
theorem dX3_cut_334 : decode cX3_cut 334 = .ok (.iaload, 1) := dk_46 (dk_at dksX3_cut_14 14 rfl rfl)
theorem dX3_cut_335 : decode cX3_cut 335 = .ok (.iload 7, 2) := dk_21 7 (dk_at dksX3_cut_14 15 rfl rfl)
theorem dX3_cut_337 : decode cX3_cut 337 = .ok (.iadd, 1) := dk_96 (dk_at dksX3_cut_14 17 rfl rfl)
theorem dX3_cut_338 : decode cX3_cut 338 = .ok (.invokevirtual 138, 3) := dk_182 0 138 (dk_at dksX3_cut_14 18 rfl rfl)
theorem dX3_cut_341 : decode cX3_cut 341 = .ok (.iinc 7 1, 3) := dk_132 7 1 (dk_at dksX3_cut_14 21 rfl rfl)
theorem dX3_cut_344 : decode cX3_cut 344 = .ok (.goto (-97), 3) := dk_167 255 159 (dk_at dksX3_cut_15 0 rfl rfl)
theorem dX3_cut_347 : decode cX3_cut 347 = .ok (.aload_n 0, 1) := dk_42 (dk_at dksX3_cut_15 3 rfl rfl)
theorem dX3_cut_348 : decode cX3_cut 348 = .ok (.iconst 0, 1) := dk_3 (dk_at dksX3_cut_15 4 rfl rfl)
theorem dX3_cut_349 : decode cX3_cut 349 = .ok (.putfield 72, 3) := dk_181 0 72 (dk_at dksX3_cut_15 5 rfl rfl)
theorem dX3_cut_352 : decode cX3_cut 352 = .ok (.aload_n 0, 1) := dk_42 (dk_at dksX3_cut_15 8 rfl rfl)
theorem dX3_cut_353 : decode cX3_cut 353 = .ok (.iload 6, 2) := dk_21 6 (dk_at dksX3_cut_15 9 rfl rfl)
theorem dX3_cut_355 : decode cX3_cut 355 = .ok (.invokevirtual 75, 3) := dk_182 0 75 (dk_at dksX3_cut_15 11 rfl rfl)
theorem dX3_cut_358 : decode cX3_cut 358 = .ok (.ireturn, 1) := dk_172 (dk_at dksX3_cut_15 14 rfl rfl)
abbrev cX3_index : ByteArray := prog_6_method_26_code
def yX3_index : MethodName := ⟨RX3, "index", "(II)I"⟩
def dkwX3_index_0 : List UInt8 := [26, 27, 96, 172]
abbrev dktX3_index_0 : List UInt8 := dkwX3_index_0 ++ []
theorem dksX3_index_0 : cX3_index.data.toList.drop 0 = dktX3_index_0 := by decide +kernel
theorem dX3_index_0 : decode cX3_index 0 = .ok (.iload_n 0, 1) := dk_26 (dk_at dksX3_index_0 0 rfl rfl)
theorem dX3_index_1 : decode cX3_index 1 = .ok (.iload_n 1, 1) := dk_27 (dk_at dksX3_index_0 1 rfl rfl)
theorem dX3_index_2 : decode cX3_index 2 = .ok (.iadd, 1) := dk_96 (dk_at dksX3_index_0 2 rfl rfl)
theorem dX3_index_3 : decode cX3_index 3 = .ok (.ireturn, 1) := dk_172 (dk_at dksX3_index_0 3 rfl rfl)
abbrev cX3_placeOf : ByteArray := prog_6_method_25_code
def yX3_placeOf : MethodName := ⟨RX3, "placeOf", "(IIII)I"⟩
def dkwX3_placeOf_5 : List UInt8 := [136, 172]
abbrev dktX3_placeOf_5 : List UInt8 := dkwX3_placeOf_5 ++ []
def dkwX3_placeOf_4 : List UInt8 := [42, 180, 0, 26, 6, 27, 104, 21, 7, 96, 46, 133, 101, 97, 55, 5, 132, 7, 1, 167, 255, 149, 22, 5]
abbrev dktX3_placeOf_4 : List UInt8 := dkwX3_placeOf_4 ++ dktX3_placeOf_5
def dkwX3_placeOf_3 : List UInt8 := [154, 0, 11, 42, 21, 7, 181, 0, 142, 2, 172, 22, 5, 42, 27, 21, 7, 182, 0, 108, 105, 21, 8, 133]
abbrev dktX3_placeOf_3 : List UInt8 := dkwX3_placeOf_3 ++ dktX3_placeOf_4
def dkwX3_placeOf_2 : List UInt8 := [6, 27, 104, 21, 7, 96, 46, 133, 42, 180, 0, 29, 6, 27, 104, 21, 7, 96, 46, 133, 184, 0, 101]
abbrev dktX3_placeOf_2 : List UInt8 := dkwX3_placeOf_2 ++ dktX3_placeOf_3
def dkwX3_placeOf_1 : List UInt8 := [167, 0, 15, 21, 7, 4, 160, 0, 7, 29, 167, 0, 5, 21, 4, 54, 8, 21, 8, 133, 42, 180, 0, 26]
abbrev dktX3_placeOf_1 : List UInt8 := dkwX3_placeOf_1 ++ dktX3_placeOf_2
def dkwX3_placeOf_0 : List UInt8 := [9, 55, 5, 3, 54, 7, 21, 7, 42, 180, 0, 23, 27, 46, 162, 0, 102, 21, 7, 154, 0, 7, 28]
abbrev dktX3_placeOf_0 : List UInt8 := dkwX3_placeOf_0 ++ dktX3_placeOf_1
theorem dksX3_placeOf_0 : cX3_placeOf.data.toList.drop 0 = dktX3_placeOf_0 := by decide +kernel
theorem dksX3_placeOf_1 : cX3_placeOf.data.toList.drop 23 = dktX3_placeOf_1 := dk_seg dksX3_placeOf_0 23 rfl rfl
theorem dksX3_placeOf_2 : cX3_placeOf.data.toList.drop 47 = dktX3_placeOf_2 := dk_seg dksX3_placeOf_1 24 rfl rfl
theorem dksX3_placeOf_3 : cX3_placeOf.data.toList.drop 70 = dktX3_placeOf_3 := dk_seg dksX3_placeOf_2 23 rfl rfl
theorem dksX3_placeOf_4 : cX3_placeOf.data.toList.drop 94 = dktX3_placeOf_4 := dk_seg dksX3_placeOf_3 24 rfl rfl
theorem dksX3_placeOf_5 : cX3_placeOf.data.toList.drop 118 = dktX3_placeOf_5 := dk_seg dksX3_placeOf_4 24 rfl rfl
theorem dX3_placeOf_0 : decode cX3_placeOf 0 = .ok (.lconst 0, 1) := dk_9 (dk_at dksX3_placeOf_0 0 rfl rfl)
theorem dX3_placeOf_1 : decode cX3_placeOf 1 = .ok (.lstore 5, 2) := dk_55 5 (dk_at dksX3_placeOf_0 1 rfl rfl)
theorem dX3_placeOf_3 : decode cX3_placeOf 3 = .ok (.iconst 0, 1) := dk_3 (dk_at dksX3_placeOf_0 3 rfl rfl)
theorem dX3_placeOf_4 : decode cX3_placeOf 4 = .ok (.istore 7, 2) := dk_54 7 (dk_at dksX3_placeOf_0 4 rfl rfl)
theorem dX3_placeOf_6 : decode cX3_placeOf 6 = .ok (.iload 7, 2) := dk_21 7 (dk_at dksX3_placeOf_0 6 rfl rfl)
theorem dX3_placeOf_8 : decode cX3_placeOf 8 = .ok (.aload_n 0, 1) := dk_42 (dk_at dksX3_placeOf_0 8 rfl rfl)
theorem dX3_placeOf_9 : decode cX3_placeOf 9 = .ok (.getfield 23, 3) := dk_180 0 23 (dk_at dksX3_placeOf_0 9 rfl rfl)
theorem dX3_placeOf_12 : decode cX3_placeOf 12 = .ok (.iload_n 1, 1) := dk_27 (dk_at dksX3_placeOf_0 12 rfl rfl)
theorem dX3_placeOf_13 : decode cX3_placeOf 13 = .ok (.iaload, 1) := dk_46 (dk_at dksX3_placeOf_0 13 rfl rfl)
theorem dX3_placeOf_14 : decode cX3_placeOf 14 = .ok (.if_icmp .ge 102, 3) := dk_162 0 102 (dk_at dksX3_placeOf_0 14 rfl rfl)
theorem dX3_placeOf_17 : decode cX3_placeOf 17 = .ok (.iload 7, 2) := dk_21 7 (dk_at dksX3_placeOf_0 17 rfl rfl)
theorem dX3_placeOf_19 : decode cX3_placeOf 19 = .ok (.ifCond .ne 7, 3) := dk_154 0 7 (dk_at dksX3_placeOf_0 19 rfl rfl)
theorem dX3_placeOf_22 : decode cX3_placeOf 22 = .ok (.iload_n 2, 1) := dk_28 (dk_at dksX3_placeOf_0 22 rfl rfl)
theorem dX3_placeOf_23 : decode cX3_placeOf 23 = .ok (.goto 15, 3) := dk_167 0 15 (dk_at dksX3_placeOf_1 0 rfl rfl)
theorem dX3_placeOf_26 : decode cX3_placeOf 26 = .ok (.iload 7, 2) := dk_21 7 (dk_at dksX3_placeOf_1 3 rfl rfl)
theorem dX3_placeOf_28 : decode cX3_placeOf 28 = .ok (.iconst 1, 1) := dk_4 (dk_at dksX3_placeOf_1 5 rfl rfl)
theorem dX3_placeOf_29 : decode cX3_placeOf 29 = .ok (.if_icmp .ne 7, 3) := dk_160 0 7 (dk_at dksX3_placeOf_1 6 rfl rfl)
theorem dX3_placeOf_32 : decode cX3_placeOf 32 = .ok (.iload_n 3, 1) := dk_29 (dk_at dksX3_placeOf_1 9 rfl rfl)
theorem dX3_placeOf_33 : decode cX3_placeOf 33 = .ok (.goto 5, 3) := dk_167 0 5 (dk_at dksX3_placeOf_1 10 rfl rfl)
theorem dX3_placeOf_36 : decode cX3_placeOf 36 = .ok (.iload 4, 2) := dk_21 4 (dk_at dksX3_placeOf_1 13 rfl rfl)
theorem dX3_placeOf_38 : decode cX3_placeOf 38 = .ok (.istore 8, 2) := dk_54 8 (dk_at dksX3_placeOf_1 15 rfl rfl)
theorem dX3_placeOf_40 : decode cX3_placeOf 40 = .ok (.iload 8, 2) := dk_21 8 (dk_at dksX3_placeOf_1 17 rfl rfl)
theorem dX3_placeOf_42 : decode cX3_placeOf 42 = .ok (.i2l, 1) := dk_133 (dk_at dksX3_placeOf_1 19 rfl rfl)
theorem dX3_placeOf_43 : decode cX3_placeOf 43 = .ok (.aload_n 0, 1) := dk_42 (dk_at dksX3_placeOf_1 20 rfl rfl)
theorem dX3_placeOf_44 : decode cX3_placeOf 44 = .ok (.getfield 26, 3) := dk_180 0 26 (dk_at dksX3_placeOf_1 21 rfl rfl)
theorem dX3_placeOf_47 : decode cX3_placeOf 47 = .ok (.iconst 3, 1) := dk_6 (dk_at dksX3_placeOf_2 0 rfl rfl)
theorem dX3_placeOf_48 : decode cX3_placeOf 48 = .ok (.iload_n 1, 1) := dk_27 (dk_at dksX3_placeOf_2 1 rfl rfl)
theorem dX3_placeOf_49 : decode cX3_placeOf 49 = .ok (.imul, 1) := dk_104 (dk_at dksX3_placeOf_2 2 rfl rfl)
theorem dX3_placeOf_50 : decode cX3_placeOf 50 = .ok (.iload 7, 2) := dk_21 7 (dk_at dksX3_placeOf_2 3 rfl rfl)
theorem dX3_placeOf_52 : decode cX3_placeOf 52 = .ok (.iadd, 1) := dk_96 (dk_at dksX3_placeOf_2 5 rfl rfl)
theorem dX3_placeOf_53 : decode cX3_placeOf 53 = .ok (.iaload, 1) := dk_46 (dk_at dksX3_placeOf_2 6 rfl rfl)
theorem dX3_placeOf_54 : decode cX3_placeOf 54 = .ok (.i2l, 1) := dk_133 (dk_at dksX3_placeOf_2 7 rfl rfl)
theorem dX3_placeOf_55 : decode cX3_placeOf 55 = .ok (.aload_n 0, 1) := dk_42 (dk_at dksX3_placeOf_2 8 rfl rfl)
theorem dX3_placeOf_56 : decode cX3_placeOf 56 = .ok (.getfield 29, 3) := dk_180 0 29 (dk_at dksX3_placeOf_2 9 rfl rfl)
theorem dX3_placeOf_59 : decode cX3_placeOf 59 = .ok (.iconst 3, 1) := dk_6 (dk_at dksX3_placeOf_2 12 rfl rfl)
theorem dX3_placeOf_60 : decode cX3_placeOf 60 = .ok (.iload_n 1, 1) := dk_27 (dk_at dksX3_placeOf_2 13 rfl rfl)
theorem dX3_placeOf_61 : decode cX3_placeOf 61 = .ok (.imul, 1) := dk_104 (dk_at dksX3_placeOf_2 14 rfl rfl)
theorem dX3_placeOf_62 : decode cX3_placeOf 62 = .ok (.iload 7, 2) := dk_21 7 (dk_at dksX3_placeOf_2 15 rfl rfl)
theorem dX3_placeOf_64 : decode cX3_placeOf 64 = .ok (.iadd, 1) := dk_96 (dk_at dksX3_placeOf_2 17 rfl rfl)
theorem dX3_placeOf_65 : decode cX3_placeOf 65 = .ok (.iaload, 1) := dk_46 (dk_at dksX3_placeOf_2 18 rfl rfl)
theorem dX3_placeOf_66 : decode cX3_placeOf 66 = .ok (.i2l, 1) := dk_133 (dk_at dksX3_placeOf_2 19 rfl rfl)
theorem dX3_placeOf_67 : decode cX3_placeOf 67 = .ok (.invokestatic 101, 3) := dk_184 0 101 (dk_at dksX3_placeOf_2 20 rfl rfl)
theorem dX3_placeOf_70 : decode cX3_placeOf 70 = .ok (.ifCond .ne 11, 3) := dk_154 0 11 (dk_at dksX3_placeOf_3 0 rfl rfl)
theorem dX3_placeOf_73 : decode cX3_placeOf 73 = .ok (.aload_n 0, 1) := dk_42 (dk_at dksX3_placeOf_3 3 rfl rfl)
theorem dX3_placeOf_74 : decode cX3_placeOf 74 = .ok (.iload 7, 2) := dk_21 7 (dk_at dksX3_placeOf_3 4 rfl rfl)
theorem dX3_placeOf_76 : decode cX3_placeOf 76 = .ok (.putfield 142, 3) := dk_181 0 142 (dk_at dksX3_placeOf_3 6 rfl rfl)
theorem dX3_placeOf_79 : decode cX3_placeOf 79 = .ok (.iconst (-1), 1) := dk_2 (dk_at dksX3_placeOf_3 9 rfl rfl)
theorem dX3_placeOf_80 : decode cX3_placeOf 80 = .ok (.ireturn, 1) := dk_172 (dk_at dksX3_placeOf_3 10 rfl rfl)
theorem dX3_placeOf_81 : decode cX3_placeOf 81 = .ok (.lload 5, 2) := dk_22 5 (dk_at dksX3_placeOf_3 11 rfl rfl)
theorem dX3_placeOf_83 : decode cX3_placeOf 83 = .ok (.aload_n 0, 1) := dk_42 (dk_at dksX3_placeOf_3 13 rfl rfl)
theorem dX3_placeOf_84 : decode cX3_placeOf 84 = .ok (.iload_n 1, 1) := dk_27 (dk_at dksX3_placeOf_3 14 rfl rfl)
theorem dX3_placeOf_85 : decode cX3_placeOf 85 = .ok (.iload 7, 2) := dk_21 7 (dk_at dksX3_placeOf_3 15 rfl rfl)
theorem dX3_placeOf_87 : decode cX3_placeOf 87 = .ok (.invokevirtual 108, 3) := dk_182 0 108 (dk_at dksX3_placeOf_3 17 rfl rfl)
theorem dX3_placeOf_90 : decode cX3_placeOf 90 = .ok (.lmul, 1) := dk_105 (dk_at dksX3_placeOf_3 20 rfl rfl)
theorem dX3_placeOf_91 : decode cX3_placeOf 91 = .ok (.iload 8, 2) := dk_21 8 (dk_at dksX3_placeOf_3 21 rfl rfl)
theorem dX3_placeOf_93 : decode cX3_placeOf 93 = .ok (.i2l, 1) := dk_133 (dk_at dksX3_placeOf_3 23 rfl rfl)
theorem dX3_placeOf_94 : decode cX3_placeOf 94 = .ok (.aload_n 0, 1) := dk_42 (dk_at dksX3_placeOf_4 0 rfl rfl)
theorem dX3_placeOf_95 : decode cX3_placeOf 95 = .ok (.getfield 26, 3) := dk_180 0 26 (dk_at dksX3_placeOf_4 1 rfl rfl)
theorem dX3_placeOf_98 : decode cX3_placeOf 98 = .ok (.iconst 3, 1) := dk_6 (dk_at dksX3_placeOf_4 4 rfl rfl)
theorem dX3_placeOf_99 : decode cX3_placeOf 99 = .ok (.iload_n 1, 1) := dk_27 (dk_at dksX3_placeOf_4 5 rfl rfl)
theorem dX3_placeOf_100 : decode cX3_placeOf 100 = .ok (.imul, 1) := dk_104 (dk_at dksX3_placeOf_4 6 rfl rfl)
theorem dX3_placeOf_101 : decode cX3_placeOf 101 = .ok (.iload 7, 2) := dk_21 7 (dk_at dksX3_placeOf_4 7 rfl rfl)
theorem dX3_placeOf_103 : decode cX3_placeOf 103 = .ok (.iadd, 1) := dk_96 (dk_at dksX3_placeOf_4 9 rfl rfl)
theorem dX3_placeOf_104 : decode cX3_placeOf 104 = .ok (.iaload, 1) := dk_46 (dk_at dksX3_placeOf_4 10 rfl rfl)
theorem dX3_placeOf_105 : decode cX3_placeOf 105 = .ok (.i2l, 1) := dk_133 (dk_at dksX3_placeOf_4 11 rfl rfl)
theorem dX3_placeOf_106 : decode cX3_placeOf 106 = .ok (.lsub, 1) := dk_101 (dk_at dksX3_placeOf_4 12 rfl rfl)
theorem dX3_placeOf_107 : decode cX3_placeOf 107 = .ok (.ladd, 1) := dk_97 (dk_at dksX3_placeOf_4 13 rfl rfl)
theorem dX3_placeOf_108 : decode cX3_placeOf 108 = .ok (.lstore 5, 2) := dk_55 5 (dk_at dksX3_placeOf_4 14 rfl rfl)
theorem dX3_placeOf_110 : decode cX3_placeOf 110 = .ok (.iinc 7 1, 3) := dk_132 7 1 (dk_at dksX3_placeOf_4 16 rfl rfl)
theorem dX3_placeOf_113 : decode cX3_placeOf 113 = .ok (.goto (-107), 3) := dk_167 255 149 (dk_at dksX3_placeOf_4 19 rfl rfl)
theorem dX3_placeOf_116 : decode cX3_placeOf 116 = .ok (.lload 5, 2) := dk_22 5 (dk_at dksX3_placeOf_4 22 rfl rfl)
theorem dX3_placeOf_118 : decode cX3_placeOf 118 = .ok (.l2i, 1) := dk_136 (dk_at dksX3_placeOf_5 0 rfl rfl)
theorem dX3_placeOf_119 : decode cX3_placeOf 119 = .ok (.ireturn, 1) := dk_172 (dk_at dksX3_placeOf_5 1 rfl rfl)
abbrev cX3_noItem : ByteArray := prog_6_method_7_code
def yX3_noItem : MethodName := ⟨RX3, "noItem", "(I)I"⟩
def dkwX3_noItem_0 : List UInt8 := [42, 27, 181, 0, 9, 42, 6, 182, 0, 68, 172]
abbrev dktX3_noItem_0 : List UInt8 := dkwX3_noItem_0 ++ []
theorem dksX3_noItem_0 : cX3_noItem.data.toList.drop 0 = dktX3_noItem_0 := by decide +kernel
theorem dX3_noItem_0 : decode cX3_noItem 0 = .ok (.aload_n 0, 1) := dk_42 (dk_at dksX3_noItem_0 0 rfl rfl)
theorem dX3_noItem_1 : decode cX3_noItem 1 = .ok (.iload_n 1, 1) := dk_27 (dk_at dksX3_noItem_0 1 rfl rfl)
theorem dX3_noItem_2 : decode cX3_noItem 2 = .ok (.putfield 9, 3) := dk_181 0 9 (dk_at dksX3_noItem_0 2 rfl rfl)
theorem dX3_noItem_5 : decode cX3_noItem 5 = .ok (.aload_n 0, 1) := dk_42 (dk_at dksX3_noItem_0 5 rfl rfl)
theorem dX3_noItem_6 : decode cX3_noItem 6 = .ok (.iconst 3, 1) := dk_6 (dk_at dksX3_noItem_0 6 rfl rfl)
theorem dX3_noItem_7 : decode cX3_noItem 7 = .ok (.invokevirtual 68, 3) := dk_182 0 68 (dk_at dksX3_noItem_0 7 rfl rfl)
theorem dX3_noItem_10 : decode cX3_noItem 10 = .ok (.ireturn, 1) := dk_172 (dk_at dksX3_noItem_0 10 rfl rfl)
abbrev cX3_deep : ByteArray := prog_6_method_28_code
def yX3_deep : MethodName := ⟨RX3, "deep", "(I)I"⟩
def dkwX3_deep_8 : List UInt8 := [182, 0, 138, 132, 5, 1, 167, 255, 191, 42, 29, 182, 0, 75, 172]
abbrev dktX3_deep_8 : List UInt8 := dkwX3_deep_8 ++ []
def dkwX3_deep_7 : List UInt8 := [180, 0, 50, 42, 180, 0, 32, 29, 46, 21, 5, 21, 4, 108, 96, 46, 46, 21, 5, 21, 4, 112, 96]
abbrev dktX3_deep_7 : List UInt8 := dkwX3_deep_7 ++ dktX3_deep_8
def dkwX3_deep_6 : List UInt8 := [162, 0, 55, 42, 42, 180, 0, 35, 42, 180, 0, 32, 27, 46, 46, 21, 5, 96, 42, 180, 0, 35, 42]
abbrev dktX3_deep_6 : List UInt8 := dkwX3_deep_6 ++ dktX3_deep_7
def dkwX3_deep_5 : List UInt8 := [182, 0, 108, 136, 54, 4, 3, 54, 5, 21, 5, 42, 180, 0, 38, 42, 180, 0, 32, 27, 46, 46]
abbrev dktX3_deep_5 : List UInt8 := dkwX3_deep_5 ++ dktX3_deep_6
def dkwX3_deep_4 : List UInt8 := [182, 0, 125, 42, 180, 0, 38, 42, 180, 0, 32, 27, 46, 46, 154, 0, 7, 9, 167, 0, 9, 42, 27, 4]
abbrev dktX3_deep_4 : List UInt8 := dkwX3_deep_4 ++ dktX3_deep_5
def dkwX3_deep_3 : List UInt8 := [167, 0, 4, 3, 61, 28, 153, 0, 9, 42, 28, 182, 0, 68, 172, 42, 7, 27, 182, 0, 121, 62, 42, 29]
abbrev dktX3_deep_3 : List UInt8 := dkwX3_deep_3 ++ dktX3_deep_4
def dkwX3_deep_2 : List UInt8 := [20, 0, 82, 148, 158, 0, 7, 8, 167, 0, 18, 42, 180, 0, 98, 16, 24, 160, 0, 8, 16, 8]
abbrev dktX3_deep_2 : List UInt8 := dkwX3_deep_2 ++ dktX3_deep_3
def dkwX3_deep_1 : List UInt8 := [167, 0, 50, 42, 180, 0, 23, 27, 46, 5, 159, 0, 8, 16, 9, 167, 0, 35, 42, 27, 3, 182, 0, 108]
abbrev dktX3_deep_1 : List UInt8 := dkwX3_deep_1 ++ dktX3_deep_2
def dkwX3_deep_0 : List UInt8 := [42, 27, 182, 0, 131, 154, 0, 8, 16, 7, 167, 0, 64, 42, 180, 0, 20, 27, 46, 4, 159, 0, 7, 5]
abbrev dktX3_deep_0 : List UInt8 := dkwX3_deep_0 ++ dktX3_deep_1
theorem dksX3_deep_0 : cX3_deep.data.toList.drop 0 = dktX3_deep_0 := by decide +kernel
theorem dksX3_deep_1 : cX3_deep.data.toList.drop 24 = dktX3_deep_1 := dk_seg dksX3_deep_0 24 rfl rfl
theorem dksX3_deep_2 : cX3_deep.data.toList.drop 48 = dktX3_deep_2 := dk_seg dksX3_deep_1 24 rfl rfl
theorem dksX3_deep_3 : cX3_deep.data.toList.drop 70 = dktX3_deep_3 := dk_seg dksX3_deep_2 22 rfl rfl
theorem dksX3_deep_4 : cX3_deep.data.toList.drop 94 = dktX3_deep_4 := dk_seg dksX3_deep_3 24 rfl rfl
theorem dksX3_deep_5 : cX3_deep.data.toList.drop 118 = dktX3_deep_5 := dk_seg dksX3_deep_4 24 rfl rfl
theorem dksX3_deep_6 : cX3_deep.data.toList.drop 140 = dktX3_deep_6 := dk_seg dksX3_deep_5 22 rfl rfl
theorem dksX3_deep_7 : cX3_deep.data.toList.drop 163 = dktX3_deep_7 := dk_seg dksX3_deep_6 23 rfl rfl
theorem dksX3_deep_8 : cX3_deep.data.toList.drop 186 = dktX3_deep_8 := dk_seg dksX3_deep_7 23 rfl rfl
theorem dX3_deep_0 : decode cX3_deep 0 = .ok (.aload_n 0, 1) := dk_42 (dk_at dksX3_deep_0 0 rfl rfl)
theorem dX3_deep_1 : decode cX3_deep 1 = .ok (.iload_n 1, 1) := dk_27 (dk_at dksX3_deep_0 1 rfl rfl)
theorem dX3_deep_2 : decode cX3_deep 2 = .ok (.invokevirtual 131, 3) := dk_182 0 131 (dk_at dksX3_deep_0 2 rfl rfl)
theorem dX3_deep_5 : decode cX3_deep 5 = .ok (.ifCond .ne 8, 3) := dk_154 0 8 (dk_at dksX3_deep_0 5 rfl rfl)
theorem dX3_deep_8 : decode cX3_deep 8 = .ok (.bipush 7, 2) := dk_16 7 (dk_at dksX3_deep_0 8 rfl rfl)
theorem dX3_deep_10 : decode cX3_deep 10 = .ok (.goto 64, 3) := dk_167 0 64 (dk_at dksX3_deep_0 10 rfl rfl)
theorem dX3_deep_13 : decode cX3_deep 13 = .ok (.aload_n 0, 1) := dk_42 (dk_at dksX3_deep_0 13 rfl rfl)
theorem dX3_deep_14 : decode cX3_deep 14 = .ok (.getfield 20, 3) := dk_180 0 20 (dk_at dksX3_deep_0 14 rfl rfl)
theorem dX3_deep_17 : decode cX3_deep 17 = .ok (.iload_n 1, 1) := dk_27 (dk_at dksX3_deep_0 17 rfl rfl)
theorem dX3_deep_18 : decode cX3_deep 18 = .ok (.iaload, 1) := dk_46 (dk_at dksX3_deep_0 18 rfl rfl)
theorem dX3_deep_19 : decode cX3_deep 19 = .ok (.iconst 1, 1) := dk_4 (dk_at dksX3_deep_0 19 rfl rfl)
theorem dX3_deep_20 : decode cX3_deep 20 = .ok (.if_icmp .eq 7, 3) := dk_159 0 7 (dk_at dksX3_deep_0 20 rfl rfl)
theorem dX3_deep_23 : decode cX3_deep 23 = .ok (.iconst 2, 1) := dk_5 (dk_at dksX3_deep_0 23 rfl rfl)
theorem dX3_deep_24 : decode cX3_deep 24 = .ok (.goto 50, 3) := dk_167 0 50 (dk_at dksX3_deep_1 0 rfl rfl)
theorem dX3_deep_27 : decode cX3_deep 27 = .ok (.aload_n 0, 1) := dk_42 (dk_at dksX3_deep_1 3 rfl rfl)
theorem dX3_deep_28 : decode cX3_deep 28 = .ok (.getfield 23, 3) := dk_180 0 23 (dk_at dksX3_deep_1 4 rfl rfl)
theorem dX3_deep_31 : decode cX3_deep 31 = .ok (.iload_n 1, 1) := dk_27 (dk_at dksX3_deep_1 7 rfl rfl)
theorem dX3_deep_32 : decode cX3_deep 32 = .ok (.iaload, 1) := dk_46 (dk_at dksX3_deep_1 8 rfl rfl)
theorem dX3_deep_33 : decode cX3_deep 33 = .ok (.iconst 2, 1) := dk_5 (dk_at dksX3_deep_1 9 rfl rfl)
theorem dX3_deep_34 : decode cX3_deep 34 = .ok (.if_icmp .eq 8, 3) := dk_159 0 8 (dk_at dksX3_deep_1 10 rfl rfl)
theorem dX3_deep_37 : decode cX3_deep 37 = .ok (.bipush 9, 2) := dk_16 9 (dk_at dksX3_deep_1 13 rfl rfl)
theorem dX3_deep_39 : decode cX3_deep 39 = .ok (.goto 35, 3) := dk_167 0 35 (dk_at dksX3_deep_1 15 rfl rfl)
theorem dX3_deep_42 : decode cX3_deep 42 = .ok (.aload_n 0, 1) := dk_42 (dk_at dksX3_deep_1 18 rfl rfl)
theorem dX3_deep_43 : decode cX3_deep 43 = .ok (.iload_n 1, 1) := dk_27 (dk_at dksX3_deep_1 19 rfl rfl)
theorem dX3_deep_44 : decode cX3_deep 44 = .ok (.iconst 0, 1) := dk_3 (dk_at dksX3_deep_1 20 rfl rfl)
theorem dX3_deep_45 : decode cX3_deep 45 = .ok (.invokevirtual 108, 3) := dk_182 0 108 (dk_at dksX3_deep_1 21 rfl rfl)
theorem dX3_deep_48 : decode cX3_deep 48 = .ok (.ldc2_w 82, 3) := dk_20 0 82 (dk_at dksX3_deep_2 0 rfl rfl)
theorem dX3_deep_51 : decode cX3_deep 51 = .ok (.lcmp, 1) := dk_148 (dk_at dksX3_deep_2 3 rfl rfl)
theorem dX3_deep_52 : decode cX3_deep 52 = .ok (.ifCond .le 7, 3) := dk_158 0 7 (dk_at dksX3_deep_2 4 rfl rfl)
theorem dX3_deep_55 : decode cX3_deep 55 = .ok (.iconst 5, 1) := dk_8 (dk_at dksX3_deep_2 7 rfl rfl)
theorem dX3_deep_56 : decode cX3_deep 56 = .ok (.goto 18, 3) := dk_167 0 18 (dk_at dksX3_deep_2 8 rfl rfl)
theorem dX3_deep_59 : decode cX3_deep 59 = .ok (.aload_n 0, 1) := dk_42 (dk_at dksX3_deep_2 11 rfl rfl)
theorem dX3_deep_60 : decode cX3_deep 60 = .ok (.getfield 98, 3) := dk_180 0 98 (dk_at dksX3_deep_2 12 rfl rfl)
theorem dX3_deep_63 : decode cX3_deep 63 = .ok (.bipush 24, 2) := dk_16 24 (dk_at dksX3_deep_2 15 rfl rfl)
theorem dX3_deep_65 : decode cX3_deep 65 = .ok (.if_icmp .ne 8, 3) := dk_160 0 8 (dk_at dksX3_deep_2 17 rfl rfl)
theorem dX3_deep_68 : decode cX3_deep 68 = .ok (.bipush 8, 2) := dk_16 8 (dk_at dksX3_deep_2 20 rfl rfl)
theorem dX3_deep_70 : decode cX3_deep 70 = .ok (.goto 4, 3) := dk_167 0 4 (dk_at dksX3_deep_3 0 rfl rfl)
theorem dX3_deep_73 : decode cX3_deep 73 = .ok (.iconst 0, 1) := dk_3 (dk_at dksX3_deep_3 3 rfl rfl)
theorem dX3_deep_74 : decode cX3_deep 74 = .ok (.istore_n 2, 1) := dk_61 (dk_at dksX3_deep_3 4 rfl rfl)
theorem dX3_deep_75 : decode cX3_deep 75 = .ok (.iload_n 2, 1) := dk_28 (dk_at dksX3_deep_3 5 rfl rfl)
theorem dX3_deep_76 : decode cX3_deep 76 = .ok (.ifCond .eq 9, 3) := dk_153 0 9 (dk_at dksX3_deep_3 6 rfl rfl)
theorem dX3_deep_79 : decode cX3_deep 79 = .ok (.aload_n 0, 1) := dk_42 (dk_at dksX3_deep_3 9 rfl rfl)
theorem dX3_deep_80 : decode cX3_deep 80 = .ok (.iload_n 2, 1) := dk_28 (dk_at dksX3_deep_3 10 rfl rfl)
theorem dX3_deep_81 : decode cX3_deep 81 = .ok (.invokevirtual 68, 3) := dk_182 0 68 (dk_at dksX3_deep_3 11 rfl rfl)
theorem dX3_deep_84 : decode cX3_deep 84 = .ok (.ireturn, 1) := dk_172 (dk_at dksX3_deep_3 14 rfl rfl)
theorem dX3_deep_85 : decode cX3_deep 85 = .ok (.aload_n 0, 1) := dk_42 (dk_at dksX3_deep_3 15 rfl rfl)
theorem dX3_deep_86 : decode cX3_deep 86 = .ok (.iconst 4, 1) := dk_7 (dk_at dksX3_deep_3 16 rfl rfl)
theorem dX3_deep_87 : decode cX3_deep 87 = .ok (.iload_n 1, 1) := dk_27 (dk_at dksX3_deep_3 17 rfl rfl)
theorem dX3_deep_88 : decode cX3_deep 88 = .ok (.invokevirtual 121, 3) := dk_182 0 121 (dk_at dksX3_deep_3 18 rfl rfl)
theorem dX3_deep_91 : decode cX3_deep 91 = .ok (.istore_n 3, 1) := dk_62 (dk_at dksX3_deep_3 21 rfl rfl)
theorem dX3_deep_92 : decode cX3_deep 92 = .ok (.aload_n 0, 1) := dk_42 (dk_at dksX3_deep_3 22 rfl rfl)
theorem dX3_deep_93 : decode cX3_deep 93 = .ok (.iload_n 3, 1) := dk_29 (dk_at dksX3_deep_3 23 rfl rfl)
theorem dX3_deep_94 : decode cX3_deep 94 = .ok (.invokevirtual 125, 3) := dk_182 0 125 (dk_at dksX3_deep_4 0 rfl rfl)
theorem dX3_deep_97 : decode cX3_deep 97 = .ok (.aload_n 0, 1) := dk_42 (dk_at dksX3_deep_4 3 rfl rfl)
theorem dX3_deep_98 : decode cX3_deep 98 = .ok (.getfield 38, 3) := dk_180 0 38 (dk_at dksX3_deep_4 4 rfl rfl)
theorem dX3_deep_101 : decode cX3_deep 101 = .ok (.aload_n 0, 1) := dk_42 (dk_at dksX3_deep_4 7 rfl rfl)
theorem dX3_deep_102 : decode cX3_deep 102 = .ok (.getfield 32, 3) := dk_180 0 32 (dk_at dksX3_deep_4 8 rfl rfl)
theorem dX3_deep_105 : decode cX3_deep 105 = .ok (.iload_n 1, 1) := dk_27 (dk_at dksX3_deep_4 11 rfl rfl)
theorem dX3_deep_106 : decode cX3_deep 106 = .ok (.iaload, 1) := dk_46 (dk_at dksX3_deep_4 12 rfl rfl)
theorem dX3_deep_107 : decode cX3_deep 107 = .ok (.iaload, 1) := dk_46 (dk_at dksX3_deep_4 13 rfl rfl)
theorem dX3_deep_108 : decode cX3_deep 108 = .ok (.ifCond .ne 7, 3) := dk_154 0 7 (dk_at dksX3_deep_4 14 rfl rfl)
theorem dX3_deep_111 : decode cX3_deep 111 = .ok (.lconst 0, 1) := dk_9 (dk_at dksX3_deep_4 17 rfl rfl)
theorem dX3_deep_112 : decode cX3_deep 112 = .ok (.goto 9, 3) := dk_167 0 9 (dk_at dksX3_deep_4 18 rfl rfl)
theorem dX3_deep_115 : decode cX3_deep 115 = .ok (.aload_n 0, 1) := dk_42 (dk_at dksX3_deep_4 21 rfl rfl)
theorem dX3_deep_116 : decode cX3_deep 116 = .ok (.iload_n 1, 1) := dk_27 (dk_at dksX3_deep_4 22 rfl rfl)
theorem dX3_deep_117 : decode cX3_deep 117 = .ok (.iconst 1, 1) := dk_4 (dk_at dksX3_deep_4 23 rfl rfl)
theorem dX3_deep_118 : decode cX3_deep 118 = .ok (.invokevirtual 108, 3) := dk_182 0 108 (dk_at dksX3_deep_5 0 rfl rfl)
theorem dX3_deep_121 : decode cX3_deep 121 = .ok (.l2i, 1) := dk_136 (dk_at dksX3_deep_5 3 rfl rfl)
theorem dX3_deep_122 : decode cX3_deep 122 = .ok (.istore 4, 2) := dk_54 4 (dk_at dksX3_deep_5 4 rfl rfl)
theorem dX3_deep_124 : decode cX3_deep 124 = .ok (.iconst 0, 1) := dk_3 (dk_at dksX3_deep_5 6 rfl rfl)
theorem dX3_deep_125 : decode cX3_deep 125 = .ok (.istore 5, 2) := dk_54 5 (dk_at dksX3_deep_5 7 rfl rfl)
theorem dX3_deep_127 : decode cX3_deep 127 = .ok (.iload 5, 2) := dk_21 5 (dk_at dksX3_deep_5 9 rfl rfl)
theorem dX3_deep_129 : decode cX3_deep 129 = .ok (.aload_n 0, 1) := dk_42 (dk_at dksX3_deep_5 11 rfl rfl)
theorem dX3_deep_130 : decode cX3_deep 130 = .ok (.getfield 38, 3) := dk_180 0 38 (dk_at dksX3_deep_5 12 rfl rfl)
theorem dX3_deep_133 : decode cX3_deep 133 = .ok (.aload_n 0, 1) := dk_42 (dk_at dksX3_deep_5 15 rfl rfl)
theorem dX3_deep_134 : decode cX3_deep 134 = .ok (.getfield 32, 3) := dk_180 0 32 (dk_at dksX3_deep_5 16 rfl rfl)
theorem dX3_deep_137 : decode cX3_deep 137 = .ok (.iload_n 1, 1) := dk_27 (dk_at dksX3_deep_5 19 rfl rfl)
theorem dX3_deep_138 : decode cX3_deep 138 = .ok (.iaload, 1) := dk_46 (dk_at dksX3_deep_5 20 rfl rfl)
theorem dX3_deep_139 : decode cX3_deep 139 = .ok (.iaload, 1) := dk_46 (dk_at dksX3_deep_5 21 rfl rfl)
theorem dX3_deep_140 : decode cX3_deep 140 = .ok (.if_icmp .ge 55, 3) := dk_162 0 55 (dk_at dksX3_deep_6 0 rfl rfl)
theorem dX3_deep_143 : decode cX3_deep 143 = .ok (.aload_n 0, 1) := dk_42 (dk_at dksX3_deep_6 3 rfl rfl)
theorem dX3_deep_144 : decode cX3_deep 144 = .ok (.aload_n 0, 1) := dk_42 (dk_at dksX3_deep_6 4 rfl rfl)
theorem dX3_deep_145 : decode cX3_deep 145 = .ok (.getfield 35, 3) := dk_180 0 35 (dk_at dksX3_deep_6 5 rfl rfl)
theorem dX3_deep_148 : decode cX3_deep 148 = .ok (.aload_n 0, 1) := dk_42 (dk_at dksX3_deep_6 8 rfl rfl)
theorem dX3_deep_149 : decode cX3_deep 149 = .ok (.getfield 32, 3) := dk_180 0 32 (dk_at dksX3_deep_6 9 rfl rfl)
theorem dX3_deep_152 : decode cX3_deep 152 = .ok (.iload_n 1, 1) := dk_27 (dk_at dksX3_deep_6 12 rfl rfl)
theorem dX3_deep_153 : decode cX3_deep 153 = .ok (.iaload, 1) := dk_46 (dk_at dksX3_deep_6 13 rfl rfl)
theorem dX3_deep_154 : decode cX3_deep 154 = .ok (.iaload, 1) := dk_46 (dk_at dksX3_deep_6 14 rfl rfl)
theorem dX3_deep_155 : decode cX3_deep 155 = .ok (.iload 5, 2) := dk_21 5 (dk_at dksX3_deep_6 15 rfl rfl)
theorem dX3_deep_157 : decode cX3_deep 157 = .ok (.iadd, 1) := dk_96 (dk_at dksX3_deep_6 17 rfl rfl)
theorem dX3_deep_158 : decode cX3_deep 158 = .ok (.aload_n 0, 1) := dk_42 (dk_at dksX3_deep_6 18 rfl rfl)
theorem dX3_deep_159 : decode cX3_deep 159 = .ok (.getfield 35, 3) := dk_180 0 35 (dk_at dksX3_deep_6 19 rfl rfl)
theorem dX3_deep_162 : decode cX3_deep 162 = .ok (.aload_n 0, 1) := dk_42 (dk_at dksX3_deep_6 22 rfl rfl)
theorem dX3_deep_163 : decode cX3_deep 163 = .ok (.getfield 50, 3) := dk_180 0 50 (dk_at dksX3_deep_7 0 rfl rfl)
theorem dX3_deep_166 : decode cX3_deep 166 = .ok (.aload_n 0, 1) := dk_42 (dk_at dksX3_deep_7 3 rfl rfl)
theorem dX3_deep_167 : decode cX3_deep 167 = .ok (.getfield 32, 3) := dk_180 0 32 (dk_at dksX3_deep_7 4 rfl rfl)
theorem dX3_deep_170 : decode cX3_deep 170 = .ok (.iload_n 3, 1) := dk_29 (dk_at dksX3_deep_7 7 rfl rfl)
theorem dX3_deep_171 : decode cX3_deep 171 = .ok (.iaload, 1) := dk_46 (dk_at dksX3_deep_7 8 rfl rfl)
theorem dX3_deep_172 : decode cX3_deep 172 = .ok (.iload 5, 2) := dk_21 5 (dk_at dksX3_deep_7 9 rfl rfl)
theorem dX3_deep_174 : decode cX3_deep 174 = .ok (.iload 4, 2) := dk_21 4 (dk_at dksX3_deep_7 11 rfl rfl)
theorem dX3_deep_176 : decode cX3_deep 176 = .ok (.idiv, 1) := dk_108 (dk_at dksX3_deep_7 13 rfl rfl)
theorem dX3_deep_177 : decode cX3_deep 177 = .ok (.iadd, 1) := dk_96 (dk_at dksX3_deep_7 14 rfl rfl)
theorem dX3_deep_178 : decode cX3_deep 178 = .ok (.iaload, 1) := dk_46 (dk_at dksX3_deep_7 15 rfl rfl)
theorem dX3_deep_179 : decode cX3_deep 179 = .ok (.iaload, 1) := dk_46 (dk_at dksX3_deep_7 16 rfl rfl)
theorem dX3_deep_180 : decode cX3_deep 180 = .ok (.iload 5, 2) := dk_21 5 (dk_at dksX3_deep_7 17 rfl rfl)
theorem dX3_deep_182 : decode cX3_deep 182 = .ok (.iload 4, 2) := dk_21 4 (dk_at dksX3_deep_7 19 rfl rfl)
theorem dX3_deep_184 : decode cX3_deep 184 = .ok (.irem, 1) := dk_112 (dk_at dksX3_deep_7 21 rfl rfl)
theorem dX3_deep_185 : decode cX3_deep 185 = .ok (.iadd, 1) := dk_96 (dk_at dksX3_deep_7 22 rfl rfl)
theorem dX3_deep_186 : decode cX3_deep 186 = .ok (.invokevirtual 138, 3) := dk_182 0 138 (dk_at dksX3_deep_8 0 rfl rfl)
theorem dX3_deep_189 : decode cX3_deep 189 = .ok (.iinc 5 1, 3) := dk_132 5 1 (dk_at dksX3_deep_8 3 rfl rfl)
theorem dX3_deep_192 : decode cX3_deep 192 = .ok (.goto (-65), 3) := dk_167 255 191 (dk_at dksX3_deep_8 6 rfl rfl)
theorem dX3_deep_195 : decode cX3_deep 195 = .ok (.aload_n 0, 1) := dk_42 (dk_at dksX3_deep_8 9 rfl rfl)
theorem dX3_deep_196 : decode cX3_deep 196 = .ok (.iload_n 3, 1) := dk_29 (dk_at dksX3_deep_8 10 rfl rfl)
theorem dX3_deep_197 : decode cX3_deep 197 = .ok (.invokevirtual 75, 3) := dk_182 0 75 (dk_at dksX3_deep_8 11 rfl rfl)
theorem dX3_deep_200 : decode cX3_deep 200 = .ok (.ireturn, 1) := dk_172 (dk_at dksX3_deep_8 14 rfl rfl)
abbrev cX3_flat : ByteArray := prog_6_method_30_code
def yX3_flat : MethodName := ⟨RX3, "flat", "(I)I"⟩
def dkwX3_flat_11 : List UInt8 := [21, 4, 182, 0, 75, 172]
abbrev dktX3_flat_11 : List UInt8 := dkwX3_flat_11 ++ []
def dkwX3_flat_10 : List UInt8 := [21, 8, 96, 21, 5, 182, 0, 138, 132, 5, 1, 132, 8, 1, 167, 255, 222, 132, 6, 1, 167, 255, 187, 42]
abbrev dktX3_flat_10 : List UInt8 := dkwX3_flat_10 ++ dktX3_flat_11
def dkwX3_flat_9 : List UInt8 := [3, 54, 8, 21, 8, 42, 180, 0, 38, 21, 7, 46, 162, 0, 28, 42, 42, 180, 0, 35, 21, 7, 46]
abbrev dktX3_flat_9 : List UInt8 := dkwX3_flat_9 ++ dktX3_flat_10
def dkwX3_flat_8 : List UInt8 := [42, 27, 182, 0, 155, 162, 0, 65, 42, 180, 0, 50, 42, 180, 0, 32, 27, 46, 21, 6, 96, 46, 54, 7]
abbrev dktX3_flat_8 : List UInt8 := dkwX3_flat_8 ++ dktX3_flat_9
def dkwX3_flat_7 : List UInt8 := [29, 182, 0, 111, 79, 42, 180, 0, 35, 42, 180, 0, 32, 21, 4, 46, 46, 54, 5, 3, 54, 6, 21, 6]
abbrev dktX3_flat_7 : List UInt8 := dkwX3_flat_7 ++ dktX3_flat_8
def dkwX3_flat_6 : List UInt8 := [153, 0, 9, 42, 28, 182, 0, 68, 172, 42, 4, 27, 182, 0, 121, 54, 4, 42, 180, 0, 32, 21, 4, 42]
abbrev dktX3_flat_6 : List UInt8 := dkwX3_flat_6 ++ dktX3_flat_7
def dkwX3_flat_5 : List UInt8 := [132, 4, 1, 167, 255, 170, 28, 154, 0, 15, 42, 180, 0, 98, 16, 24, 160, 0, 6, 16, 8, 61, 28]
abbrev dktX3_flat_5 : List UInt8 := dkwX3_flat_5 ++ dktX3_flat_6
def dkwX3_flat_4 : List UInt8 := [167, 0, 4, 3, 61, 29, 28, 154, 0, 13, 42, 180, 0, 38, 21, 5, 46, 167, 0, 4, 3, 96, 62]
abbrev dktX3_flat_4 : List UInt8 := dkwX3_flat_4 ++ dktX3_flat_5
def dkwX3_flat_3 : List UInt8 := [167, 0, 27, 42, 180, 0, 38, 21, 5, 46, 133, 42, 27, 4, 182, 0, 108, 148, 153, 0, 8, 16, 11]
abbrev dktX3_flat_3 : List UInt8 := dkwX3_flat_3 ++ dktX3_flat_4
def dkwX3_flat_2 : List UInt8 := [42, 180, 0, 50, 42, 180, 0, 32, 27, 46, 21, 4, 96, 46, 54, 5, 21, 5, 2, 160, 0, 7, 4]
abbrev dktX3_flat_2 : List UInt8 := dkwX3_flat_2 ++ dktX3_flat_3
def dkwX3_flat_1 : List UInt8 := [167, 0, 4, 3, 61, 3, 62, 3, 54, 4, 28, 154, 0, 88, 21, 4, 42, 27, 182, 0, 155, 162, 0, 78]
abbrev dktX3_flat_1 : List UInt8 := dkwX3_flat_1 ++ dktX3_flat_2
def dkwX3_flat_0 : List UInt8 := [42, 27, 182, 0, 131, 154, 0, 8, 16, 7, 167, 0, 18, 42, 180, 0, 20, 27, 46, 7, 159, 0, 7, 5]
abbrev dktX3_flat_0 : List UInt8 := dkwX3_flat_0 ++ dktX3_flat_1
theorem dksX3_flat_0 : cX3_flat.data.toList.drop 0 = dktX3_flat_0 := by decide +kernel
theorem dksX3_flat_1 : cX3_flat.data.toList.drop 24 = dktX3_flat_1 := dk_seg dksX3_flat_0 24 rfl rfl
theorem dksX3_flat_2 : cX3_flat.data.toList.drop 48 = dktX3_flat_2 := dk_seg dksX3_flat_1 24 rfl rfl
theorem dksX3_flat_3 : cX3_flat.data.toList.drop 71 = dktX3_flat_3 := dk_seg dksX3_flat_2 23 rfl rfl
theorem dksX3_flat_4 : cX3_flat.data.toList.drop 94 = dktX3_flat_4 := dk_seg dksX3_flat_3 23 rfl rfl
theorem dksX3_flat_5 : cX3_flat.data.toList.drop 117 = dktX3_flat_5 := dk_seg dksX3_flat_4 23 rfl rfl
theorem dksX3_flat_6 : cX3_flat.data.toList.drop 140 = dktX3_flat_6 := dk_seg dksX3_flat_5 23 rfl rfl
theorem dksX3_flat_7 : cX3_flat.data.toList.drop 164 = dktX3_flat_7 := dk_seg dksX3_flat_6 24 rfl rfl
theorem dksX3_flat_8 : cX3_flat.data.toList.drop 188 = dktX3_flat_8 := dk_seg dksX3_flat_7 24 rfl rfl
theorem dksX3_flat_9 : cX3_flat.data.toList.drop 212 = dktX3_flat_9 := dk_seg dksX3_flat_8 24 rfl rfl
theorem dksX3_flat_10 : cX3_flat.data.toList.drop 235 = dktX3_flat_10 := dk_seg dksX3_flat_9 23 rfl rfl
theorem dksX3_flat_11 : cX3_flat.data.toList.drop 259 = dktX3_flat_11 := dk_seg dksX3_flat_10 24 rfl rfl
theorem dX3_flat_0 : decode cX3_flat 0 = .ok (.aload_n 0, 1) := dk_42 (dk_at dksX3_flat_0 0 rfl rfl)
theorem dX3_flat_1 : decode cX3_flat 1 = .ok (.iload_n 1, 1) := dk_27 (dk_at dksX3_flat_0 1 rfl rfl)
theorem dX3_flat_2 : decode cX3_flat 2 = .ok (.invokevirtual 131, 3) := dk_182 0 131 (dk_at dksX3_flat_0 2 rfl rfl)
theorem dX3_flat_5 : decode cX3_flat 5 = .ok (.ifCond .ne 8, 3) := dk_154 0 8 (dk_at dksX3_flat_0 5 rfl rfl)
theorem dX3_flat_8 : decode cX3_flat 8 = .ok (.bipush 7, 2) := dk_16 7 (dk_at dksX3_flat_0 8 rfl rfl)
theorem dX3_flat_10 : decode cX3_flat 10 = .ok (.goto 18, 3) := dk_167 0 18 (dk_at dksX3_flat_0 10 rfl rfl)
theorem dX3_flat_13 : decode cX3_flat 13 = .ok (.aload_n 0, 1) := dk_42 (dk_at dksX3_flat_0 13 rfl rfl)
theorem dX3_flat_14 : decode cX3_flat 14 = .ok (.getfield 20, 3) := dk_180 0 20 (dk_at dksX3_flat_0 14 rfl rfl)
theorem dX3_flat_17 : decode cX3_flat 17 = .ok (.iload_n 1, 1) := dk_27 (dk_at dksX3_flat_0 17 rfl rfl)
theorem dX3_flat_18 : decode cX3_flat 18 = .ok (.iaload, 1) := dk_46 (dk_at dksX3_flat_0 18 rfl rfl)
theorem dX3_flat_19 : decode cX3_flat 19 = .ok (.iconst 4, 1) := dk_7 (dk_at dksX3_flat_0 19 rfl rfl)
theorem dX3_flat_20 : decode cX3_flat 20 = .ok (.if_icmp .eq 7, 3) := dk_159 0 7 (dk_at dksX3_flat_0 20 rfl rfl)
theorem dX3_flat_23 : decode cX3_flat 23 = .ok (.iconst 2, 1) := dk_5 (dk_at dksX3_flat_0 23 rfl rfl)
theorem dX3_flat_24 : decode cX3_flat 24 = .ok (.goto 4, 3) := dk_167 0 4 (dk_at dksX3_flat_1 0 rfl rfl)
theorem dX3_flat_27 : decode cX3_flat 27 = .ok (.iconst 0, 1) := dk_3 (dk_at dksX3_flat_1 3 rfl rfl)
theorem dX3_flat_28 : decode cX3_flat 28 = .ok (.istore_n 2, 1) := dk_61 (dk_at dksX3_flat_1 4 rfl rfl)
theorem dX3_flat_29 : decode cX3_flat 29 = .ok (.iconst 0, 1) := dk_3 (dk_at dksX3_flat_1 5 rfl rfl)
theorem dX3_flat_30 : decode cX3_flat 30 = .ok (.istore_n 3, 1) := dk_62 (dk_at dksX3_flat_1 6 rfl rfl)
theorem dX3_flat_31 : decode cX3_flat 31 = .ok (.iconst 0, 1) := dk_3 (dk_at dksX3_flat_1 7 rfl rfl)
theorem dX3_flat_32 : decode cX3_flat 32 = .ok (.istore 4, 2) := dk_54 4 (dk_at dksX3_flat_1 8 rfl rfl)
theorem dX3_flat_34 : decode cX3_flat 34 = .ok (.iload_n 2, 1) := dk_28 (dk_at dksX3_flat_1 10 rfl rfl)
theorem dX3_flat_35 : decode cX3_flat 35 = .ok (.ifCond .ne 88, 3) := dk_154 0 88 (dk_at dksX3_flat_1 11 rfl rfl)
theorem dX3_flat_38 : decode cX3_flat 38 = .ok (.iload 4, 2) := dk_21 4 (dk_at dksX3_flat_1 14 rfl rfl)
theorem dX3_flat_40 : decode cX3_flat 40 = .ok (.aload_n 0, 1) := dk_42 (dk_at dksX3_flat_1 16 rfl rfl)
theorem dX3_flat_41 : decode cX3_flat 41 = .ok (.iload_n 1, 1) := dk_27 (dk_at dksX3_flat_1 17 rfl rfl)
theorem dX3_flat_42 : decode cX3_flat 42 = .ok (.invokevirtual 155, 3) := dk_182 0 155 (dk_at dksX3_flat_1 18 rfl rfl)
theorem dX3_flat_45 : decode cX3_flat 45 = .ok (.if_icmp .ge 78, 3) := dk_162 0 78 (dk_at dksX3_flat_1 21 rfl rfl)
theorem dX3_flat_48 : decode cX3_flat 48 = .ok (.aload_n 0, 1) := dk_42 (dk_at dksX3_flat_2 0 rfl rfl)
theorem dX3_flat_49 : decode cX3_flat 49 = .ok (.getfield 50, 3) := dk_180 0 50 (dk_at dksX3_flat_2 1 rfl rfl)
theorem dX3_flat_52 : decode cX3_flat 52 = .ok (.aload_n 0, 1) := dk_42 (dk_at dksX3_flat_2 4 rfl rfl)
theorem dX3_flat_53 : decode cX3_flat 53 = .ok (.getfield 32, 3) := dk_180 0 32 (dk_at dksX3_flat_2 5 rfl rfl)
theorem dX3_flat_56 : decode cX3_flat 56 = .ok (.iload_n 1, 1) := dk_27 (dk_at dksX3_flat_2 8 rfl rfl)
theorem dX3_flat_57 : decode cX3_flat 57 = .ok (.iaload, 1) := dk_46 (dk_at dksX3_flat_2 9 rfl rfl)
theorem dX3_flat_58 : decode cX3_flat 58 = .ok (.iload 4, 2) := dk_21 4 (dk_at dksX3_flat_2 10 rfl rfl)
theorem dX3_flat_60 : decode cX3_flat 60 = .ok (.iadd, 1) := dk_96 (dk_at dksX3_flat_2 12 rfl rfl)
theorem dX3_flat_61 : decode cX3_flat 61 = .ok (.iaload, 1) := dk_46 (dk_at dksX3_flat_2 13 rfl rfl)
theorem dX3_flat_62 : decode cX3_flat 62 = .ok (.istore 5, 2) := dk_54 5 (dk_at dksX3_flat_2 14 rfl rfl)
theorem dX3_flat_64 : decode cX3_flat 64 = .ok (.iload 5, 2) := dk_21 5 (dk_at dksX3_flat_2 16 rfl rfl)
theorem dX3_flat_66 : decode cX3_flat 66 = .ok (.iconst (-1), 1) := dk_2 (dk_at dksX3_flat_2 18 rfl rfl)
theorem dX3_flat_67 : decode cX3_flat 67 = .ok (.if_icmp .ne 7, 3) := dk_160 0 7 (dk_at dksX3_flat_2 19 rfl rfl)
theorem dX3_flat_70 : decode cX3_flat 70 = .ok (.iconst 1, 1) := dk_4 (dk_at dksX3_flat_2 22 rfl rfl)
theorem dX3_flat_71 : decode cX3_flat 71 = .ok (.goto 27, 3) := dk_167 0 27 (dk_at dksX3_flat_3 0 rfl rfl)
theorem dX3_flat_74 : decode cX3_flat 74 = .ok (.aload_n 0, 1) := dk_42 (dk_at dksX3_flat_3 3 rfl rfl)
theorem dX3_flat_75 : decode cX3_flat 75 = .ok (.getfield 38, 3) := dk_180 0 38 (dk_at dksX3_flat_3 4 rfl rfl)
theorem dX3_flat_78 : decode cX3_flat 78 = .ok (.iload 5, 2) := dk_21 5 (dk_at dksX3_flat_3 7 rfl rfl)
theorem dX3_flat_80 : decode cX3_flat 80 = .ok (.iaload, 1) := dk_46 (dk_at dksX3_flat_3 9 rfl rfl)
theorem dX3_flat_81 : decode cX3_flat 81 = .ok (.i2l, 1) := dk_133 (dk_at dksX3_flat_3 10 rfl rfl)
theorem dX3_flat_82 : decode cX3_flat 82 = .ok (.aload_n 0, 1) := dk_42 (dk_at dksX3_flat_3 11 rfl rfl)
theorem dX3_flat_83 : decode cX3_flat 83 = .ok (.iload_n 1, 1) := dk_27 (dk_at dksX3_flat_3 12 rfl rfl)
theorem dX3_flat_84 : decode cX3_flat 84 = .ok (.iconst 1, 1) := dk_4 (dk_at dksX3_flat_3 13 rfl rfl)
theorem dX3_flat_85 : decode cX3_flat 85 = .ok (.invokevirtual 108, 3) := dk_182 0 108 (dk_at dksX3_flat_3 14 rfl rfl)
theorem dX3_flat_88 : decode cX3_flat 88 = .ok (.lcmp, 1) := dk_148 (dk_at dksX3_flat_3 17 rfl rfl)
theorem dX3_flat_89 : decode cX3_flat 89 = .ok (.ifCond .eq 8, 3) := dk_153 0 8 (dk_at dksX3_flat_3 18 rfl rfl)
theorem dX3_flat_92 : decode cX3_flat 92 = .ok (.bipush 11, 2) := dk_16 11 (dk_at dksX3_flat_3 21 rfl rfl)
theorem dX3_flat_94 : decode cX3_flat 94 = .ok (.goto 4, 3) := dk_167 0 4 (dk_at dksX3_flat_4 0 rfl rfl)
theorem dX3_flat_97 : decode cX3_flat 97 = .ok (.iconst 0, 1) := dk_3 (dk_at dksX3_flat_4 3 rfl rfl)
theorem dX3_flat_98 : decode cX3_flat 98 = .ok (.istore_n 2, 1) := dk_61 (dk_at dksX3_flat_4 4 rfl rfl)
theorem dX3_flat_99 : decode cX3_flat 99 = .ok (.iload_n 3, 1) := dk_29 (dk_at dksX3_flat_4 5 rfl rfl)
theorem dX3_flat_100 : decode cX3_flat 100 = .ok (.iload_n 2, 1) := dk_28 (dk_at dksX3_flat_4 6 rfl rfl)
theorem dX3_flat_101 : decode cX3_flat 101 = .ok (.ifCond .ne 13, 3) := dk_154 0 13 (dk_at dksX3_flat_4 7 rfl rfl)
theorem dX3_flat_104 : decode cX3_flat 104 = .ok (.aload_n 0, 1) := dk_42 (dk_at dksX3_flat_4 10 rfl rfl)
theorem dX3_flat_105 : decode cX3_flat 105 = .ok (.getfield 38, 3) := dk_180 0 38 (dk_at dksX3_flat_4 11 rfl rfl)
theorem dX3_flat_108 : decode cX3_flat 108 = .ok (.iload 5, 2) := dk_21 5 (dk_at dksX3_flat_4 14 rfl rfl)
theorem dX3_flat_110 : decode cX3_flat 110 = .ok (.iaload, 1) := dk_46 (dk_at dksX3_flat_4 16 rfl rfl)
theorem dX3_flat_111 : decode cX3_flat 111 = .ok (.goto 4, 3) := dk_167 0 4 (dk_at dksX3_flat_4 17 rfl rfl)
theorem dX3_flat_114 : decode cX3_flat 114 = .ok (.iconst 0, 1) := dk_3 (dk_at dksX3_flat_4 20 rfl rfl)
theorem dX3_flat_115 : decode cX3_flat 115 = .ok (.iadd, 1) := dk_96 (dk_at dksX3_flat_4 21 rfl rfl)
theorem dX3_flat_116 : decode cX3_flat 116 = .ok (.istore_n 3, 1) := dk_62 (dk_at dksX3_flat_4 22 rfl rfl)
theorem dX3_flat_117 : decode cX3_flat 117 = .ok (.iinc 4 1, 3) := dk_132 4 1 (dk_at dksX3_flat_5 0 rfl rfl)
theorem dX3_flat_120 : decode cX3_flat 120 = .ok (.goto (-86), 3) := dk_167 255 170 (dk_at dksX3_flat_5 3 rfl rfl)
theorem dX3_flat_123 : decode cX3_flat 123 = .ok (.iload_n 2, 1) := dk_28 (dk_at dksX3_flat_5 6 rfl rfl)
theorem dX3_flat_124 : decode cX3_flat 124 = .ok (.ifCond .ne 15, 3) := dk_154 0 15 (dk_at dksX3_flat_5 7 rfl rfl)
theorem dX3_flat_127 : decode cX3_flat 127 = .ok (.aload_n 0, 1) := dk_42 (dk_at dksX3_flat_5 10 rfl rfl)
theorem dX3_flat_128 : decode cX3_flat 128 = .ok (.getfield 98, 3) := dk_180 0 98 (dk_at dksX3_flat_5 11 rfl rfl)
theorem dX3_flat_131 : decode cX3_flat 131 = .ok (.bipush 24, 2) := dk_16 24 (dk_at dksX3_flat_5 14 rfl rfl)
theorem dX3_flat_133 : decode cX3_flat 133 = .ok (.if_icmp .ne 6, 3) := dk_160 0 6 (dk_at dksX3_flat_5 16 rfl rfl)
theorem dX3_flat_136 : decode cX3_flat 136 = .ok (.bipush 8, 2) := dk_16 8 (dk_at dksX3_flat_5 19 rfl rfl)
theorem dX3_flat_138 : decode cX3_flat 138 = .ok (.istore_n 2, 1) := dk_61 (dk_at dksX3_flat_5 21 rfl rfl)
theorem dX3_flat_139 : decode cX3_flat 139 = .ok (.iload_n 2, 1) := dk_28 (dk_at dksX3_flat_5 22 rfl rfl)
theorem dX3_flat_140 : decode cX3_flat 140 = .ok (.ifCond .eq 9, 3) := dk_153 0 9 (dk_at dksX3_flat_6 0 rfl rfl)
theorem dX3_flat_143 : decode cX3_flat 143 = .ok (.aload_n 0, 1) := dk_42 (dk_at dksX3_flat_6 3 rfl rfl)
theorem dX3_flat_144 : decode cX3_flat 144 = .ok (.iload_n 2, 1) := dk_28 (dk_at dksX3_flat_6 4 rfl rfl)
theorem dX3_flat_145 : decode cX3_flat 145 = .ok (.invokevirtual 68, 3) := dk_182 0 68 (dk_at dksX3_flat_6 5 rfl rfl)
theorem dX3_flat_148 : decode cX3_flat 148 = .ok (.ireturn, 1) := dk_172 (dk_at dksX3_flat_6 8 rfl rfl)
theorem dX3_flat_149 : decode cX3_flat 149 = .ok (.aload_n 0, 1) := dk_42 (dk_at dksX3_flat_6 9 rfl rfl)
theorem dX3_flat_150 : decode cX3_flat 150 = .ok (.iconst 1, 1) := dk_4 (dk_at dksX3_flat_6 10 rfl rfl)
theorem dX3_flat_151 : decode cX3_flat 151 = .ok (.iload_n 1, 1) := dk_27 (dk_at dksX3_flat_6 11 rfl rfl)
theorem dX3_flat_152 : decode cX3_flat 152 = .ok (.invokevirtual 121, 3) := dk_182 0 121 (dk_at dksX3_flat_6 12 rfl rfl)
theorem dX3_flat_155 : decode cX3_flat 155 = .ok (.istore 4, 2) := dk_54 4 (dk_at dksX3_flat_6 15 rfl rfl)
theorem dX3_flat_157 : decode cX3_flat 157 = .ok (.aload_n 0, 1) := dk_42 (dk_at dksX3_flat_6 17 rfl rfl)
theorem dX3_flat_158 : decode cX3_flat 158 = .ok (.getfield 32, 3) := dk_180 0 32 (dk_at dksX3_flat_6 18 rfl rfl)
theorem dX3_flat_161 : decode cX3_flat 161 = .ok (.iload 4, 2) := dk_21 4 (dk_at dksX3_flat_6 21 rfl rfl)
theorem dX3_flat_163 : decode cX3_flat 163 = .ok (.aload_n 0, 1) := dk_42 (dk_at dksX3_flat_6 23 rfl rfl)
theorem dX3_flat_164 : decode cX3_flat 164 = .ok (.iload_n 3, 1) := dk_29 (dk_at dksX3_flat_7 0 rfl rfl)
theorem dX3_flat_165 : decode cX3_flat 165 = .ok (.invokevirtual 111, 3) := dk_182 0 111 (dk_at dksX3_flat_7 1 rfl rfl)
theorem dX3_flat_168 : decode cX3_flat 168 = .ok (.iastore, 1) := dk_79 (dk_at dksX3_flat_7 4 rfl rfl)
theorem dX3_flat_169 : decode cX3_flat 169 = .ok (.aload_n 0, 1) := dk_42 (dk_at dksX3_flat_7 5 rfl rfl)
theorem dX3_flat_170 : decode cX3_flat 170 = .ok (.getfield 35, 3) := dk_180 0 35 (dk_at dksX3_flat_7 6 rfl rfl)
theorem dX3_flat_173 : decode cX3_flat 173 = .ok (.aload_n 0, 1) := dk_42 (dk_at dksX3_flat_7 9 rfl rfl)
theorem dX3_flat_174 : decode cX3_flat 174 = .ok (.getfield 32, 3) := dk_180 0 32 (dk_at dksX3_flat_7 10 rfl rfl)
theorem dX3_flat_177 : decode cX3_flat 177 = .ok (.iload 4, 2) := dk_21 4 (dk_at dksX3_flat_7 13 rfl rfl)
theorem dX3_flat_179 : decode cX3_flat 179 = .ok (.iaload, 1) := dk_46 (dk_at dksX3_flat_7 15 rfl rfl)
theorem dX3_flat_180 : decode cX3_flat 180 = .ok (.iaload, 1) := dk_46 (dk_at dksX3_flat_7 16 rfl rfl)
theorem dX3_flat_181 : decode cX3_flat 181 = .ok (.istore 5, 2) := dk_54 5 (dk_at dksX3_flat_7 17 rfl rfl)
theorem dX3_flat_183 : decode cX3_flat 183 = .ok (.iconst 0, 1) := dk_3 (dk_at dksX3_flat_7 19 rfl rfl)
theorem dX3_flat_184 : decode cX3_flat 184 = .ok (.istore 6, 2) := dk_54 6 (dk_at dksX3_flat_7 20 rfl rfl)
theorem dX3_flat_186 : decode cX3_flat 186 = .ok (.iload 6, 2) := dk_21 6 (dk_at dksX3_flat_7 22 rfl rfl)
theorem dX3_flat_188 : decode cX3_flat 188 = .ok (.aload_n 0, 1) := dk_42 (dk_at dksX3_flat_8 0 rfl rfl)
theorem dX3_flat_189 : decode cX3_flat 189 = .ok (.iload_n 1, 1) := dk_27 (dk_at dksX3_flat_8 1 rfl rfl)
theorem dX3_flat_190 : decode cX3_flat 190 = .ok (.invokevirtual 155, 3) := dk_182 0 155 (dk_at dksX3_flat_8 2 rfl rfl)
theorem dX3_flat_193 : decode cX3_flat 193 = .ok (.if_icmp .ge 65, 3) := dk_162 0 65 (dk_at dksX3_flat_8 5 rfl rfl)
theorem dX3_flat_196 : decode cX3_flat 196 = .ok (.aload_n 0, 1) := dk_42 (dk_at dksX3_flat_8 8 rfl rfl)
theorem dX3_flat_197 : decode cX3_flat 197 = .ok (.getfield 50, 3) := dk_180 0 50 (dk_at dksX3_flat_8 9 rfl rfl)
theorem dX3_flat_200 : decode cX3_flat 200 = .ok (.aload_n 0, 1) := dk_42 (dk_at dksX3_flat_8 12 rfl rfl)
theorem dX3_flat_201 : decode cX3_flat 201 = .ok (.getfield 32, 3) := dk_180 0 32 (dk_at dksX3_flat_8 13 rfl rfl)
theorem dX3_flat_204 : decode cX3_flat 204 = .ok (.iload_n 1, 1) := dk_27 (dk_at dksX3_flat_8 16 rfl rfl)
theorem dX3_flat_205 : decode cX3_flat 205 = .ok (.iaload, 1) := dk_46 (dk_at dksX3_flat_8 17 rfl rfl)
theorem dX3_flat_206 : decode cX3_flat 206 = .ok (.iload 6, 2) := dk_21 6 (dk_at dksX3_flat_8 18 rfl rfl)
theorem dX3_flat_208 : decode cX3_flat 208 = .ok (.iadd, 1) := dk_96 (dk_at dksX3_flat_8 20 rfl rfl)
theorem dX3_flat_209 : decode cX3_flat 209 = .ok (.iaload, 1) := dk_46 (dk_at dksX3_flat_8 21 rfl rfl)
theorem dX3_flat_210 : decode cX3_flat 210 = .ok (.istore 7, 2) := dk_54 7 (dk_at dksX3_flat_8 22 rfl rfl)
theorem dX3_flat_212 : decode cX3_flat 212 = .ok (.iconst 0, 1) := dk_3 (dk_at dksX3_flat_9 0 rfl rfl)
theorem dX3_flat_213 : decode cX3_flat 213 = .ok (.istore 8, 2) := dk_54 8 (dk_at dksX3_flat_9 1 rfl rfl)
theorem dX3_flat_215 : decode cX3_flat 215 = .ok (.iload 8, 2) := dk_21 8 (dk_at dksX3_flat_9 3 rfl rfl)
theorem dX3_flat_217 : decode cX3_flat 217 = .ok (.aload_n 0, 1) := dk_42 (dk_at dksX3_flat_9 5 rfl rfl)
theorem dX3_flat_218 : decode cX3_flat 218 = .ok (.getfield 38, 3) := dk_180 0 38 (dk_at dksX3_flat_9 6 rfl rfl)
theorem dX3_flat_221 : decode cX3_flat 221 = .ok (.iload 7, 2) := dk_21 7 (dk_at dksX3_flat_9 9 rfl rfl)
theorem dX3_flat_223 : decode cX3_flat 223 = .ok (.iaload, 1) := dk_46 (dk_at dksX3_flat_9 11 rfl rfl)
theorem dX3_flat_224 : decode cX3_flat 224 = .ok (.if_icmp .ge 28, 3) := dk_162 0 28 (dk_at dksX3_flat_9 12 rfl rfl)
theorem dX3_flat_227 : decode cX3_flat 227 = .ok (.aload_n 0, 1) := dk_42 (dk_at dksX3_flat_9 15 rfl rfl)
theorem dX3_flat_228 : decode cX3_flat 228 = .ok (.aload_n 0, 1) := dk_42 (dk_at dksX3_flat_9 16 rfl rfl)
theorem dX3_flat_229 : decode cX3_flat 229 = .ok (.getfield 35, 3) := dk_180 0 35 (dk_at dksX3_flat_9 17 rfl rfl)
theorem dX3_flat_232 : decode cX3_flat 232 = .ok (.iload 7, 2) := dk_21 7 (dk_at dksX3_flat_9 20 rfl rfl)
theorem dX3_flat_234 : decode cX3_flat 234 = .ok (.iaload, 1) := dk_46 (dk_at dksX3_flat_9 22 rfl rfl)
theorem dX3_flat_235 : decode cX3_flat 235 = .ok (.iload 8, 2) := dk_21 8 (dk_at dksX3_flat_10 0 rfl rfl)
theorem dX3_flat_237 : decode cX3_flat 237 = .ok (.iadd, 1) := dk_96 (dk_at dksX3_flat_10 2 rfl rfl)
theorem dX3_flat_238 : decode cX3_flat 238 = .ok (.iload 5, 2) := dk_21 5 (dk_at dksX3_flat_10 3 rfl rfl)
theorem dX3_flat_240 : decode cX3_flat 240 = .ok (.invokevirtual 138, 3) := dk_182 0 138 (dk_at dksX3_flat_10 5 rfl rfl)
theorem dX3_flat_243 : decode cX3_flat 243 = .ok (.iinc 5 1, 3) := dk_132 5 1 (dk_at dksX3_flat_10 8 rfl rfl)
theorem dX3_flat_246 : decode cX3_flat 246 = .ok (.iinc 8 1, 3) := dk_132 8 1 (dk_at dksX3_flat_10 11 rfl rfl)
theorem dX3_flat_249 : decode cX3_flat 249 = .ok (.goto (-34), 3) := dk_167 255 222 (dk_at dksX3_flat_10 14 rfl rfl)
theorem dX3_flat_252 : decode cX3_flat 252 = .ok (.iinc 6 1, 3) := dk_132 6 1 (dk_at dksX3_flat_10 17 rfl rfl)
theorem dX3_flat_255 : decode cX3_flat 255 = .ok (.goto (-69), 3) := dk_167 255 187 (dk_at dksX3_flat_10 20 rfl rfl)
theorem dX3_flat_258 : decode cX3_flat 258 = .ok (.aload_n 0, 1) := dk_42 (dk_at dksX3_flat_10 23 rfl rfl)
theorem dX3_flat_259 : decode cX3_flat 259 = .ok (.iload 4, 2) := dk_21 4 (dk_at dksX3_flat_11 0 rfl rfl)
theorem dX3_flat_261 : decode cX3_flat 261 = .ok (.invokevirtual 75, 3) := dk_182 0 75 (dk_at dksX3_flat_11 2 rfl rfl)
theorem dX3_flat_264 : decode cX3_flat 264 = .ok (.ireturn, 1) := dk_172 (dk_at dksX3_flat_11 5 rfl rfl)
abbrev cX3_tableRows : ByteArray := prog_6_method_29_code
def yX3_tableRows : MethodName := ⟨RX3, "tableRows", "(I)I"⟩
def dkwX3_tableRows_0 : List UInt8 := [42, 27, 3, 182, 0, 108, 136, 172]
abbrev dktX3_tableRows_0 : List UInt8 := dkwX3_tableRows_0 ++ []
theorem dksX3_tableRows_0 : cX3_tableRows.data.toList.drop 0 = dktX3_tableRows_0 := by decide +kernel
theorem dX3_tableRows_0 : decode cX3_tableRows 0 = .ok (.aload_n 0, 1) := dk_42 (dk_at dksX3_tableRows_0 0 rfl rfl)
theorem dX3_tableRows_1 : decode cX3_tableRows 1 = .ok (.iload_n 1, 1) := dk_27 (dk_at dksX3_tableRows_0 1 rfl rfl)
theorem dX3_tableRows_2 : decode cX3_tableRows 2 = .ok (.iconst 0, 1) := dk_3 (dk_at dksX3_tableRows_0 2 rfl rfl)
theorem dX3_tableRows_3 : decode cX3_tableRows 3 = .ok (.invokevirtual 108, 3) := dk_182 0 108 (dk_at dksX3_tableRows_0 3 rfl rfl)
theorem dX3_tableRows_6 : decode cX3_tableRows 6 = .ok (.l2i, 1) := dk_136 (dk_at dksX3_tableRows_0 6 rfl rfl)
theorem dX3_tableRows_7 : decode cX3_tableRows 7 = .ok (.ireturn, 1) := dk_172 (dk_at dksX3_tableRows_0 7 rfl rfl)
abbrev cX3_ragged : ByteArray := prog_6_method_33_code
def yX3_ragged : MethodName := ⟨RX3, "ragged", "(III)I"⟩
def dkwX3_ragged_3 : List UInt8 := [27, 28, 182, 0, 161, 42, 29, 182, 0, 111, 79, 42, 4, 182, 0, 75, 172]
abbrev dktX3_ragged_3 : List UInt8 := dkwX3_ragged_3 ++ []
def dkwX3_ragged_2 : List UInt8 := [167, 0, 5, 21, 4, 54, 4, 21, 4, 153, 0, 10, 42, 21, 4, 182, 0, 68, 172, 42, 180, 0, 50, 42]
abbrev dktX3_ragged_2 : List UInt8 := dkwX3_ragged_2 ++ dktX3_ragged_3
def dkwX3_ragged_1 : List UInt8 := [154, 0, 25, 29, 156, 0, 7, 7, 167, 0, 19, 29, 16, 100, 164, 0, 7, 8, 167, 0, 9, 3]
abbrev dktX3_ragged_1 : List UInt8 := dkwX3_ragged_1 ++ dktX3_ragged_2
def dkwX3_ragged_0 : List UInt8 := [42, 27, 28, 182, 0, 158, 54, 4, 21, 4, 6, 160, 0, 9, 42, 3, 182, 0, 152, 172, 21, 4]
abbrev dktX3_ragged_0 : List UInt8 := dkwX3_ragged_0 ++ dktX3_ragged_1
theorem dksX3_ragged_0 : cX3_ragged.data.toList.drop 0 = dktX3_ragged_0 := by decide +kernel
theorem dksX3_ragged_1 : cX3_ragged.data.toList.drop 22 = dktX3_ragged_1 := dk_seg dksX3_ragged_0 22 rfl rfl
theorem dksX3_ragged_2 : cX3_ragged.data.toList.drop 44 = dktX3_ragged_2 := dk_seg dksX3_ragged_1 22 rfl rfl
theorem dksX3_ragged_3 : cX3_ragged.data.toList.drop 68 = dktX3_ragged_3 := dk_seg dksX3_ragged_2 24 rfl rfl
theorem dX3_ragged_0 : decode cX3_ragged 0 = .ok (.aload_n 0, 1) := dk_42 (dk_at dksX3_ragged_0 0 rfl rfl)
theorem dX3_ragged_1 : decode cX3_ragged 1 = .ok (.iload_n 1, 1) := dk_27 (dk_at dksX3_ragged_0 1 rfl rfl)
theorem dX3_ragged_2 : decode cX3_ragged 2 = .ok (.iload_n 2, 1) := dk_28 (dk_at dksX3_ragged_0 2 rfl rfl)
theorem dX3_ragged_3 : decode cX3_ragged 3 = .ok (.invokevirtual 158, 3) := dk_182 0 158 (dk_at dksX3_ragged_0 3 rfl rfl)
theorem dX3_ragged_6 : decode cX3_ragged 6 = .ok (.istore 4, 2) := dk_54 4 (dk_at dksX3_ragged_0 6 rfl rfl)
theorem dX3_ragged_8 : decode cX3_ragged 8 = .ok (.iload 4, 2) := dk_21 4 (dk_at dksX3_ragged_0 8 rfl rfl)
theorem dX3_ragged_10 : decode cX3_ragged 10 = .ok (.iconst 3, 1) := dk_6 (dk_at dksX3_ragged_0 10 rfl rfl)
theorem dX3_ragged_11 : decode cX3_ragged 11 = .ok (.if_icmp .ne 9, 3) := dk_160 0 9 (dk_at dksX3_ragged_0 11 rfl rfl)
theorem dX3_ragged_14 : decode cX3_ragged 14 = .ok (.aload_n 0, 1) := dk_42 (dk_at dksX3_ragged_0 14 rfl rfl)
theorem dX3_ragged_15 : decode cX3_ragged 15 = .ok (.iconst 0, 1) := dk_3 (dk_at dksX3_ragged_0 15 rfl rfl)
theorem dX3_ragged_16 : decode cX3_ragged 16 = .ok (.invokevirtual 152, 3) := dk_182 0 152 (dk_at dksX3_ragged_0 16 rfl rfl)
theorem dX3_ragged_19 : decode cX3_ragged 19 = .ok (.ireturn, 1) := dk_172 (dk_at dksX3_ragged_0 19 rfl rfl)
theorem dX3_ragged_20 : decode cX3_ragged 20 = .ok (.iload 4, 2) := dk_21 4 (dk_at dksX3_ragged_0 20 rfl rfl)
theorem dX3_ragged_22 : decode cX3_ragged 22 = .ok (.ifCond .ne 25, 3) := dk_154 0 25 (dk_at dksX3_ragged_1 0 rfl rfl)
theorem dX3_ragged_25 : decode cX3_ragged 25 = .ok (.iload_n 3, 1) := dk_29 (dk_at dksX3_ragged_1 3 rfl rfl)
theorem dX3_ragged_26 : decode cX3_ragged 26 = .ok (.ifCond .ge 7, 3) := dk_156 0 7 (dk_at dksX3_ragged_1 4 rfl rfl)
theorem dX3_ragged_29 : decode cX3_ragged 29 = .ok (.iconst 4, 1) := dk_7 (dk_at dksX3_ragged_1 7 rfl rfl)
theorem dX3_ragged_30 : decode cX3_ragged 30 = .ok (.goto 19, 3) := dk_167 0 19 (dk_at dksX3_ragged_1 8 rfl rfl)
theorem dX3_ragged_33 : decode cX3_ragged 33 = .ok (.iload_n 3, 1) := dk_29 (dk_at dksX3_ragged_1 11 rfl rfl)
theorem dX3_ragged_34 : decode cX3_ragged 34 = .ok (.bipush 100, 2) := dk_16 100 (dk_at dksX3_ragged_1 12 rfl rfl)
theorem dX3_ragged_36 : decode cX3_ragged 36 = .ok (.if_icmp .le 7, 3) := dk_164 0 7 (dk_at dksX3_ragged_1 14 rfl rfl)
theorem dX3_ragged_39 : decode cX3_ragged 39 = .ok (.iconst 5, 1) := dk_8 (dk_at dksX3_ragged_1 17 rfl rfl)
theorem dX3_ragged_40 : decode cX3_ragged 40 = .ok (.goto 9, 3) := dk_167 0 9 (dk_at dksX3_ragged_1 18 rfl rfl)
theorem dX3_ragged_43 : decode cX3_ragged 43 = .ok (.iconst 0, 1) := dk_3 (dk_at dksX3_ragged_1 21 rfl rfl)
theorem dX3_ragged_44 : decode cX3_ragged 44 = .ok (.goto 5, 3) := dk_167 0 5 (dk_at dksX3_ragged_2 0 rfl rfl)
theorem dX3_ragged_47 : decode cX3_ragged 47 = .ok (.iload 4, 2) := dk_21 4 (dk_at dksX3_ragged_2 3 rfl rfl)
theorem dX3_ragged_49 : decode cX3_ragged 49 = .ok (.istore 4, 2) := dk_54 4 (dk_at dksX3_ragged_2 5 rfl rfl)
theorem dX3_ragged_51 : decode cX3_ragged 51 = .ok (.iload 4, 2) := dk_21 4 (dk_at dksX3_ragged_2 7 rfl rfl)
theorem dX3_ragged_53 : decode cX3_ragged 53 = .ok (.ifCond .eq 10, 3) := dk_153 0 10 (dk_at dksX3_ragged_2 9 rfl rfl)
theorem dX3_ragged_56 : decode cX3_ragged 56 = .ok (.aload_n 0, 1) := dk_42 (dk_at dksX3_ragged_2 12 rfl rfl)
theorem dX3_ragged_57 : decode cX3_ragged 57 = .ok (.iload 4, 2) := dk_21 4 (dk_at dksX3_ragged_2 13 rfl rfl)
theorem dX3_ragged_59 : decode cX3_ragged 59 = .ok (.invokevirtual 68, 3) := dk_182 0 68 (dk_at dksX3_ragged_2 15 rfl rfl)
theorem dX3_ragged_62 : decode cX3_ragged 62 = .ok (.ireturn, 1) := dk_172 (dk_at dksX3_ragged_2 18 rfl rfl)
theorem dX3_ragged_63 : decode cX3_ragged 63 = .ok (.aload_n 0, 1) := dk_42 (dk_at dksX3_ragged_2 19 rfl rfl)
theorem dX3_ragged_64 : decode cX3_ragged 64 = .ok (.getfield 50, 3) := dk_180 0 50 (dk_at dksX3_ragged_2 20 rfl rfl)
theorem dX3_ragged_67 : decode cX3_ragged 67 = .ok (.aload_n 0, 1) := dk_42 (dk_at dksX3_ragged_2 23 rfl rfl)
theorem dX3_ragged_68 : decode cX3_ragged 68 = .ok (.iload_n 1, 1) := dk_27 (dk_at dksX3_ragged_3 0 rfl rfl)
theorem dX3_ragged_69 : decode cX3_ragged 69 = .ok (.iload_n 2, 1) := dk_28 (dk_at dksX3_ragged_3 1 rfl rfl)
theorem dX3_ragged_70 : decode cX3_ragged 70 = .ok (.invokevirtual 161, 3) := dk_182 0 161 (dk_at dksX3_ragged_3 2 rfl rfl)
theorem dX3_ragged_73 : decode cX3_ragged 73 = .ok (.aload_n 0, 1) := dk_42 (dk_at dksX3_ragged_3 5 rfl rfl)
theorem dX3_ragged_74 : decode cX3_ragged 74 = .ok (.iload_n 3, 1) := dk_29 (dk_at dksX3_ragged_3 6 rfl rfl)
theorem dX3_ragged_75 : decode cX3_ragged 75 = .ok (.invokevirtual 111, 3) := dk_182 0 111 (dk_at dksX3_ragged_3 7 rfl rfl)
theorem dX3_ragged_78 : decode cX3_ragged 78 = .ok (.iastore, 1) := dk_79 (dk_at dksX3_ragged_3 10 rfl rfl)
theorem dX3_ragged_79 : decode cX3_ragged 79 = .ok (.aload_n 0, 1) := dk_42 (dk_at dksX3_ragged_3 11 rfl rfl)
theorem dX3_ragged_80 : decode cX3_ragged 80 = .ok (.iconst 1, 1) := dk_4 (dk_at dksX3_ragged_3 12 rfl rfl)
theorem dX3_ragged_81 : decode cX3_ragged 81 = .ok (.invokevirtual 75, 3) := dk_182 0 75 (dk_at dksX3_ragged_3 13 rfl rfl)
theorem dX3_ragged_84 : decode cX3_ragged 84 = .ok (.ireturn, 1) := dk_172 (dk_at dksX3_ragged_3 16 rfl rfl)
abbrev cX3_wantsRow : ByteArray := prog_6_method_31_code
def yX3_wantsRow : MethodName := ⟨RX3, "wantsRow", "(II)I"⟩
def dkwX3_wantsRow_2 : List UInt8 := [184, 0, 101, 153, 0, 7, 3, 167, 0, 4, 6, 172]
abbrev dktX3_wantsRow_2 : List UInt8 := dkwX3_wantsRow_2 ++ []
def dkwX3_wantsRow_1 : List UInt8 := [167, 0, 34, 28, 133, 42, 180, 0, 26, 6, 27, 104, 46, 133, 42, 180, 0, 29, 6, 27, 104, 46, 133]
abbrev dktX3_wantsRow_1 : List UInt8 := dkwX3_wantsRow_1 ++ dktX3_wantsRow_2
def dkwX3_wantsRow_0 : List UInt8 := [42, 27, 182, 0, 131, 154, 0, 8, 16, 7, 167, 0, 48, 42, 180, 0, 20, 27, 46, 7, 159, 0, 7, 5]
abbrev dktX3_wantsRow_0 : List UInt8 := dkwX3_wantsRow_0 ++ dktX3_wantsRow_1
theorem dksX3_wantsRow_0 : cX3_wantsRow.data.toList.drop 0 = dktX3_wantsRow_0 := by decide +kernel
theorem dksX3_wantsRow_1 : cX3_wantsRow.data.toList.drop 24 = dktX3_wantsRow_1 := dk_seg dksX3_wantsRow_0 24 rfl rfl
theorem dksX3_wantsRow_2 : cX3_wantsRow.data.toList.drop 47 = dktX3_wantsRow_2 := dk_seg dksX3_wantsRow_1 23 rfl rfl
theorem dX3_wantsRow_0 : decode cX3_wantsRow 0 = .ok (.aload_n 0, 1) := dk_42 (dk_at dksX3_wantsRow_0 0 rfl rfl)
theorem dX3_wantsRow_1 : decode cX3_wantsRow 1 = .ok (.iload_n 1, 1) := dk_27 (dk_at dksX3_wantsRow_0 1 rfl rfl)
theorem dX3_wantsRow_2 : decode cX3_wantsRow 2 = .ok (.invokevirtual 131, 3) := dk_182 0 131 (dk_at dksX3_wantsRow_0 2 rfl rfl)
theorem dX3_wantsRow_5 : decode cX3_wantsRow 5 = .ok (.ifCond .ne 8, 3) := dk_154 0 8 (dk_at dksX3_wantsRow_0 5 rfl rfl)
theorem dX3_wantsRow_8 : decode cX3_wantsRow 8 = .ok (.bipush 7, 2) := dk_16 7 (dk_at dksX3_wantsRow_0 8 rfl rfl)
theorem dX3_wantsRow_10 : decode cX3_wantsRow 10 = .ok (.goto 48, 3) := dk_167 0 48 (dk_at dksX3_wantsRow_0 10 rfl rfl)
theorem dX3_wantsRow_13 : decode cX3_wantsRow 13 = .ok (.aload_n 0, 1) := dk_42 (dk_at dksX3_wantsRow_0 13 rfl rfl)
theorem dX3_wantsRow_14 : decode cX3_wantsRow 14 = .ok (.getfield 20, 3) := dk_180 0 20 (dk_at dksX3_wantsRow_0 14 rfl rfl)
theorem dX3_wantsRow_17 : decode cX3_wantsRow 17 = .ok (.iload_n 1, 1) := dk_27 (dk_at dksX3_wantsRow_0 17 rfl rfl)
theorem dX3_wantsRow_18 : decode cX3_wantsRow 18 = .ok (.iaload, 1) := dk_46 (dk_at dksX3_wantsRow_0 18 rfl rfl)
theorem dX3_wantsRow_19 : decode cX3_wantsRow 19 = .ok (.iconst 4, 1) := dk_7 (dk_at dksX3_wantsRow_0 19 rfl rfl)
theorem dX3_wantsRow_20 : decode cX3_wantsRow 20 = .ok (.if_icmp .eq 7, 3) := dk_159 0 7 (dk_at dksX3_wantsRow_0 20 rfl rfl)
theorem dX3_wantsRow_23 : decode cX3_wantsRow 23 = .ok (.iconst 2, 1) := dk_5 (dk_at dksX3_wantsRow_0 23 rfl rfl)
theorem dX3_wantsRow_24 : decode cX3_wantsRow 24 = .ok (.goto 34, 3) := dk_167 0 34 (dk_at dksX3_wantsRow_1 0 rfl rfl)
theorem dX3_wantsRow_27 : decode cX3_wantsRow 27 = .ok (.iload_n 2, 1) := dk_28 (dk_at dksX3_wantsRow_1 3 rfl rfl)
theorem dX3_wantsRow_28 : decode cX3_wantsRow 28 = .ok (.i2l, 1) := dk_133 (dk_at dksX3_wantsRow_1 4 rfl rfl)
theorem dX3_wantsRow_29 : decode cX3_wantsRow 29 = .ok (.aload_n 0, 1) := dk_42 (dk_at dksX3_wantsRow_1 5 rfl rfl)
theorem dX3_wantsRow_30 : decode cX3_wantsRow 30 = .ok (.getfield 26, 3) := dk_180 0 26 (dk_at dksX3_wantsRow_1 6 rfl rfl)
theorem dX3_wantsRow_33 : decode cX3_wantsRow 33 = .ok (.iconst 3, 1) := dk_6 (dk_at dksX3_wantsRow_1 9 rfl rfl)
theorem dX3_wantsRow_34 : decode cX3_wantsRow 34 = .ok (.iload_n 1, 1) := dk_27 (dk_at dksX3_wantsRow_1 10 rfl rfl)
theorem dX3_wantsRow_35 : decode cX3_wantsRow 35 = .ok (.imul, 1) := dk_104 (dk_at dksX3_wantsRow_1 11 rfl rfl)
theorem dX3_wantsRow_36 : decode cX3_wantsRow 36 = .ok (.iaload, 1) := dk_46 (dk_at dksX3_wantsRow_1 12 rfl rfl)
theorem dX3_wantsRow_37 : decode cX3_wantsRow 37 = .ok (.i2l, 1) := dk_133 (dk_at dksX3_wantsRow_1 13 rfl rfl)
theorem dX3_wantsRow_38 : decode cX3_wantsRow 38 = .ok (.aload_n 0, 1) := dk_42 (dk_at dksX3_wantsRow_1 14 rfl rfl)
theorem dX3_wantsRow_39 : decode cX3_wantsRow 39 = .ok (.getfield 29, 3) := dk_180 0 29 (dk_at dksX3_wantsRow_1 15 rfl rfl)
theorem dX3_wantsRow_42 : decode cX3_wantsRow 42 = .ok (.iconst 3, 1) := dk_6 (dk_at dksX3_wantsRow_1 18 rfl rfl)
theorem dX3_wantsRow_43 : decode cX3_wantsRow 43 = .ok (.iload_n 1, 1) := dk_27 (dk_at dksX3_wantsRow_1 19 rfl rfl)
theorem dX3_wantsRow_44 : decode cX3_wantsRow 44 = .ok (.imul, 1) := dk_104 (dk_at dksX3_wantsRow_1 20 rfl rfl)
theorem dX3_wantsRow_45 : decode cX3_wantsRow 45 = .ok (.iaload, 1) := dk_46 (dk_at dksX3_wantsRow_1 21 rfl rfl)
theorem dX3_wantsRow_46 : decode cX3_wantsRow 46 = .ok (.i2l, 1) := dk_133 (dk_at dksX3_wantsRow_1 22 rfl rfl)
theorem dX3_wantsRow_47 : decode cX3_wantsRow 47 = .ok (.invokestatic 101, 3) := dk_184 0 101 (dk_at dksX3_wantsRow_2 0 rfl rfl)
theorem dX3_wantsRow_50 : decode cX3_wantsRow 50 = .ok (.ifCond .eq 7, 3) := dk_153 0 7 (dk_at dksX3_wantsRow_2 3 rfl rfl)
theorem dX3_wantsRow_53 : decode cX3_wantsRow 53 = .ok (.iconst 0, 1) := dk_3 (dk_at dksX3_wantsRow_2 6 rfl rfl)
theorem dX3_wantsRow_54 : decode cX3_wantsRow 54 = .ok (.goto 4, 3) := dk_167 0 4 (dk_at dksX3_wantsRow_2 7 rfl rfl)
theorem dX3_wantsRow_57 : decode cX3_wantsRow 57 = .ok (.iconst 3, 1) := dk_6 (dk_at dksX3_wantsRow_2 10 rfl rfl)
theorem dX3_wantsRow_58 : decode cX3_wantsRow 58 = .ok (.ireturn, 1) := dk_172 (dk_at dksX3_wantsRow_2 11 rfl rfl)
abbrev cX3_slotOf : ByteArray := prog_6_method_32_code
def yX3_slotOf : MethodName := ⟨RX3, "slotOf", "(II)I"⟩
def dkwX3_slotOf_0 : List UInt8 := [42, 180, 0, 32, 27, 46, 28, 96, 42, 180, 0, 26, 6, 27, 104, 46, 100, 172]
abbrev dktX3_slotOf_0 : List UInt8 := dkwX3_slotOf_0 ++ []
theorem dksX3_slotOf_0 : cX3_slotOf.data.toList.drop 0 = dktX3_slotOf_0 := by decide +kernel
theorem dX3_slotOf_0 : decode cX3_slotOf 0 = .ok (.aload_n 0, 1) := dk_42 (dk_at dksX3_slotOf_0 0 rfl rfl)
theorem dX3_slotOf_1 : decode cX3_slotOf 1 = .ok (.getfield 32, 3) := dk_180 0 32 (dk_at dksX3_slotOf_0 1 rfl rfl)
theorem dX3_slotOf_4 : decode cX3_slotOf 4 = .ok (.iload_n 1, 1) := dk_27 (dk_at dksX3_slotOf_0 4 rfl rfl)
theorem dX3_slotOf_5 : decode cX3_slotOf 5 = .ok (.iaload, 1) := dk_46 (dk_at dksX3_slotOf_0 5 rfl rfl)
theorem dX3_slotOf_6 : decode cX3_slotOf 6 = .ok (.iload_n 2, 1) := dk_28 (dk_at dksX3_slotOf_0 6 rfl rfl)
theorem dX3_slotOf_7 : decode cX3_slotOf 7 = .ok (.iadd, 1) := dk_96 (dk_at dksX3_slotOf_0 7 rfl rfl)
theorem dX3_slotOf_8 : decode cX3_slotOf 8 = .ok (.aload_n 0, 1) := dk_42 (dk_at dksX3_slotOf_0 8 rfl rfl)
theorem dX3_slotOf_9 : decode cX3_slotOf 9 = .ok (.getfield 26, 3) := dk_180 0 26 (dk_at dksX3_slotOf_0 9 rfl rfl)
theorem dX3_slotOf_12 : decode cX3_slotOf 12 = .ok (.iconst 3, 1) := dk_6 (dk_at dksX3_slotOf_0 12 rfl rfl)
theorem dX3_slotOf_13 : decode cX3_slotOf 13 = .ok (.iload_n 1, 1) := dk_27 (dk_at dksX3_slotOf_0 13 rfl rfl)
theorem dX3_slotOf_14 : decode cX3_slotOf 14 = .ok (.imul, 1) := dk_104 (dk_at dksX3_slotOf_0 14 rfl rfl)
theorem dX3_slotOf_15 : decode cX3_slotOf 15 = .ok (.iaload, 1) := dk_46 (dk_at dksX3_slotOf_0 15 rfl rfl)
theorem dX3_slotOf_16 : decode cX3_slotOf 16 = .ok (.isub, 1) := dk_100 (dk_at dksX3_slotOf_0 16 rfl rfl)
theorem dX3_slotOf_17 : decode cX3_slotOf 17 = .ok (.ireturn, 1) := dk_172 (dk_at dksX3_slotOf_0 17 rfl rfl)
abbrev cX3_without : ByteArray := prog_6_method_34_code
def yX3_without : MethodName := ⟨RX3, "without", "(II)I"⟩
def dkwX3_without_1 : List UInt8 := [182, 0, 68, 172, 42, 180, 0, 50, 42, 27, 28, 182, 0, 161, 2, 79, 42, 4, 182, 0, 75, 172]
abbrev dktX3_without_1 : List UInt8 := dkwX3_without_1 ++ []
def dkwX3_without_0 : List UInt8 := [42, 27, 28, 182, 0, 158, 62, 29, 6, 160, 0, 9, 42, 3, 182, 0, 152, 172, 29, 153, 0, 9, 42, 29]
abbrev dktX3_without_0 : List UInt8 := dkwX3_without_0 ++ dktX3_without_1
theorem dksX3_without_0 : cX3_without.data.toList.drop 0 = dktX3_without_0 := by decide +kernel
theorem dksX3_without_1 : cX3_without.data.toList.drop 24 = dktX3_without_1 := dk_seg dksX3_without_0 24 rfl rfl
theorem dX3_without_0 : decode cX3_without 0 = .ok (.aload_n 0, 1) := dk_42 (dk_at dksX3_without_0 0 rfl rfl)
theorem dX3_without_1 : decode cX3_without 1 = .ok (.iload_n 1, 1) := dk_27 (dk_at dksX3_without_0 1 rfl rfl)
theorem dX3_without_2 : decode cX3_without 2 = .ok (.iload_n 2, 1) := dk_28 (dk_at dksX3_without_0 2 rfl rfl)
theorem dX3_without_3 : decode cX3_without 3 = .ok (.invokevirtual 158, 3) := dk_182 0 158 (dk_at dksX3_without_0 3 rfl rfl)
theorem dX3_without_6 : decode cX3_without 6 = .ok (.istore_n 3, 1) := dk_62 (dk_at dksX3_without_0 6 rfl rfl)
theorem dX3_without_7 : decode cX3_without 7 = .ok (.iload_n 3, 1) := dk_29 (dk_at dksX3_without_0 7 rfl rfl)
theorem dX3_without_8 : decode cX3_without 8 = .ok (.iconst 3, 1) := dk_6 (dk_at dksX3_without_0 8 rfl rfl)
theorem dX3_without_9 : decode cX3_without 9 = .ok (.if_icmp .ne 9, 3) := dk_160 0 9 (dk_at dksX3_without_0 9 rfl rfl)
theorem dX3_without_12 : decode cX3_without 12 = .ok (.aload_n 0, 1) := dk_42 (dk_at dksX3_without_0 12 rfl rfl)
theorem dX3_without_13 : decode cX3_without 13 = .ok (.iconst 0, 1) := dk_3 (dk_at dksX3_without_0 13 rfl rfl)
theorem dX3_without_14 : decode cX3_without 14 = .ok (.invokevirtual 152, 3) := dk_182 0 152 (dk_at dksX3_without_0 14 rfl rfl)
theorem dX3_without_17 : decode cX3_without 17 = .ok (.ireturn, 1) := dk_172 (dk_at dksX3_without_0 17 rfl rfl)
theorem dX3_without_18 : decode cX3_without 18 = .ok (.iload_n 3, 1) := dk_29 (dk_at dksX3_without_0 18 rfl rfl)
theorem dX3_without_19 : decode cX3_without 19 = .ok (.ifCond .eq 9, 3) := dk_153 0 9 (dk_at dksX3_without_0 19 rfl rfl)
theorem dX3_without_22 : decode cX3_without 22 = .ok (.aload_n 0, 1) := dk_42 (dk_at dksX3_without_0 22 rfl rfl)
theorem dX3_without_23 : decode cX3_without 23 = .ok (.iload_n 3, 1) := dk_29 (dk_at dksX3_without_0 23 rfl rfl)
theorem dX3_without_24 : decode cX3_without 24 = .ok (.invokevirtual 68, 3) := dk_182 0 68 (dk_at dksX3_without_1 0 rfl rfl)
theorem dX3_without_27 : decode cX3_without 27 = .ok (.ireturn, 1) := dk_172 (dk_at dksX3_without_1 3 rfl rfl)
theorem dX3_without_28 : decode cX3_without 28 = .ok (.aload_n 0, 1) := dk_42 (dk_at dksX3_without_1 4 rfl rfl)
theorem dX3_without_29 : decode cX3_without 29 = .ok (.getfield 50, 3) := dk_180 0 50 (dk_at dksX3_without_1 5 rfl rfl)
theorem dX3_without_32 : decode cX3_without 32 = .ok (.aload_n 0, 1) := dk_42 (dk_at dksX3_without_1 8 rfl rfl)
theorem dX3_without_33 : decode cX3_without 33 = .ok (.iload_n 1, 1) := dk_27 (dk_at dksX3_without_1 9 rfl rfl)
theorem dX3_without_34 : decode cX3_without 34 = .ok (.iload_n 2, 1) := dk_28 (dk_at dksX3_without_1 10 rfl rfl)
theorem dX3_without_35 : decode cX3_without 35 = .ok (.invokevirtual 161, 3) := dk_182 0 161 (dk_at dksX3_without_1 11 rfl rfl)
theorem dX3_without_38 : decode cX3_without 38 = .ok (.iconst (-1), 1) := dk_2 (dk_at dksX3_without_1 14 rfl rfl)
theorem dX3_without_39 : decode cX3_without 39 = .ok (.iastore, 1) := dk_79 (dk_at dksX3_without_1 15 rfl rfl)
theorem dX3_without_40 : decode cX3_without 40 = .ok (.aload_n 0, 1) := dk_42 (dk_at dksX3_without_1 16 rfl rfl)
theorem dX3_without_41 : decode cX3_without 41 = .ok (.iconst 1, 1) := dk_4 (dk_at dksX3_without_1 17 rfl rfl)
theorem dX3_without_42 : decode cX3_without 42 = .ok (.invokevirtual 75, 3) := dk_182 0 75 (dk_at dksX3_without_1 18 rfl rfl)
theorem dX3_without_45 : decode cX3_without 45 = .ok (.ireturn, 1) := dk_172 (dk_at dksX3_without_1 21 rfl rfl)
abbrev cX3_tie : ByteArray := prog_6_method_35_code
def yX3_tie : MethodName := ⟨RX3, "tie", "(IIII)I"⟩
def dkwX3_tie_4 : List UInt8 := [29, 21, 4, 182, 0, 161, 46, 79, 42, 4, 182, 0, 75, 172]
abbrev dktX3_tie_4 : List UInt8 := dkwX3_tie_4 ++ []
def dkwX3_tie_3 : List UInt8 := [153, 0, 9, 42, 4, 182, 0, 152, 172, 42, 180, 0, 50, 42, 27, 28, 182, 0, 161, 42, 180, 0, 50, 42]
abbrev dktX3_tie_3 : List UInt8 := dkwX3_tie_3 ++ dktX3_tie_4
def dkwX3_tie_2 : List UInt8 := [172, 42, 27, 28, 182, 0, 158, 153, 0, 9, 42, 3, 182, 0, 152, 172, 42, 29, 21, 4, 182, 0, 158]
abbrev dktX3_tie_2 : List UInt8 := dkwX3_tie_2 ++ dktX3_tie_3
def dkwX3_tie_1 : List UInt8 := [180, 0, 20, 27, 46, 7, 160, 0, 13, 42, 180, 0, 20, 29, 46, 7, 159, 0, 9, 42, 5, 182, 0, 68]
abbrev dktX3_tie_1 : List UInt8 := dkwX3_tie_1 ++ dktX3_tie_2
def dkwX3_tie_0 : List UInt8 := [42, 27, 182, 0, 131, 153, 0, 11, 42, 29, 182, 0, 131, 154, 0, 10, 42, 16, 7, 182, 0, 68, 172, 42]
abbrev dktX3_tie_0 : List UInt8 := dkwX3_tie_0 ++ dktX3_tie_1
theorem dksX3_tie_0 : cX3_tie.data.toList.drop 0 = dktX3_tie_0 := by decide +kernel
theorem dksX3_tie_1 : cX3_tie.data.toList.drop 24 = dktX3_tie_1 := dk_seg dksX3_tie_0 24 rfl rfl
theorem dksX3_tie_2 : cX3_tie.data.toList.drop 48 = dktX3_tie_2 := dk_seg dksX3_tie_1 24 rfl rfl
theorem dksX3_tie_3 : cX3_tie.data.toList.drop 71 = dktX3_tie_3 := dk_seg dksX3_tie_2 23 rfl rfl
theorem dksX3_tie_4 : cX3_tie.data.toList.drop 95 = dktX3_tie_4 := dk_seg dksX3_tie_3 24 rfl rfl
theorem dX3_tie_0 : decode cX3_tie 0 = .ok (.aload_n 0, 1) := dk_42 (dk_at dksX3_tie_0 0 rfl rfl)
theorem dX3_tie_1 : decode cX3_tie 1 = .ok (.iload_n 1, 1) := dk_27 (dk_at dksX3_tie_0 1 rfl rfl)
theorem dX3_tie_2 : decode cX3_tie 2 = .ok (.invokevirtual 131, 3) := dk_182 0 131 (dk_at dksX3_tie_0 2 rfl rfl)
theorem dX3_tie_5 : decode cX3_tie 5 = .ok (.ifCond .eq 11, 3) := dk_153 0 11 (dk_at dksX3_tie_0 5 rfl rfl)
theorem dX3_tie_8 : decode cX3_tie 8 = .ok (.aload_n 0, 1) := dk_42 (dk_at dksX3_tie_0 8 rfl rfl)
theorem dX3_tie_9 : decode cX3_tie 9 = .ok (.iload_n 3, 1) := dk_29 (dk_at dksX3_tie_0 9 rfl rfl)
theorem dX3_tie_10 : decode cX3_tie 10 = .ok (.invokevirtual 131, 3) := dk_182 0 131 (dk_at dksX3_tie_0 10 rfl rfl)
theorem dX3_tie_13 : decode cX3_tie 13 = .ok (.ifCond .ne 10, 3) := dk_154 0 10 (dk_at dksX3_tie_0 13 rfl rfl)
theorem dX3_tie_16 : decode cX3_tie 16 = .ok (.aload_n 0, 1) := dk_42 (dk_at dksX3_tie_0 16 rfl rfl)
theorem dX3_tie_17 : decode cX3_tie 17 = .ok (.bipush 7, 2) := dk_16 7 (dk_at dksX3_tie_0 17 rfl rfl)
theorem dX3_tie_19 : decode cX3_tie 19 = .ok (.invokevirtual 68, 3) := dk_182 0 68 (dk_at dksX3_tie_0 19 rfl rfl)
theorem dX3_tie_22 : decode cX3_tie 22 = .ok (.ireturn, 1) := dk_172 (dk_at dksX3_tie_0 22 rfl rfl)
theorem dX3_tie_23 : decode cX3_tie 23 = .ok (.aload_n 0, 1) := dk_42 (dk_at dksX3_tie_0 23 rfl rfl)
theorem dX3_tie_24 : decode cX3_tie 24 = .ok (.getfield 20, 3) := dk_180 0 20 (dk_at dksX3_tie_1 0 rfl rfl)
theorem dX3_tie_27 : decode cX3_tie 27 = .ok (.iload_n 1, 1) := dk_27 (dk_at dksX3_tie_1 3 rfl rfl)
theorem dX3_tie_28 : decode cX3_tie 28 = .ok (.iaload, 1) := dk_46 (dk_at dksX3_tie_1 4 rfl rfl)
theorem dX3_tie_29 : decode cX3_tie 29 = .ok (.iconst 4, 1) := dk_7 (dk_at dksX3_tie_1 5 rfl rfl)
theorem dX3_tie_30 : decode cX3_tie 30 = .ok (.if_icmp .ne 13, 3) := dk_160 0 13 (dk_at dksX3_tie_1 6 rfl rfl)
theorem dX3_tie_33 : decode cX3_tie 33 = .ok (.aload_n 0, 1) := dk_42 (dk_at dksX3_tie_1 9 rfl rfl)
theorem dX3_tie_34 : decode cX3_tie 34 = .ok (.getfield 20, 3) := dk_180 0 20 (dk_at dksX3_tie_1 10 rfl rfl)
theorem dX3_tie_37 : decode cX3_tie 37 = .ok (.iload_n 3, 1) := dk_29 (dk_at dksX3_tie_1 13 rfl rfl)
theorem dX3_tie_38 : decode cX3_tie 38 = .ok (.iaload, 1) := dk_46 (dk_at dksX3_tie_1 14 rfl rfl)
theorem dX3_tie_39 : decode cX3_tie 39 = .ok (.iconst 4, 1) := dk_7 (dk_at dksX3_tie_1 15 rfl rfl)
theorem dX3_tie_40 : decode cX3_tie 40 = .ok (.if_icmp .eq 9, 3) := dk_159 0 9 (dk_at dksX3_tie_1 16 rfl rfl)
theorem dX3_tie_43 : decode cX3_tie 43 = .ok (.aload_n 0, 1) := dk_42 (dk_at dksX3_tie_1 19 rfl rfl)
theorem dX3_tie_44 : decode cX3_tie 44 = .ok (.iconst 2, 1) := dk_5 (dk_at dksX3_tie_1 20 rfl rfl)
theorem dX3_tie_45 : decode cX3_tie 45 = .ok (.invokevirtual 68, 3) := dk_182 0 68 (dk_at dksX3_tie_1 21 rfl rfl)
theorem dX3_tie_48 : decode cX3_tie 48 = .ok (.ireturn, 1) := dk_172 (dk_at dksX3_tie_2 0 rfl rfl)
theorem dX3_tie_49 : decode cX3_tie 49 = .ok (.aload_n 0, 1) := dk_42 (dk_at dksX3_tie_2 1 rfl rfl)
theorem dX3_tie_50 : decode cX3_tie 50 = .ok (.iload_n 1, 1) := dk_27 (dk_at dksX3_tie_2 2 rfl rfl)
theorem dX3_tie_51 : decode cX3_tie 51 = .ok (.iload_n 2, 1) := dk_28 (dk_at dksX3_tie_2 3 rfl rfl)
theorem dX3_tie_52 : decode cX3_tie 52 = .ok (.invokevirtual 158, 3) := dk_182 0 158 (dk_at dksX3_tie_2 4 rfl rfl)
theorem dX3_tie_55 : decode cX3_tie 55 = .ok (.ifCond .eq 9, 3) := dk_153 0 9 (dk_at dksX3_tie_2 7 rfl rfl)
theorem dX3_tie_58 : decode cX3_tie 58 = .ok (.aload_n 0, 1) := dk_42 (dk_at dksX3_tie_2 10 rfl rfl)
theorem dX3_tie_59 : decode cX3_tie 59 = .ok (.iconst 0, 1) := dk_3 (dk_at dksX3_tie_2 11 rfl rfl)
theorem dX3_tie_60 : decode cX3_tie 60 = .ok (.invokevirtual 152, 3) := dk_182 0 152 (dk_at dksX3_tie_2 12 rfl rfl)
theorem dX3_tie_63 : decode cX3_tie 63 = .ok (.ireturn, 1) := dk_172 (dk_at dksX3_tie_2 15 rfl rfl)
theorem dX3_tie_64 : decode cX3_tie 64 = .ok (.aload_n 0, 1) := dk_42 (dk_at dksX3_tie_2 16 rfl rfl)
theorem dX3_tie_65 : decode cX3_tie 65 = .ok (.iload_n 3, 1) := dk_29 (dk_at dksX3_tie_2 17 rfl rfl)
theorem dX3_tie_66 : decode cX3_tie 66 = .ok (.iload 4, 2) := dk_21 4 (dk_at dksX3_tie_2 18 rfl rfl)
theorem dX3_tie_68 : decode cX3_tie 68 = .ok (.invokevirtual 158, 3) := dk_182 0 158 (dk_at dksX3_tie_2 20 rfl rfl)
theorem dX3_tie_71 : decode cX3_tie 71 = .ok (.ifCond .eq 9, 3) := dk_153 0 9 (dk_at dksX3_tie_3 0 rfl rfl)
theorem dX3_tie_74 : decode cX3_tie 74 = .ok (.aload_n 0, 1) := dk_42 (dk_at dksX3_tie_3 3 rfl rfl)
theorem dX3_tie_75 : decode cX3_tie 75 = .ok (.iconst 1, 1) := dk_4 (dk_at dksX3_tie_3 4 rfl rfl)
theorem dX3_tie_76 : decode cX3_tie 76 = .ok (.invokevirtual 152, 3) := dk_182 0 152 (dk_at dksX3_tie_3 5 rfl rfl)
theorem dX3_tie_79 : decode cX3_tie 79 = .ok (.ireturn, 1) := dk_172 (dk_at dksX3_tie_3 8 rfl rfl)
theorem dX3_tie_80 : decode cX3_tie 80 = .ok (.aload_n 0, 1) := dk_42 (dk_at dksX3_tie_3 9 rfl rfl)
theorem dX3_tie_81 : decode cX3_tie 81 = .ok (.getfield 50, 3) := dk_180 0 50 (dk_at dksX3_tie_3 10 rfl rfl)
theorem dX3_tie_84 : decode cX3_tie 84 = .ok (.aload_n 0, 1) := dk_42 (dk_at dksX3_tie_3 13 rfl rfl)
theorem dX3_tie_85 : decode cX3_tie 85 = .ok (.iload_n 1, 1) := dk_27 (dk_at dksX3_tie_3 14 rfl rfl)
theorem dX3_tie_86 : decode cX3_tie 86 = .ok (.iload_n 2, 1) := dk_28 (dk_at dksX3_tie_3 15 rfl rfl)
theorem dX3_tie_87 : decode cX3_tie 87 = .ok (.invokevirtual 161, 3) := dk_182 0 161 (dk_at dksX3_tie_3 16 rfl rfl)
theorem dX3_tie_90 : decode cX3_tie 90 = .ok (.aload_n 0, 1) := dk_42 (dk_at dksX3_tie_3 19 rfl rfl)
theorem dX3_tie_91 : decode cX3_tie 91 = .ok (.getfield 50, 3) := dk_180 0 50 (dk_at dksX3_tie_3 20 rfl rfl)
theorem dX3_tie_94 : decode cX3_tie 94 = .ok (.aload_n 0, 1) := dk_42 (dk_at dksX3_tie_3 23 rfl rfl)
theorem dX3_tie_95 : decode cX3_tie 95 = .ok (.iload_n 3, 1) := dk_29 (dk_at dksX3_tie_4 0 rfl rfl)
theorem dX3_tie_96 : decode cX3_tie 96 = .ok (.iload 4, 2) := dk_21 4 (dk_at dksX3_tie_4 1 rfl rfl)
theorem dX3_tie_98 : decode cX3_tie 98 = .ok (.invokevirtual 161, 3) := dk_182 0 161 (dk_at dksX3_tie_4 3 rfl rfl)
theorem dX3_tie_101 : decode cX3_tie 101 = .ok (.iaload, 1) := dk_46 (dk_at dksX3_tie_4 6 rfl rfl)
theorem dX3_tie_102 : decode cX3_tie 102 = .ok (.iastore, 1) := dk_79 (dk_at dksX3_tie_4 7 rfl rfl)
theorem dX3_tie_103 : decode cX3_tie 103 = .ok (.aload_n 0, 1) := dk_42 (dk_at dksX3_tie_4 8 rfl rfl)
theorem dX3_tie_104 : decode cX3_tie 104 = .ok (.iconst 1, 1) := dk_4 (dk_at dksX3_tie_4 9 rfl rfl)
theorem dX3_tie_105 : decode cX3_tie 105 = .ok (.invokevirtual 75, 3) := dk_182 0 75 (dk_at dksX3_tie_4 10 rfl rfl)
theorem dX3_tie_108 : decode cX3_tie 108 = .ok (.ireturn, 1) := dk_172 (dk_at dksX3_tie_4 13 rfl rfl)
abbrev cX3_get : ByteArray := prog_6_method_37_code
def yX3_get : MethodName := ⟨RX3, "get", "(IIII)J"⟩
def dkwX3_get_2 : List UInt8 := [181, 0, 65, 42, 180, 0, 42, 21, 5, 47, 173]
abbrev dktX3_get_2 : List UInt8 := dkwX3_get_2 ++ []
def dkwX3_get_1 : List UInt8 := [46, 6, 160, 0, 20, 42, 180, 0, 46, 21, 5, 51, 154, 0, 10, 42, 4, 182, 0, 68, 133, 173, 42, 3]
abbrev dktX3_get_1 : List UInt8 := dkwX3_get_1 ++ dktX3_get_2
def dkwX3_get_0 : List UInt8 := [42, 27, 28, 29, 21, 4, 182, 0, 164, 54, 5, 21, 5, 2, 160, 0, 5, 9, 173, 42, 180, 0, 20, 27]
abbrev dktX3_get_0 : List UInt8 := dkwX3_get_0 ++ dktX3_get_1
theorem dksX3_get_0 : cX3_get.data.toList.drop 0 = dktX3_get_0 := by decide +kernel
theorem dksX3_get_1 : cX3_get.data.toList.drop 24 = dktX3_get_1 := dk_seg dksX3_get_0 24 rfl rfl
theorem dksX3_get_2 : cX3_get.data.toList.drop 48 = dktX3_get_2 := dk_seg dksX3_get_1 24 rfl rfl
theorem dX3_get_0 : decode cX3_get 0 = .ok (.aload_n 0, 1) := dk_42 (dk_at dksX3_get_0 0 rfl rfl)
theorem dX3_get_1 : decode cX3_get 1 = .ok (.iload_n 1, 1) := dk_27 (dk_at dksX3_get_0 1 rfl rfl)
theorem dX3_get_2 : decode cX3_get 2 = .ok (.iload_n 2, 1) := dk_28 (dk_at dksX3_get_0 2 rfl rfl)
theorem dX3_get_3 : decode cX3_get 3 = .ok (.iload_n 3, 1) := dk_29 (dk_at dksX3_get_0 3 rfl rfl)
theorem dX3_get_4 : decode cX3_get 4 = .ok (.iload 4, 2) := dk_21 4 (dk_at dksX3_get_0 4 rfl rfl)
theorem dX3_get_6 : decode cX3_get 6 = .ok (.invokevirtual 164, 3) := dk_182 0 164 (dk_at dksX3_get_0 6 rfl rfl)
theorem dX3_get_9 : decode cX3_get 9 = .ok (.istore 5, 2) := dk_54 5 (dk_at dksX3_get_0 9 rfl rfl)
theorem dX3_get_11 : decode cX3_get 11 = .ok (.iload 5, 2) := dk_21 5 (dk_at dksX3_get_0 11 rfl rfl)
theorem dX3_get_13 : decode cX3_get 13 = .ok (.iconst (-1), 1) := dk_2 (dk_at dksX3_get_0 13 rfl rfl)
theorem dX3_get_14 : decode cX3_get 14 = .ok (.if_icmp .ne 5, 3) := dk_160 0 5 (dk_at dksX3_get_0 14 rfl rfl)
theorem dX3_get_17 : decode cX3_get 17 = .ok (.lconst 0, 1) := dk_9 (dk_at dksX3_get_0 17 rfl rfl)
theorem dX3_get_18 : decode cX3_get 18 = .ok (.lreturn, 1) := dk_173 (dk_at dksX3_get_0 18 rfl rfl)
theorem dX3_get_19 : decode cX3_get 19 = .ok (.aload_n 0, 1) := dk_42 (dk_at dksX3_get_0 19 rfl rfl)
theorem dX3_get_20 : decode cX3_get 20 = .ok (.getfield 20, 3) := dk_180 0 20 (dk_at dksX3_get_0 20 rfl rfl)
theorem dX3_get_23 : decode cX3_get 23 = .ok (.iload_n 1, 1) := dk_27 (dk_at dksX3_get_0 23 rfl rfl)
theorem dX3_get_24 : decode cX3_get 24 = .ok (.iaload, 1) := dk_46 (dk_at dksX3_get_1 0 rfl rfl)
theorem dX3_get_25 : decode cX3_get 25 = .ok (.iconst 3, 1) := dk_6 (dk_at dksX3_get_1 1 rfl rfl)
theorem dX3_get_26 : decode cX3_get 26 = .ok (.if_icmp .ne 20, 3) := dk_160 0 20 (dk_at dksX3_get_1 2 rfl rfl)
theorem dX3_get_29 : decode cX3_get 29 = .ok (.aload_n 0, 1) := dk_42 (dk_at dksX3_get_1 5 rfl rfl)
theorem dX3_get_30 : decode cX3_get 30 = .ok (.getfield 46, 3) := dk_180 0 46 (dk_at dksX3_get_1 6 rfl rfl)
theorem dX3_get_33 : decode cX3_get 33 = .ok (.iload 5, 2) := dk_21 5 (dk_at dksX3_get_1 9 rfl rfl)
theorem dX3_get_35 : decode cX3_get 35 = .ok (.baload, 1) := dk_51 (dk_at dksX3_get_1 11 rfl rfl)
theorem dX3_get_36 : decode cX3_get 36 = .ok (.ifCond .ne 10, 3) := dk_154 0 10 (dk_at dksX3_get_1 12 rfl rfl)
theorem dX3_get_39 : decode cX3_get 39 = .ok (.aload_n 0, 1) := dk_42 (dk_at dksX3_get_1 15 rfl rfl)
theorem dX3_get_40 : decode cX3_get 40 = .ok (.iconst 1, 1) := dk_4 (dk_at dksX3_get_1 16 rfl rfl)
theorem dX3_get_41 : decode cX3_get 41 = .ok (.invokevirtual 68, 3) := dk_182 0 68 (dk_at dksX3_get_1 17 rfl rfl)
theorem dX3_get_44 : decode cX3_get 44 = .ok (.i2l, 1) := dk_133 (dk_at dksX3_get_1 20 rfl rfl)
theorem dX3_get_45 : decode cX3_get 45 = .ok (.lreturn, 1) := dk_173 (dk_at dksX3_get_1 21 rfl rfl)
theorem dX3_get_46 : decode cX3_get 46 = .ok (.aload_n 0, 1) := dk_42 (dk_at dksX3_get_1 22 rfl rfl)
theorem dX3_get_47 : decode cX3_get 47 = .ok (.iconst 0, 1) := dk_3 (dk_at dksX3_get_1 23 rfl rfl)
theorem dX3_get_48 : decode cX3_get 48 = .ok (.putfield 65, 3) := dk_181 0 65 (dk_at dksX3_get_2 0 rfl rfl)
theorem dX3_get_51 : decode cX3_get 51 = .ok (.aload_n 0, 1) := dk_42 (dk_at dksX3_get_2 3 rfl rfl)
theorem dX3_get_52 : decode cX3_get 52 = .ok (.getfield 42, 3) := dk_180 0 42 (dk_at dksX3_get_2 4 rfl rfl)
theorem dX3_get_55 : decode cX3_get 55 = .ok (.iload 5, 2) := dk_21 5 (dk_at dksX3_get_2 7 rfl rfl)
theorem dX3_get_57 : decode cX3_get 57 = .ok (.laload, 1) := dk_47 (dk_at dksX3_get_2 9 rfl rfl)
theorem dX3_get_58 : decode cX3_get 58 = .ok (.lreturn, 1) := dk_173 (dk_at dksX3_get_2 10 rfl rfl)
abbrev cX3_find : ByteArray := prog_6_method_36_code
def yX3_find : MethodName := ⟨RX3, "find", "(IIII)I"⟩
def dkwX3_find_7 : List UInt8 := [22, 6, 136, 96, 172]
abbrev dktX3_find_7 : List UInt8 := dkwX3_find_7 ++ []
def dkwX3_find_6 : List UInt8 := [100, 133, 184, 0, 101, 154, 0, 12, 42, 4, 182, 0, 152, 54, 8, 2, 172, 42, 180, 0, 35, 21, 5, 46]
abbrev dktX3_find_6 : List UInt8 := dkwX3_find_6 ++ dktX3_find_7
def dkwX3_find_5 : List UInt8 := [180, 0, 26, 6, 27, 104, 4, 96, 46, 133, 101, 55, 6, 22, 6, 9, 42, 180, 0, 38, 21, 5, 46, 4]
abbrev dktX3_find_5 : List UInt8 := dkwX3_find_5 ++ dktX3_find_6
def dkwX3_find_4 : List UInt8 := [27, 28, 182, 0, 161, 46, 54, 5, 21, 5, 2, 160, 0, 10, 42, 4, 181, 0, 65, 2, 172, 29, 133, 42]
abbrev dktX3_find_4 : List UInt8 := dkwX3_find_4 ++ dktX3_find_5
def dkwX3_find_3 : List UInt8 := [172, 42, 27, 28, 182, 0, 158, 153, 0, 12, 42, 3, 182, 0, 152, 54, 5, 2, 172, 42, 180, 0, 50, 42]
abbrev dktX3_find_3 : List UInt8 := dkwX3_find_3 ++ dktX3_find_4
def dkwX3_find_2 : List UInt8 := [180, 0, 142, 182, 0, 152, 54, 6, 2, 172, 42, 180, 0, 35, 42, 180, 0, 32, 27, 46, 46, 21, 5, 96]
abbrev dktX3_find_2 : List UInt8 := dkwX3_find_2 ++ dktX3_find_3
def dkwX3_find_1 : List UInt8 := [159, 0, 47, 42, 27, 28, 29, 21, 4, 182, 0, 148, 54, 5, 21, 5, 2, 160, 0, 15, 42, 42]
abbrev dktX3_find_1 : List UInt8 := dkwX3_find_1 ++ dktX3_find_2
def dkwX3_find_0 : List UInt8 := [42, 27, 182, 0, 131, 154, 0, 11, 42, 16, 7, 181, 0, 65, 2, 172, 42, 180, 0, 20, 27, 46, 7]
abbrev dktX3_find_0 : List UInt8 := dkwX3_find_0 ++ dktX3_find_1
theorem dksX3_find_0 : cX3_find.data.toList.drop 0 = dktX3_find_0 := by decide +kernel
theorem dksX3_find_1 : cX3_find.data.toList.drop 23 = dktX3_find_1 := dk_seg dksX3_find_0 23 rfl rfl
theorem dksX3_find_2 : cX3_find.data.toList.drop 45 = dktX3_find_2 := dk_seg dksX3_find_1 22 rfl rfl
theorem dksX3_find_3 : cX3_find.data.toList.drop 69 = dktX3_find_3 := dk_seg dksX3_find_2 24 rfl rfl
theorem dksX3_find_4 : cX3_find.data.toList.drop 93 = dktX3_find_4 := dk_seg dksX3_find_3 24 rfl rfl
theorem dksX3_find_5 : cX3_find.data.toList.drop 117 = dktX3_find_5 := dk_seg dksX3_find_4 24 rfl rfl
theorem dksX3_find_6 : cX3_find.data.toList.drop 141 = dktX3_find_6 := dk_seg dksX3_find_5 24 rfl rfl
theorem dksX3_find_7 : cX3_find.data.toList.drop 165 = dktX3_find_7 := dk_seg dksX3_find_6 24 rfl rfl
theorem dX3_find_0 : decode cX3_find 0 = .ok (.aload_n 0, 1) := dk_42 (dk_at dksX3_find_0 0 rfl rfl)
theorem dX3_find_1 : decode cX3_find 1 = .ok (.iload_n 1, 1) := dk_27 (dk_at dksX3_find_0 1 rfl rfl)
theorem dX3_find_2 : decode cX3_find 2 = .ok (.invokevirtual 131, 3) := dk_182 0 131 (dk_at dksX3_find_0 2 rfl rfl)
theorem dX3_find_5 : decode cX3_find 5 = .ok (.ifCond .ne 11, 3) := dk_154 0 11 (dk_at dksX3_find_0 5 rfl rfl)
theorem dX3_find_8 : decode cX3_find 8 = .ok (.aload_n 0, 1) := dk_42 (dk_at dksX3_find_0 8 rfl rfl)
theorem dX3_find_9 : decode cX3_find 9 = .ok (.bipush 7, 2) := dk_16 7 (dk_at dksX3_find_0 9 rfl rfl)
theorem dX3_find_11 : decode cX3_find 11 = .ok (.putfield 65, 3) := dk_181 0 65 (dk_at dksX3_find_0 11 rfl rfl)
theorem dX3_find_14 : decode cX3_find 14 = .ok (.iconst (-1), 1) := dk_2 (dk_at dksX3_find_0 14 rfl rfl)
theorem dX3_find_15 : decode cX3_find 15 = .ok (.ireturn, 1) := dk_172 (dk_at dksX3_find_0 15 rfl rfl)
theorem dX3_find_16 : decode cX3_find 16 = .ok (.aload_n 0, 1) := dk_42 (dk_at dksX3_find_0 16 rfl rfl)
theorem dX3_find_17 : decode cX3_find 17 = .ok (.getfield 20, 3) := dk_180 0 20 (dk_at dksX3_find_0 17 rfl rfl)
theorem dX3_find_20 : decode cX3_find 20 = .ok (.iload_n 1, 1) := dk_27 (dk_at dksX3_find_0 20 rfl rfl)
theorem dX3_find_21 : decode cX3_find 21 = .ok (.iaload, 1) := dk_46 (dk_at dksX3_find_0 21 rfl rfl)
theorem dX3_find_22 : decode cX3_find 22 = .ok (.iconst 4, 1) := dk_7 (dk_at dksX3_find_0 22 rfl rfl)
theorem dX3_find_23 : decode cX3_find 23 = .ok (.if_icmp .eq 47, 3) := dk_159 0 47 (dk_at dksX3_find_1 0 rfl rfl)
theorem dX3_find_26 : decode cX3_find 26 = .ok (.aload_n 0, 1) := dk_42 (dk_at dksX3_find_1 3 rfl rfl)
theorem dX3_find_27 : decode cX3_find 27 = .ok (.iload_n 1, 1) := dk_27 (dk_at dksX3_find_1 4 rfl rfl)
theorem dX3_find_28 : decode cX3_find 28 = .ok (.iload_n 2, 1) := dk_28 (dk_at dksX3_find_1 5 rfl rfl)
theorem dX3_find_29 : decode cX3_find 29 = .ok (.iload_n 3, 1) := dk_29 (dk_at dksX3_find_1 6 rfl rfl)
theorem dX3_find_30 : decode cX3_find 30 = .ok (.iload 4, 2) := dk_21 4 (dk_at dksX3_find_1 7 rfl rfl)
theorem dX3_find_32 : decode cX3_find 32 = .ok (.invokevirtual 148, 3) := dk_182 0 148 (dk_at dksX3_find_1 9 rfl rfl)
theorem dX3_find_35 : decode cX3_find 35 = .ok (.istore 5, 2) := dk_54 5 (dk_at dksX3_find_1 12 rfl rfl)
theorem dX3_find_37 : decode cX3_find 37 = .ok (.iload 5, 2) := dk_21 5 (dk_at dksX3_find_1 14 rfl rfl)
theorem dX3_find_39 : decode cX3_find 39 = .ok (.iconst (-1), 1) := dk_2 (dk_at dksX3_find_1 16 rfl rfl)
theorem dX3_find_40 : decode cX3_find 40 = .ok (.if_icmp .ne 15, 3) := dk_160 0 15 (dk_at dksX3_find_1 17 rfl rfl)
theorem dX3_find_43 : decode cX3_find 43 = .ok (.aload_n 0, 1) := dk_42 (dk_at dksX3_find_1 20 rfl rfl)
theorem dX3_find_44 : decode cX3_find 44 = .ok (.aload_n 0, 1) := dk_42 (dk_at dksX3_find_1 21 rfl rfl)
theorem dX3_find_45 : decode cX3_find 45 = .ok (.getfield 142, 3) := dk_180 0 142 (dk_at dksX3_find_2 0 rfl rfl)
theorem dX3_find_48 : decode cX3_find 48 = .ok (.invokevirtual 152, 3) := dk_182 0 152 (dk_at dksX3_find_2 3 rfl rfl)
theorem dX3_find_51 : decode cX3_find 51 = .ok (.istore 6, 2) := dk_54 6 (dk_at dksX3_find_2 6 rfl rfl)
theorem dX3_find_53 : decode cX3_find 53 = .ok (.iconst (-1), 1) := dk_2 (dk_at dksX3_find_2 8 rfl rfl)
theorem dX3_find_54 : decode cX3_find 54 = .ok (.ireturn, 1) := dk_172 (dk_at dksX3_find_2 9 rfl rfl)
theorem dX3_find_55 : decode cX3_find 55 = .ok (.aload_n 0, 1) := dk_42 (dk_at dksX3_find_2 10 rfl rfl)
theorem dX3_find_56 : decode cX3_find 56 = .ok (.getfield 35, 3) := dk_180 0 35 (dk_at dksX3_find_2 11 rfl rfl)
theorem dX3_find_59 : decode cX3_find 59 = .ok (.aload_n 0, 1) := dk_42 (dk_at dksX3_find_2 14 rfl rfl)
theorem dX3_find_60 : decode cX3_find 60 = .ok (.getfield 32, 3) := dk_180 0 32 (dk_at dksX3_find_2 15 rfl rfl)
theorem dX3_find_63 : decode cX3_find 63 = .ok (.iload_n 1, 1) := dk_27 (dk_at dksX3_find_2 18 rfl rfl)
theorem dX3_find_64 : decode cX3_find 64 = .ok (.iaload, 1) := dk_46 (dk_at dksX3_find_2 19 rfl rfl)
theorem dX3_find_65 : decode cX3_find 65 = .ok (.iaload, 1) := dk_46 (dk_at dksX3_find_2 20 rfl rfl)
theorem dX3_find_66 : decode cX3_find 66 = .ok (.iload 5, 2) := dk_21 5 (dk_at dksX3_find_2 21 rfl rfl)
theorem dX3_find_68 : decode cX3_find 68 = .ok (.iadd, 1) := dk_96 (dk_at dksX3_find_2 23 rfl rfl)
theorem dX3_find_69 : decode cX3_find 69 = .ok (.ireturn, 1) := dk_172 (dk_at dksX3_find_3 0 rfl rfl)
theorem dX3_find_70 : decode cX3_find 70 = .ok (.aload_n 0, 1) := dk_42 (dk_at dksX3_find_3 1 rfl rfl)
theorem dX3_find_71 : decode cX3_find 71 = .ok (.iload_n 1, 1) := dk_27 (dk_at dksX3_find_3 2 rfl rfl)
theorem dX3_find_72 : decode cX3_find 72 = .ok (.iload_n 2, 1) := dk_28 (dk_at dksX3_find_3 3 rfl rfl)
theorem dX3_find_73 : decode cX3_find 73 = .ok (.invokevirtual 158, 3) := dk_182 0 158 (dk_at dksX3_find_3 4 rfl rfl)
theorem dX3_find_76 : decode cX3_find 76 = .ok (.ifCond .eq 12, 3) := dk_153 0 12 (dk_at dksX3_find_3 7 rfl rfl)
theorem dX3_find_79 : decode cX3_find 79 = .ok (.aload_n 0, 1) := dk_42 (dk_at dksX3_find_3 10 rfl rfl)
theorem dX3_find_80 : decode cX3_find 80 = .ok (.iconst 0, 1) := dk_3 (dk_at dksX3_find_3 11 rfl rfl)
theorem dX3_find_81 : decode cX3_find 81 = .ok (.invokevirtual 152, 3) := dk_182 0 152 (dk_at dksX3_find_3 12 rfl rfl)
theorem dX3_find_84 : decode cX3_find 84 = .ok (.istore 5, 2) := dk_54 5 (dk_at dksX3_find_3 15 rfl rfl)
theorem dX3_find_86 : decode cX3_find 86 = .ok (.iconst (-1), 1) := dk_2 (dk_at dksX3_find_3 17 rfl rfl)
theorem dX3_find_87 : decode cX3_find 87 = .ok (.ireturn, 1) := dk_172 (dk_at dksX3_find_3 18 rfl rfl)
theorem dX3_find_88 : decode cX3_find 88 = .ok (.aload_n 0, 1) := dk_42 (dk_at dksX3_find_3 19 rfl rfl)
theorem dX3_find_89 : decode cX3_find 89 = .ok (.getfield 50, 3) := dk_180 0 50 (dk_at dksX3_find_3 20 rfl rfl)
theorem dX3_find_92 : decode cX3_find 92 = .ok (.aload_n 0, 1) := dk_42 (dk_at dksX3_find_3 23 rfl rfl)
theorem dX3_find_93 : decode cX3_find 93 = .ok (.iload_n 1, 1) := dk_27 (dk_at dksX3_find_4 0 rfl rfl)
theorem dX3_find_94 : decode cX3_find 94 = .ok (.iload_n 2, 1) := dk_28 (dk_at dksX3_find_4 1 rfl rfl)
theorem dX3_find_95 : decode cX3_find 95 = .ok (.invokevirtual 161, 3) := dk_182 0 161 (dk_at dksX3_find_4 2 rfl rfl)
theorem dX3_find_98 : decode cX3_find 98 = .ok (.iaload, 1) := dk_46 (dk_at dksX3_find_4 5 rfl rfl)
theorem dX3_find_99 : decode cX3_find 99 = .ok (.istore 5, 2) := dk_54 5 (dk_at dksX3_find_4 6 rfl rfl)
theorem dX3_find_101 : decode cX3_find 101 = .ok (.iload 5, 2) := dk_21 5 (dk_at dksX3_find_4 8 rfl rfl)
theorem dX3_find_103 : decode cX3_find 103 = .ok (.iconst (-1), 1) := dk_2 (dk_at dksX3_find_4 10 rfl rfl)
theorem dX3_find_104 : decode cX3_find 104 = .ok (.if_icmp .ne 10, 3) := dk_160 0 10 (dk_at dksX3_find_4 11 rfl rfl)
theorem dX3_find_107 : decode cX3_find 107 = .ok (.aload_n 0, 1) := dk_42 (dk_at dksX3_find_4 14 rfl rfl)
theorem dX3_find_108 : decode cX3_find 108 = .ok (.iconst 1, 1) := dk_4 (dk_at dksX3_find_4 15 rfl rfl)
theorem dX3_find_109 : decode cX3_find 109 = .ok (.putfield 65, 3) := dk_181 0 65 (dk_at dksX3_find_4 16 rfl rfl)
theorem dX3_find_112 : decode cX3_find 112 = .ok (.iconst (-1), 1) := dk_2 (dk_at dksX3_find_4 19 rfl rfl)
theorem dX3_find_113 : decode cX3_find 113 = .ok (.ireturn, 1) := dk_172 (dk_at dksX3_find_4 20 rfl rfl)
theorem dX3_find_114 : decode cX3_find 114 = .ok (.iload_n 3, 1) := dk_29 (dk_at dksX3_find_4 21 rfl rfl)
theorem dX3_find_115 : decode cX3_find 115 = .ok (.i2l, 1) := dk_133 (dk_at dksX3_find_4 22 rfl rfl)
theorem dX3_find_116 : decode cX3_find 116 = .ok (.aload_n 0, 1) := dk_42 (dk_at dksX3_find_4 23 rfl rfl)
theorem dX3_find_117 : decode cX3_find 117 = .ok (.getfield 26, 3) := dk_180 0 26 (dk_at dksX3_find_5 0 rfl rfl)
theorem dX3_find_120 : decode cX3_find 120 = .ok (.iconst 3, 1) := dk_6 (dk_at dksX3_find_5 3 rfl rfl)
theorem dX3_find_121 : decode cX3_find 121 = .ok (.iload_n 1, 1) := dk_27 (dk_at dksX3_find_5 4 rfl rfl)
theorem dX3_find_122 : decode cX3_find 122 = .ok (.imul, 1) := dk_104 (dk_at dksX3_find_5 5 rfl rfl)
theorem dX3_find_123 : decode cX3_find 123 = .ok (.iconst 1, 1) := dk_4 (dk_at dksX3_find_5 6 rfl rfl)
theorem dX3_find_124 : decode cX3_find 124 = .ok (.iadd, 1) := dk_96 (dk_at dksX3_find_5 7 rfl rfl)
theorem dX3_find_125 : decode cX3_find 125 = .ok (.iaload, 1) := dk_46 (dk_at dksX3_find_5 8 rfl rfl)
theorem dX3_find_126 : decode cX3_find 126 = .ok (.i2l, 1) := dk_133 (dk_at dksX3_find_5 9 rfl rfl)
theorem dX3_find_127 : decode cX3_find 127 = .ok (.lsub, 1) := dk_101 (dk_at dksX3_find_5 10 rfl rfl)
theorem dX3_find_128 : decode cX3_find 128 = .ok (.lstore 6, 2) := dk_55 6 (dk_at dksX3_find_5 11 rfl rfl)
theorem dX3_find_130 : decode cX3_find 130 = .ok (.lload 6, 2) := dk_22 6 (dk_at dksX3_find_5 13 rfl rfl)
theorem dX3_find_132 : decode cX3_find 132 = .ok (.lconst 0, 1) := dk_9 (dk_at dksX3_find_5 15 rfl rfl)
theorem dX3_find_133 : decode cX3_find 133 = .ok (.aload_n 0, 1) := dk_42 (dk_at dksX3_find_5 16 rfl rfl)
theorem dX3_find_134 : decode cX3_find 134 = .ok (.getfield 38, 3) := dk_180 0 38 (dk_at dksX3_find_5 17 rfl rfl)
theorem dX3_find_137 : decode cX3_find 137 = .ok (.iload 5, 2) := dk_21 5 (dk_at dksX3_find_5 20 rfl rfl)
theorem dX3_find_139 : decode cX3_find 139 = .ok (.iaload, 1) := dk_46 (dk_at dksX3_find_5 22 rfl rfl)
theorem dX3_find_140 : decode cX3_find 140 = .ok (.iconst 1, 1) := dk_4 (dk_at dksX3_find_5 23 rfl rfl)
theorem dX3_find_141 : decode cX3_find 141 = .ok (.isub, 1) := dk_100 (dk_at dksX3_find_6 0 rfl rfl)
theorem dX3_find_142 : decode cX3_find 142 = .ok (.i2l, 1) := dk_133 (dk_at dksX3_find_6 1 rfl rfl)
theorem dX3_find_143 : decode cX3_find 143 = .ok (.invokestatic 101, 3) := dk_184 0 101 (dk_at dksX3_find_6 2 rfl rfl)
theorem dX3_find_146 : decode cX3_find 146 = .ok (.ifCond .ne 12, 3) := dk_154 0 12 (dk_at dksX3_find_6 5 rfl rfl)
theorem dX3_find_149 : decode cX3_find 149 = .ok (.aload_n 0, 1) := dk_42 (dk_at dksX3_find_6 8 rfl rfl)
theorem dX3_find_150 : decode cX3_find 150 = .ok (.iconst 1, 1) := dk_4 (dk_at dksX3_find_6 9 rfl rfl)
theorem dX3_find_151 : decode cX3_find 151 = .ok (.invokevirtual 152, 3) := dk_182 0 152 (dk_at dksX3_find_6 10 rfl rfl)
theorem dX3_find_154 : decode cX3_find 154 = .ok (.istore 8, 2) := dk_54 8 (dk_at dksX3_find_6 13 rfl rfl)
theorem dX3_find_156 : decode cX3_find 156 = .ok (.iconst (-1), 1) := dk_2 (dk_at dksX3_find_6 15 rfl rfl)
theorem dX3_find_157 : decode cX3_find 157 = .ok (.ireturn, 1) := dk_172 (dk_at dksX3_find_6 16 rfl rfl)
theorem dX3_find_158 : decode cX3_find 158 = .ok (.aload_n 0, 1) := dk_42 (dk_at dksX3_find_6 17 rfl rfl)
theorem dX3_find_159 : decode cX3_find 159 = .ok (.getfield 35, 3) := dk_180 0 35 (dk_at dksX3_find_6 18 rfl rfl)
theorem dX3_find_162 : decode cX3_find 162 = .ok (.iload 5, 2) := dk_21 5 (dk_at dksX3_find_6 21 rfl rfl)
theorem dX3_find_164 : decode cX3_find 164 = .ok (.iaload, 1) := dk_46 (dk_at dksX3_find_6 23 rfl rfl)
theorem dX3_find_165 : decode cX3_find 165 = .ok (.lload 6, 2) := dk_22 6 (dk_at dksX3_find_7 0 rfl rfl)
theorem dX3_find_167 : decode cX3_find 167 = .ok (.l2i, 1) := dk_136 (dk_at dksX3_find_7 2 rfl rfl)
theorem dX3_find_168 : decode cX3_find 168 = .ok (.iadd, 1) := dk_96 (dk_at dksX3_find_7 3 rfl rfl)
theorem dX3_find_169 : decode cX3_find 169 = .ok (.ireturn, 1) := dk_172 (dk_at dksX3_find_7 4 rfl rfl)
abbrev cX3_put : ByteArray := prog_6_method_39_code
def yX3_put : MethodName := ⟨RX3, "put", "(IIIIJ)I"⟩
def dkwX3_put_1 : List UInt8 := [180, 0, 20, 27, 46, 22, 5, 182, 0, 171, 42, 4, 182, 0, 75, 172]
abbrev dktX3_put_1 : List UInt8 := dkwX3_put_1 ++ []
def dkwX3_put_0 : List UInt8 := [42, 27, 28, 29, 21, 4, 182, 0, 164, 54, 7, 21, 7, 2, 160, 0, 5, 3, 172, 42, 21, 7, 42]
abbrev dktX3_put_0 : List UInt8 := dkwX3_put_0 ++ dktX3_put_1
theorem dksX3_put_0 : cX3_put.data.toList.drop 0 = dktX3_put_0 := by decide +kernel
theorem dksX3_put_1 : cX3_put.data.toList.drop 23 = dktX3_put_1 := dk_seg dksX3_put_0 23 rfl rfl
theorem dX3_put_0 : decode cX3_put 0 = .ok (.aload_n 0, 1) := dk_42 (dk_at dksX3_put_0 0 rfl rfl)
theorem dX3_put_1 : decode cX3_put 1 = .ok (.iload_n 1, 1) := dk_27 (dk_at dksX3_put_0 1 rfl rfl)
theorem dX3_put_2 : decode cX3_put 2 = .ok (.iload_n 2, 1) := dk_28 (dk_at dksX3_put_0 2 rfl rfl)
theorem dX3_put_3 : decode cX3_put 3 = .ok (.iload_n 3, 1) := dk_29 (dk_at dksX3_put_0 3 rfl rfl)
theorem dX3_put_4 : decode cX3_put 4 = .ok (.iload 4, 2) := dk_21 4 (dk_at dksX3_put_0 4 rfl rfl)
theorem dX3_put_6 : decode cX3_put 6 = .ok (.invokevirtual 164, 3) := dk_182 0 164 (dk_at dksX3_put_0 6 rfl rfl)
theorem dX3_put_9 : decode cX3_put 9 = .ok (.istore 7, 2) := dk_54 7 (dk_at dksX3_put_0 9 rfl rfl)
theorem dX3_put_11 : decode cX3_put 11 = .ok (.iload 7, 2) := dk_21 7 (dk_at dksX3_put_0 11 rfl rfl)
theorem dX3_put_13 : decode cX3_put 13 = .ok (.iconst (-1), 1) := dk_2 (dk_at dksX3_put_0 13 rfl rfl)
theorem dX3_put_14 : decode cX3_put 14 = .ok (.if_icmp .ne 5, 3) := dk_160 0 5 (dk_at dksX3_put_0 14 rfl rfl)
theorem dX3_put_17 : decode cX3_put 17 = .ok (.iconst 0, 1) := dk_3 (dk_at dksX3_put_0 17 rfl rfl)
theorem dX3_put_18 : decode cX3_put 18 = .ok (.ireturn, 1) := dk_172 (dk_at dksX3_put_0 18 rfl rfl)
theorem dX3_put_19 : decode cX3_put 19 = .ok (.aload_n 0, 1) := dk_42 (dk_at dksX3_put_0 19 rfl rfl)
theorem dX3_put_20 : decode cX3_put 20 = .ok (.iload 7, 2) := dk_21 7 (dk_at dksX3_put_0 20 rfl rfl)
theorem dX3_put_22 : decode cX3_put 22 = .ok (.aload_n 0, 1) := dk_42 (dk_at dksX3_put_0 22 rfl rfl)
theorem dX3_put_23 : decode cX3_put 23 = .ok (.getfield 20, 3) := dk_180 0 20 (dk_at dksX3_put_1 0 rfl rfl)
theorem dX3_put_26 : decode cX3_put 26 = .ok (.iload_n 1, 1) := dk_27 (dk_at dksX3_put_1 3 rfl rfl)
theorem dX3_put_27 : decode cX3_put 27 = .ok (.iaload, 1) := dk_46 (dk_at dksX3_put_1 4 rfl rfl)
theorem dX3_put_28 : decode cX3_put 28 = .ok (.lload 5, 2) := dk_22 5 (dk_at dksX3_put_1 5 rfl rfl)
theorem dX3_put_30 : decode cX3_put 30 = .ok (.invokevirtual 171, 3) := dk_182 0 171 (dk_at dksX3_put_1 7 rfl rfl)
theorem dX3_put_33 : decode cX3_put 33 = .ok (.aload_n 0, 1) := dk_42 (dk_at dksX3_put_1 10 rfl rfl)
theorem dX3_put_34 : decode cX3_put 34 = .ok (.iconst 1, 1) := dk_4 (dk_at dksX3_put_1 11 rfl rfl)
theorem dX3_put_35 : decode cX3_put 35 = .ok (.invokevirtual 75, 3) := dk_182 0 75 (dk_at dksX3_put_1 12 rfl rfl)
theorem dX3_put_38 : decode cX3_put 38 = .ok (.ireturn, 1) := dk_172 (dk_at dksX3_put_1 15 rfl rfl)
abbrev cX3_lay : ByteArray := prog_6_method_38_code
def yX3_lay : MethodName := ⟨RX3, "lay", "(IIJ)V"⟩
def dkwX3_lay_1 : List UInt8 := [167, 0, 4, 3, 84, 177]
abbrev dktX3_lay_1 : List UInt8 := dkwX3_lay_1 ++ []
def dkwX3_lay_0 : List UInt8 := [42, 180, 0, 42, 27, 28, 33, 184, 0, 167, 80, 42, 180, 0, 46, 27, 28, 6, 160, 0, 7, 4]
abbrev dktX3_lay_0 : List UInt8 := dkwX3_lay_0 ++ dktX3_lay_1
theorem dksX3_lay_0 : cX3_lay.data.toList.drop 0 = dktX3_lay_0 := by decide +kernel
theorem dksX3_lay_1 : cX3_lay.data.toList.drop 22 = dktX3_lay_1 := dk_seg dksX3_lay_0 22 rfl rfl
theorem dX3_lay_0 : decode cX3_lay 0 = .ok (.aload_n 0, 1) := dk_42 (dk_at dksX3_lay_0 0 rfl rfl)
theorem dX3_lay_1 : decode cX3_lay 1 = .ok (.getfield 42, 3) := dk_180 0 42 (dk_at dksX3_lay_0 1 rfl rfl)
theorem dX3_lay_4 : decode cX3_lay 4 = .ok (.iload_n 1, 1) := dk_27 (dk_at dksX3_lay_0 4 rfl rfl)
theorem dX3_lay_5 : decode cX3_lay 5 = .ok (.iload_n 2, 1) := dk_28 (dk_at dksX3_lay_0 5 rfl rfl)
theorem dX3_lay_6 : decode cX3_lay 6 = .ok (.lload_n 3, 1) := dk_33 (dk_at dksX3_lay_0 6 rfl rfl)
theorem dX3_lay_7 : decode cX3_lay 7 = .ok (.invokestatic 167, 3) := dk_184 0 167 (dk_at dksX3_lay_0 7 rfl rfl)
theorem dX3_lay_10 : decode cX3_lay 10 = .ok (.lastore, 1) := dk_80 (dk_at dksX3_lay_0 10 rfl rfl)
theorem dX3_lay_11 : decode cX3_lay 11 = .ok (.aload_n 0, 1) := dk_42 (dk_at dksX3_lay_0 11 rfl rfl)
theorem dX3_lay_12 : decode cX3_lay 12 = .ok (.getfield 46, 3) := dk_180 0 46 (dk_at dksX3_lay_0 12 rfl rfl)
theorem dX3_lay_15 : decode cX3_lay 15 = .ok (.iload_n 1, 1) := dk_27 (dk_at dksX3_lay_0 15 rfl rfl)
theorem dX3_lay_16 : decode cX3_lay 16 = .ok (.iload_n 2, 1) := dk_28 (dk_at dksX3_lay_0 16 rfl rfl)
theorem dX3_lay_17 : decode cX3_lay 17 = .ok (.iconst 3, 1) := dk_6 (dk_at dksX3_lay_0 17 rfl rfl)
theorem dX3_lay_18 : decode cX3_lay 18 = .ok (.if_icmp .ne 7, 3) := dk_160 0 7 (dk_at dksX3_lay_0 18 rfl rfl)
theorem dX3_lay_21 : decode cX3_lay 21 = .ok (.iconst 1, 1) := dk_4 (dk_at dksX3_lay_0 21 rfl rfl)
theorem dX3_lay_22 : decode cX3_lay 22 = .ok (.goto 4, 3) := dk_167 0 4 (dk_at dksX3_lay_1 0 rfl rfl)
theorem dX3_lay_25 : decode cX3_lay 25 = .ok (.iconst 0, 1) := dk_3 (dk_at dksX3_lay_1 3 rfl rfl)
theorem dX3_lay_26 : decode cX3_lay 26 = .ok (.bastore, 1) := dk_84 (dk_at dksX3_lay_1 4 rfl rfl)
theorem dX3_lay_27 : decode cX3_lay 27 = .ok (.return_, 1) := dk_177 (dk_at dksX3_lay_1 5 rfl rfl)
abbrev cX3_as : ByteArray := prog_6_method_15_code
def yX3_as : MethodName := ⟨RX3, "as", "(IJ)J"⟩
def dkwX3_as_1 : List UInt8 := [167, 0, 4, 33, 173, 26, 4, 159, 0, 8, 26, 7, 160, 0, 9, 31, 136, 133, 167, 0, 4, 31, 173]
abbrev dktX3_as_1 : List UInt8 := dkwX3_as_1 ++ []
def dkwX3_as_0 : List UInt8 := [26, 154, 0, 27, 31, 20, 0, 92, 127, 66, 33, 20, 0, 94, 148, 158, 0, 11, 33, 20, 0, 96, 101]
abbrev dktX3_as_0 : List UInt8 := dkwX3_as_0 ++ dktX3_as_1
theorem dksX3_as_0 : cX3_as.data.toList.drop 0 = dktX3_as_0 := by decide +kernel
theorem dksX3_as_1 : cX3_as.data.toList.drop 23 = dktX3_as_1 := dk_seg dksX3_as_0 23 rfl rfl
theorem dX3_as_0 : decode cX3_as 0 = .ok (.iload_n 0, 1) := dk_26 (dk_at dksX3_as_0 0 rfl rfl)
theorem dX3_as_1 : decode cX3_as 1 = .ok (.ifCond .ne 27, 3) := dk_154 0 27 (dk_at dksX3_as_0 1 rfl rfl)
theorem dX3_as_4 : decode cX3_as 4 = .ok (.lload_n 1, 1) := dk_31 (dk_at dksX3_as_0 4 rfl rfl)
theorem dX3_as_5 : decode cX3_as 5 = .ok (.ldc2_w 92, 3) := dk_20 0 92 (dk_at dksX3_as_0 5 rfl rfl)
theorem dX3_as_8 : decode cX3_as 8 = .ok (.land, 1) := dk_127 (dk_at dksX3_as_0 8 rfl rfl)
theorem dX3_as_9 : decode cX3_as 9 = .ok (.lstore_n 3, 1) := dk_66 (dk_at dksX3_as_0 9 rfl rfl)
theorem dX3_as_10 : decode cX3_as 10 = .ok (.lload_n 3, 1) := dk_33 (dk_at dksX3_as_0 10 rfl rfl)
theorem dX3_as_11 : decode cX3_as 11 = .ok (.ldc2_w 94, 3) := dk_20 0 94 (dk_at dksX3_as_0 11 rfl rfl)
theorem dX3_as_14 : decode cX3_as 14 = .ok (.lcmp, 1) := dk_148 (dk_at dksX3_as_0 14 rfl rfl)
theorem dX3_as_15 : decode cX3_as 15 = .ok (.ifCond .le 11, 3) := dk_158 0 11 (dk_at dksX3_as_0 15 rfl rfl)
theorem dX3_as_18 : decode cX3_as 18 = .ok (.lload_n 3, 1) := dk_33 (dk_at dksX3_as_0 18 rfl rfl)
theorem dX3_as_19 : decode cX3_as 19 = .ok (.ldc2_w 96, 3) := dk_20 0 96 (dk_at dksX3_as_0 19 rfl rfl)
theorem dX3_as_22 : decode cX3_as 22 = .ok (.lsub, 1) := dk_101 (dk_at dksX3_as_0 22 rfl rfl)
theorem dX3_as_23 : decode cX3_as 23 = .ok (.goto 4, 3) := dk_167 0 4 (dk_at dksX3_as_1 0 rfl rfl)
theorem dX3_as_26 : decode cX3_as 26 = .ok (.lload_n 3, 1) := dk_33 (dk_at dksX3_as_1 3 rfl rfl)
theorem dX3_as_27 : decode cX3_as 27 = .ok (.lreturn, 1) := dk_173 (dk_at dksX3_as_1 4 rfl rfl)
theorem dX3_as_28 : decode cX3_as 28 = .ok (.iload_n 0, 1) := dk_26 (dk_at dksX3_as_1 5 rfl rfl)
theorem dX3_as_29 : decode cX3_as 29 = .ok (.iconst 1, 1) := dk_4 (dk_at dksX3_as_1 6 rfl rfl)
theorem dX3_as_30 : decode cX3_as 30 = .ok (.if_icmp .eq 8, 3) := dk_159 0 8 (dk_at dksX3_as_1 7 rfl rfl)
theorem dX3_as_33 : decode cX3_as 33 = .ok (.iload_n 0, 1) := dk_26 (dk_at dksX3_as_1 10 rfl rfl)
theorem dX3_as_34 : decode cX3_as 34 = .ok (.iconst 4, 1) := dk_7 (dk_at dksX3_as_1 11 rfl rfl)
theorem dX3_as_35 : decode cX3_as 35 = .ok (.if_icmp .ne 9, 3) := dk_160 0 9 (dk_at dksX3_as_1 12 rfl rfl)
theorem dX3_as_38 : decode cX3_as 38 = .ok (.lload_n 1, 1) := dk_31 (dk_at dksX3_as_1 15 rfl rfl)
theorem dX3_as_39 : decode cX3_as 39 = .ok (.l2i, 1) := dk_136 (dk_at dksX3_as_1 16 rfl rfl)
theorem dX3_as_40 : decode cX3_as 40 = .ok (.i2l, 1) := dk_133 (dk_at dksX3_as_1 17 rfl rfl)
theorem dX3_as_41 : decode cX3_as 41 = .ok (.goto 4, 3) := dk_167 0 4 (dk_at dksX3_as_1 18 rfl rfl)
theorem dX3_as_44 : decode cX3_as 44 = .ok (.lload_n 1, 1) := dk_31 (dk_at dksX3_as_1 21 rfl rfl)
theorem dX3_as_45 : decode cX3_as 45 = .ok (.lreturn, 1) := dk_173 (dk_at dksX3_as_1 22 rfl rfl)
abbrev cX3_empty : ByteArray := prog_6_method_40_code
def yX3_empty : MethodName := ⟨RX3, "empty", "(IIII)I"⟩
def dkwX3_empty_3 : List UInt8 := [182, 0, 75, 172]
abbrev dktX3_empty_3 : List UInt8 := dkwX3_empty_3 ++ []
def dkwX3_empty_2 : List UInt8 := [160, 0, 5, 3, 172, 42, 180, 0, 42, 21, 5, 9, 80, 42, 180, 0, 46, 21, 5, 3, 84, 42, 4]
abbrev dktX3_empty_2 : List UInt8 := dkwX3_empty_2 ++ dktX3_empty_3
def dkwX3_empty_1 : List UInt8 := [159, 0, 9, 42, 5, 182, 0, 68, 172, 42, 27, 28, 29, 21, 4, 182, 0, 164, 54, 5, 21, 5, 2]
abbrev dktX3_empty_1 : List UInt8 := dkwX3_empty_1 ++ dktX3_empty_2
def dkwX3_empty_0 : List UInt8 := [42, 27, 182, 0, 131, 154, 0, 10, 42, 16, 7, 182, 0, 68, 172, 42, 180, 0, 20, 27, 46, 6]
abbrev dktX3_empty_0 : List UInt8 := dkwX3_empty_0 ++ dktX3_empty_1
theorem dksX3_empty_0 : cX3_empty.data.toList.drop 0 = dktX3_empty_0 := by decide +kernel
theorem dksX3_empty_1 : cX3_empty.data.toList.drop 22 = dktX3_empty_1 := dk_seg dksX3_empty_0 22 rfl rfl
theorem dksX3_empty_2 : cX3_empty.data.toList.drop 45 = dktX3_empty_2 := dk_seg dksX3_empty_1 23 rfl rfl
theorem dksX3_empty_3 : cX3_empty.data.toList.drop 68 = dktX3_empty_3 := dk_seg dksX3_empty_2 23 rfl rfl
theorem dX3_empty_0 : decode cX3_empty 0 = .ok (.aload_n 0, 1) := dk_42 (dk_at dksX3_empty_0 0 rfl rfl)
theorem dX3_empty_1 : decode cX3_empty 1 = .ok (.iload_n 1, 1) := dk_27 (dk_at dksX3_empty_0 1 rfl rfl)
theorem dX3_empty_2 : decode cX3_empty 2 = .ok (.invokevirtual 131, 3) := dk_182 0 131 (dk_at dksX3_empty_0 2 rfl rfl)
theorem dX3_empty_5 : decode cX3_empty 5 = .ok (.ifCond .ne 10, 3) := dk_154 0 10 (dk_at dksX3_empty_0 5 rfl rfl)
theorem dX3_empty_8 : decode cX3_empty 8 = .ok (.aload_n 0, 1) := dk_42 (dk_at dksX3_empty_0 8 rfl rfl)
theorem dX3_empty_9 : decode cX3_empty 9 = .ok (.bipush 7, 2) := dk_16 7 (dk_at dksX3_empty_0 9 rfl rfl)
theorem dX3_empty_11 : decode cX3_empty 11 = .ok (.invokevirtual 68, 3) := dk_182 0 68 (dk_at dksX3_empty_0 11 rfl rfl)
theorem dX3_empty_14 : decode cX3_empty 14 = .ok (.ireturn, 1) := dk_172 (dk_at dksX3_empty_0 14 rfl rfl)
theorem dX3_empty_15 : decode cX3_empty 15 = .ok (.aload_n 0, 1) := dk_42 (dk_at dksX3_empty_0 15 rfl rfl)
theorem dX3_empty_16 : decode cX3_empty 16 = .ok (.getfield 20, 3) := dk_180 0 20 (dk_at dksX3_empty_0 16 rfl rfl)
theorem dX3_empty_19 : decode cX3_empty 19 = .ok (.iload_n 1, 1) := dk_27 (dk_at dksX3_empty_0 19 rfl rfl)
theorem dX3_empty_20 : decode cX3_empty 20 = .ok (.iaload, 1) := dk_46 (dk_at dksX3_empty_0 20 rfl rfl)
theorem dX3_empty_21 : decode cX3_empty 21 = .ok (.iconst 3, 1) := dk_6 (dk_at dksX3_empty_0 21 rfl rfl)
theorem dX3_empty_22 : decode cX3_empty 22 = .ok (.if_icmp .eq 9, 3) := dk_159 0 9 (dk_at dksX3_empty_1 0 rfl rfl)
theorem dX3_empty_25 : decode cX3_empty 25 = .ok (.aload_n 0, 1) := dk_42 (dk_at dksX3_empty_1 3 rfl rfl)
theorem dX3_empty_26 : decode cX3_empty 26 = .ok (.iconst 2, 1) := dk_5 (dk_at dksX3_empty_1 4 rfl rfl)
theorem dX3_empty_27 : decode cX3_empty 27 = .ok (.invokevirtual 68, 3) := dk_182 0 68 (dk_at dksX3_empty_1 5 rfl rfl)
theorem dX3_empty_30 : decode cX3_empty 30 = .ok (.ireturn, 1) := dk_172 (dk_at dksX3_empty_1 8 rfl rfl)
theorem dX3_empty_31 : decode cX3_empty 31 = .ok (.aload_n 0, 1) := dk_42 (dk_at dksX3_empty_1 9 rfl rfl)
theorem dX3_empty_32 : decode cX3_empty 32 = .ok (.iload_n 1, 1) := dk_27 (dk_at dksX3_empty_1 10 rfl rfl)
theorem dX3_empty_33 : decode cX3_empty 33 = .ok (.iload_n 2, 1) := dk_28 (dk_at dksX3_empty_1 11 rfl rfl)
theorem dX3_empty_34 : decode cX3_empty 34 = .ok (.iload_n 3, 1) := dk_29 (dk_at dksX3_empty_1 12 rfl rfl)
theorem dX3_empty_35 : decode cX3_empty 35 = .ok (.iload 4, 2) := dk_21 4 (dk_at dksX3_empty_1 13 rfl rfl)
theorem dX3_empty_37 : decode cX3_empty 37 = .ok (.invokevirtual 164, 3) := dk_182 0 164 (dk_at dksX3_empty_1 15 rfl rfl)
theorem dX3_empty_40 : decode cX3_empty 40 = .ok (.istore 5, 2) := dk_54 5 (dk_at dksX3_empty_1 18 rfl rfl)
theorem dX3_empty_42 : decode cX3_empty 42 = .ok (.iload 5, 2) := dk_21 5 (dk_at dksX3_empty_1 20 rfl rfl)
theorem dX3_empty_44 : decode cX3_empty 44 = .ok (.iconst (-1), 1) := dk_2 (dk_at dksX3_empty_1 22 rfl rfl)
theorem dX3_empty_45 : decode cX3_empty 45 = .ok (.if_icmp .ne 5, 3) := dk_160 0 5 (dk_at dksX3_empty_2 0 rfl rfl)
theorem dX3_empty_48 : decode cX3_empty 48 = .ok (.iconst 0, 1) := dk_3 (dk_at dksX3_empty_2 3 rfl rfl)
theorem dX3_empty_49 : decode cX3_empty 49 = .ok (.ireturn, 1) := dk_172 (dk_at dksX3_empty_2 4 rfl rfl)
theorem dX3_empty_50 : decode cX3_empty 50 = .ok (.aload_n 0, 1) := dk_42 (dk_at dksX3_empty_2 5 rfl rfl)
theorem dX3_empty_51 : decode cX3_empty 51 = .ok (.getfield 42, 3) := dk_180 0 42 (dk_at dksX3_empty_2 6 rfl rfl)
theorem dX3_empty_54 : decode cX3_empty 54 = .ok (.iload 5, 2) := dk_21 5 (dk_at dksX3_empty_2 9 rfl rfl)
theorem dX3_empty_56 : decode cX3_empty 56 = .ok (.lconst 0, 1) := dk_9 (dk_at dksX3_empty_2 11 rfl rfl)
theorem dX3_empty_57 : decode cX3_empty 57 = .ok (.lastore, 1) := dk_80 (dk_at dksX3_empty_2 12 rfl rfl)
theorem dX3_empty_58 : decode cX3_empty 58 = .ok (.aload_n 0, 1) := dk_42 (dk_at dksX3_empty_2 13 rfl rfl)
theorem dX3_empty_59 : decode cX3_empty 59 = .ok (.getfield 46, 3) := dk_180 0 46 (dk_at dksX3_empty_2 14 rfl rfl)
theorem dX3_empty_62 : decode cX3_empty 62 = .ok (.iload 5, 2) := dk_21 5 (dk_at dksX3_empty_2 17 rfl rfl)
theorem dX3_empty_64 : decode cX3_empty 64 = .ok (.iconst 0, 1) := dk_3 (dk_at dksX3_empty_2 19 rfl rfl)
theorem dX3_empty_65 : decode cX3_empty 65 = .ok (.bastore, 1) := dk_84 (dk_at dksX3_empty_2 20 rfl rfl)
theorem dX3_empty_66 : decode cX3_empty 66 = .ok (.aload_n 0, 1) := dk_42 (dk_at dksX3_empty_2 21 rfl rfl)
theorem dX3_empty_67 : decode cX3_empty 67 = .ok (.iconst 1, 1) := dk_4 (dk_at dksX3_empty_2 22 rfl rfl)
theorem dX3_empty_68 : decode cX3_empty 68 = .ok (.invokevirtual 75, 3) := dk_182 0 75 (dk_at dksX3_empty_3 0 rfl rfl)
theorem dX3_empty_71 : decode cX3_empty 71 = .ok (.ireturn, 1) := dk_172 (dk_at dksX3_empty_3 3 rfl rfl)
abbrev cX3_pair : ByteArray := prog_6_method_41_code
def yX3_pair : MethodName := ⟨RX3, "pair", "(IIIJ)I"⟩
def dkwX3_pair_3 : List UInt8 := [180, 0, 175, 182, 0, 75, 172]
abbrev dktX3_pair_3 : List UInt8 := dkwX3_pair_3 ++ []
def dkwX3_pair_2 : List UInt8 := [180, 0, 62, 42, 180, 0, 175, 22, 4, 80, 42, 89, 180, 0, 175, 4, 96, 181, 0, 175, 42, 42]
abbrev dktX3_pair_2 : List UInt8 := dkwX3_pair_2 ++ dktX3_pair_3
def dkwX3_pair_1 : List UInt8 := [27, 79, 42, 180, 0, 56, 42, 180, 0, 175, 28, 79, 42, 180, 0, 59, 42, 180, 0, 175, 29, 79, 42]
abbrev dktX3_pair_1 : List UInt8 := dkwX3_pair_1 ++ dktX3_pair_2
def dkwX3_pair_0 : List UInt8 := [42, 180, 0, 175, 16, 30, 160, 0, 10, 42, 16, 8, 182, 0, 68, 172, 42, 180, 0, 53, 42, 180, 0, 175]
abbrev dktX3_pair_0 : List UInt8 := dkwX3_pair_0 ++ dktX3_pair_1
theorem dksX3_pair_0 : cX3_pair.data.toList.drop 0 = dktX3_pair_0 := by decide +kernel
theorem dksX3_pair_1 : cX3_pair.data.toList.drop 24 = dktX3_pair_1 := dk_seg dksX3_pair_0 24 rfl rfl
theorem dksX3_pair_2 : cX3_pair.data.toList.drop 47 = dktX3_pair_2 := dk_seg dksX3_pair_1 23 rfl rfl
theorem dksX3_pair_3 : cX3_pair.data.toList.drop 69 = dktX3_pair_3 := dk_seg dksX3_pair_2 22 rfl rfl
theorem dX3_pair_0 : decode cX3_pair 0 = .ok (.aload_n 0, 1) := dk_42 (dk_at dksX3_pair_0 0 rfl rfl)
theorem dX3_pair_1 : decode cX3_pair 1 = .ok (.getfield 175, 3) := dk_180 0 175 (dk_at dksX3_pair_0 1 rfl rfl)
theorem dX3_pair_4 : decode cX3_pair 4 = .ok (.bipush 30, 2) := dk_16 30 (dk_at dksX3_pair_0 4 rfl rfl)
theorem dX3_pair_6 : decode cX3_pair 6 = .ok (.if_icmp .ne 10, 3) := dk_160 0 10 (dk_at dksX3_pair_0 6 rfl rfl)
theorem dX3_pair_9 : decode cX3_pair 9 = .ok (.aload_n 0, 1) := dk_42 (dk_at dksX3_pair_0 9 rfl rfl)
theorem dX3_pair_10 : decode cX3_pair 10 = .ok (.bipush 8, 2) := dk_16 8 (dk_at dksX3_pair_0 10 rfl rfl)
theorem dX3_pair_12 : decode cX3_pair 12 = .ok (.invokevirtual 68, 3) := dk_182 0 68 (dk_at dksX3_pair_0 12 rfl rfl)
theorem dX3_pair_15 : decode cX3_pair 15 = .ok (.ireturn, 1) := dk_172 (dk_at dksX3_pair_0 15 rfl rfl)
theorem dX3_pair_16 : decode cX3_pair 16 = .ok (.aload_n 0, 1) := dk_42 (dk_at dksX3_pair_0 16 rfl rfl)
theorem dX3_pair_17 : decode cX3_pair 17 = .ok (.getfield 53, 3) := dk_180 0 53 (dk_at dksX3_pair_0 17 rfl rfl)
theorem dX3_pair_20 : decode cX3_pair 20 = .ok (.aload_n 0, 1) := dk_42 (dk_at dksX3_pair_0 20 rfl rfl)
theorem dX3_pair_21 : decode cX3_pair 21 = .ok (.getfield 175, 3) := dk_180 0 175 (dk_at dksX3_pair_0 21 rfl rfl)
theorem dX3_pair_24 : decode cX3_pair 24 = .ok (.iload_n 1, 1) := dk_27 (dk_at dksX3_pair_1 0 rfl rfl)
theorem dX3_pair_25 : decode cX3_pair 25 = .ok (.iastore, 1) := dk_79 (dk_at dksX3_pair_1 1 rfl rfl)
theorem dX3_pair_26 : decode cX3_pair 26 = .ok (.aload_n 0, 1) := dk_42 (dk_at dksX3_pair_1 2 rfl rfl)
theorem dX3_pair_27 : decode cX3_pair 27 = .ok (.getfield 56, 3) := dk_180 0 56 (dk_at dksX3_pair_1 3 rfl rfl)
theorem dX3_pair_30 : decode cX3_pair 30 = .ok (.aload_n 0, 1) := dk_42 (dk_at dksX3_pair_1 6 rfl rfl)
theorem dX3_pair_31 : decode cX3_pair 31 = .ok (.getfield 175, 3) := dk_180 0 175 (dk_at dksX3_pair_1 7 rfl rfl)
theorem dX3_pair_34 : decode cX3_pair 34 = .ok (.iload_n 2, 1) := dk_28 (dk_at dksX3_pair_1 10 rfl rfl)
theorem dX3_pair_35 : decode cX3_pair 35 = .ok (.iastore, 1) := dk_79 (dk_at dksX3_pair_1 11 rfl rfl)
theorem dX3_pair_36 : decode cX3_pair 36 = .ok (.aload_n 0, 1) := dk_42 (dk_at dksX3_pair_1 12 rfl rfl)
theorem dX3_pair_37 : decode cX3_pair 37 = .ok (.getfield 59, 3) := dk_180 0 59 (dk_at dksX3_pair_1 13 rfl rfl)
theorem dX3_pair_40 : decode cX3_pair 40 = .ok (.aload_n 0, 1) := dk_42 (dk_at dksX3_pair_1 16 rfl rfl)
theorem dX3_pair_41 : decode cX3_pair 41 = .ok (.getfield 175, 3) := dk_180 0 175 (dk_at dksX3_pair_1 17 rfl rfl)
theorem dX3_pair_44 : decode cX3_pair 44 = .ok (.iload_n 3, 1) := dk_29 (dk_at dksX3_pair_1 20 rfl rfl)
theorem dX3_pair_45 : decode cX3_pair 45 = .ok (.iastore, 1) := dk_79 (dk_at dksX3_pair_1 21 rfl rfl)
theorem dX3_pair_46 : decode cX3_pair 46 = .ok (.aload_n 0, 1) := dk_42 (dk_at dksX3_pair_1 22 rfl rfl)
theorem dX3_pair_47 : decode cX3_pair 47 = .ok (.getfield 62, 3) := dk_180 0 62 (dk_at dksX3_pair_2 0 rfl rfl)
theorem dX3_pair_50 : decode cX3_pair 50 = .ok (.aload_n 0, 1) := dk_42 (dk_at dksX3_pair_2 3 rfl rfl)
theorem dX3_pair_51 : decode cX3_pair 51 = .ok (.getfield 175, 3) := dk_180 0 175 (dk_at dksX3_pair_2 4 rfl rfl)
theorem dX3_pair_54 : decode cX3_pair 54 = .ok (.lload 4, 2) := dk_22 4 (dk_at dksX3_pair_2 7 rfl rfl)
theorem dX3_pair_56 : decode cX3_pair 56 = .ok (.lastore, 1) := dk_80 (dk_at dksX3_pair_2 9 rfl rfl)
theorem dX3_pair_57 : decode cX3_pair 57 = .ok (.aload_n 0, 1) := dk_42 (dk_at dksX3_pair_2 10 rfl rfl)
theorem dX3_pair_58 : decode cX3_pair 58 = .ok (.dup, 1) := dk_89 (dk_at dksX3_pair_2 11 rfl rfl)
theorem dX3_pair_59 : decode cX3_pair 59 = .ok (.getfield 175, 3) := dk_180 0 175 (dk_at dksX3_pair_2 12 rfl rfl)
theorem dX3_pair_62 : decode cX3_pair 62 = .ok (.iconst 1, 1) := dk_4 (dk_at dksX3_pair_2 15 rfl rfl)
theorem dX3_pair_63 : decode cX3_pair 63 = .ok (.iadd, 1) := dk_96 (dk_at dksX3_pair_2 16 rfl rfl)
theorem dX3_pair_64 : decode cX3_pair 64 = .ok (.putfield 175, 3) := dk_181 0 175 (dk_at dksX3_pair_2 17 rfl rfl)
theorem dX3_pair_67 : decode cX3_pair 67 = .ok (.aload_n 0, 1) := dk_42 (dk_at dksX3_pair_2 20 rfl rfl)
theorem dX3_pair_68 : decode cX3_pair 68 = .ok (.aload_n 0, 1) := dk_42 (dk_at dksX3_pair_2 21 rfl rfl)
theorem dX3_pair_69 : decode cX3_pair 69 = .ok (.getfield 175, 3) := dk_180 0 175 (dk_at dksX3_pair_3 0 rfl rfl)
theorem dX3_pair_72 : decode cX3_pair 72 = .ok (.invokevirtual 75, 3) := dk_182 0 75 (dk_at dksX3_pair_3 3 rfl rfl)
theorem dX3_pair_75 : decode cX3_pair 75 = .ok (.ireturn, 1) := dk_172 (dk_at dksX3_pair_3 6 rfl rfl)
abbrev cX3_gather : ByteArray := prog_6_method_43_code
def yX3_gather : MethodName := ⟨RX3, "gather", "(II)I"⟩
def dkwX3_gather_5 : List UInt8 := [167, 255, 175, 42, 180, 0, 175, 54, 4, 42, 3, 181, 0, 175, 42, 21, 4, 182, 0, 75, 172]
abbrev dktX3_gather_5 : List UInt8 := dkwX3_gather_5 ++ []
def dkwX3_gather_4 : List UInt8 := [180, 0, 62, 21, 4, 47, 182, 0, 182, 154, 0, 12, 42, 16, 6, 181, 0, 65, 21, 4, 172, 132, 4, 1]
abbrev dktX3_gather_4 : List UInt8 := dkwX3_gather_4 ++ dktX3_gather_5
def dkwX3_gather_3 : List UInt8 := [54, 5, 21, 5, 2, 160, 0, 6, 21, 4, 172, 42, 21, 5, 42, 180, 0, 20, 27, 46, 28, 42]
abbrev dktX3_gather_3 : List UInt8 := dkwX3_gather_3 ++ dktX3_gather_4
def dkwX3_gather_2 : List UInt8 := [180, 0, 53, 21, 4, 46, 42, 180, 0, 56, 21, 4, 46, 42, 180, 0, 59, 21, 4, 46, 182, 0, 164]
abbrev dktX3_gather_2 : List UInt8 := dkwX3_gather_2 ++ dktX3_gather_3
def dkwX3_gather_1 : List UInt8 := [153, 0, 9, 42, 29, 182, 0, 68, 172, 3, 54, 4, 21, 4, 42, 180, 0, 175, 162, 0, 78, 42, 27, 42]
abbrev dktX3_gather_1 : List UInt8 := dkwX3_gather_1 ++ dktX3_gather_2
def dkwX3_gather_0 : List UInt8 := [28, 133, 9, 20, 0, 180, 184, 0, 101, 154, 0, 6, 18, 116, 172, 42, 27, 182, 0, 135, 62, 29]
abbrev dktX3_gather_0 : List UInt8 := dkwX3_gather_0 ++ dktX3_gather_1
theorem dksX3_gather_0 : cX3_gather.data.toList.drop 0 = dktX3_gather_0 := by decide +kernel
theorem dksX3_gather_1 : cX3_gather.data.toList.drop 22 = dktX3_gather_1 := dk_seg dksX3_gather_0 22 rfl rfl
theorem dksX3_gather_2 : cX3_gather.data.toList.drop 46 = dktX3_gather_2 := dk_seg dksX3_gather_1 24 rfl rfl
theorem dksX3_gather_3 : cX3_gather.data.toList.drop 69 = dktX3_gather_3 := dk_seg dksX3_gather_2 23 rfl rfl
theorem dksX3_gather_4 : cX3_gather.data.toList.drop 91 = dktX3_gather_4 := dk_seg dksX3_gather_3 22 rfl rfl
theorem dksX3_gather_5 : cX3_gather.data.toList.drop 115 = dktX3_gather_5 := dk_seg dksX3_gather_4 24 rfl rfl
theorem dX3_gather_0 : decode cX3_gather 0 = .ok (.iload_n 2, 1) := dk_28 (dk_at dksX3_gather_0 0 rfl rfl)
theorem dX3_gather_1 : decode cX3_gather 1 = .ok (.i2l, 1) := dk_133 (dk_at dksX3_gather_0 1 rfl rfl)
theorem dX3_gather_2 : decode cX3_gather 2 = .ok (.lconst 0, 1) := dk_9 (dk_at dksX3_gather_0 2 rfl rfl)
theorem dX3_gather_3 : decode cX3_gather 3 = .ok (.ldc2_w 180, 3) := dk_20 0 180 (dk_at dksX3_gather_0 3 rfl rfl)
theorem dX3_gather_6 : decode cX3_gather 6 = .ok (.invokestatic 101, 3) := dk_184 0 101 (dk_at dksX3_gather_0 6 rfl rfl)
theorem dX3_gather_9 : decode cX3_gather 9 = .ok (.ifCond .ne 6, 3) := dk_154 0 6 (dk_at dksX3_gather_0 9 rfl rfl)
theorem dX3_gather_12 : decode cX3_gather 12 = .ok (.ldc 116, 2) := dk_18 116 (dk_at dksX3_gather_0 12 rfl rfl)
theorem dX3_gather_14 : decode cX3_gather 14 = .ok (.ireturn, 1) := dk_172 (dk_at dksX3_gather_0 14 rfl rfl)
theorem dX3_gather_15 : decode cX3_gather 15 = .ok (.aload_n 0, 1) := dk_42 (dk_at dksX3_gather_0 15 rfl rfl)
theorem dX3_gather_16 : decode cX3_gather 16 = .ok (.iload_n 1, 1) := dk_27 (dk_at dksX3_gather_0 16 rfl rfl)
theorem dX3_gather_17 : decode cX3_gather 17 = .ok (.invokevirtual 135, 3) := dk_182 0 135 (dk_at dksX3_gather_0 17 rfl rfl)
theorem dX3_gather_20 : decode cX3_gather 20 = .ok (.istore_n 3, 1) := dk_62 (dk_at dksX3_gather_0 20 rfl rfl)
theorem dX3_gather_21 : decode cX3_gather 21 = .ok (.iload_n 3, 1) := dk_29 (dk_at dksX3_gather_0 21 rfl rfl)
theorem dX3_gather_22 : decode cX3_gather 22 = .ok (.ifCond .eq 9, 3) := dk_153 0 9 (dk_at dksX3_gather_1 0 rfl rfl)
theorem dX3_gather_25 : decode cX3_gather 25 = .ok (.aload_n 0, 1) := dk_42 (dk_at dksX3_gather_1 3 rfl rfl)
theorem dX3_gather_26 : decode cX3_gather 26 = .ok (.iload_n 3, 1) := dk_29 (dk_at dksX3_gather_1 4 rfl rfl)
theorem dX3_gather_27 : decode cX3_gather 27 = .ok (.invokevirtual 68, 3) := dk_182 0 68 (dk_at dksX3_gather_1 5 rfl rfl)
theorem dX3_gather_30 : decode cX3_gather 30 = .ok (.ireturn, 1) := dk_172 (dk_at dksX3_gather_1 8 rfl rfl)
theorem dX3_gather_31 : decode cX3_gather 31 = .ok (.iconst 0, 1) := dk_3 (dk_at dksX3_gather_1 9 rfl rfl)
theorem dX3_gather_32 : decode cX3_gather 32 = .ok (.istore 4, 2) := dk_54 4 (dk_at dksX3_gather_1 10 rfl rfl)
theorem dX3_gather_34 : decode cX3_gather 34 = .ok (.iload 4, 2) := dk_21 4 (dk_at dksX3_gather_1 12 rfl rfl)
theorem dX3_gather_36 : decode cX3_gather 36 = .ok (.aload_n 0, 1) := dk_42 (dk_at dksX3_gather_1 14 rfl rfl)
theorem dX3_gather_37 : decode cX3_gather 37 = .ok (.getfield 175, 3) := dk_180 0 175 (dk_at dksX3_gather_1 15 rfl rfl)
theorem dX3_gather_40 : decode cX3_gather 40 = .ok (.if_icmp .ge 78, 3) := dk_162 0 78 (dk_at dksX3_gather_1 18 rfl rfl)
theorem dX3_gather_43 : decode cX3_gather 43 = .ok (.aload_n 0, 1) := dk_42 (dk_at dksX3_gather_1 21 rfl rfl)
theorem dX3_gather_44 : decode cX3_gather 44 = .ok (.iload_n 1, 1) := dk_27 (dk_at dksX3_gather_1 22 rfl rfl)
theorem dX3_gather_45 : decode cX3_gather 45 = .ok (.aload_n 0, 1) := dk_42 (dk_at dksX3_gather_1 23 rfl rfl)
theorem dX3_gather_46 : decode cX3_gather 46 = .ok (.getfield 53, 3) := dk_180 0 53 (dk_at dksX3_gather_2 0 rfl rfl)
theorem dX3_gather_49 : decode cX3_gather 49 = .ok (.iload 4, 2) := dk_21 4 (dk_at dksX3_gather_2 3 rfl rfl)
theorem dX3_gather_51 : decode cX3_gather 51 = .ok (.iaload, 1) := dk_46 (dk_at dksX3_gather_2 5 rfl rfl)
theorem dX3_gather_52 : decode cX3_gather 52 = .ok (.aload_n 0, 1) := dk_42 (dk_at dksX3_gather_2 6 rfl rfl)
theorem dX3_gather_53 : decode cX3_gather 53 = .ok (.getfield 56, 3) := dk_180 0 56 (dk_at dksX3_gather_2 7 rfl rfl)
theorem dX3_gather_56 : decode cX3_gather 56 = .ok (.iload 4, 2) := dk_21 4 (dk_at dksX3_gather_2 10 rfl rfl)
theorem dX3_gather_58 : decode cX3_gather 58 = .ok (.iaload, 1) := dk_46 (dk_at dksX3_gather_2 12 rfl rfl)
theorem dX3_gather_59 : decode cX3_gather 59 = .ok (.aload_n 0, 1) := dk_42 (dk_at dksX3_gather_2 13 rfl rfl)
theorem dX3_gather_60 : decode cX3_gather 60 = .ok (.getfield 59, 3) := dk_180 0 59 (dk_at dksX3_gather_2 14 rfl rfl)
theorem dX3_gather_63 : decode cX3_gather 63 = .ok (.iload 4, 2) := dk_21 4 (dk_at dksX3_gather_2 17 rfl rfl)
theorem dX3_gather_65 : decode cX3_gather 65 = .ok (.iaload, 1) := dk_46 (dk_at dksX3_gather_2 19 rfl rfl)
theorem dX3_gather_66 : decode cX3_gather 66 = .ok (.invokevirtual 164, 3) := dk_182 0 164 (dk_at dksX3_gather_2 20 rfl rfl)
theorem dX3_gather_69 : decode cX3_gather 69 = .ok (.istore 5, 2) := dk_54 5 (dk_at dksX3_gather_3 0 rfl rfl)
theorem dX3_gather_71 : decode cX3_gather 71 = .ok (.iload 5, 2) := dk_21 5 (dk_at dksX3_gather_3 2 rfl rfl)
theorem dX3_gather_73 : decode cX3_gather 73 = .ok (.iconst (-1), 1) := dk_2 (dk_at dksX3_gather_3 4 rfl rfl)
theorem dX3_gather_74 : decode cX3_gather 74 = .ok (.if_icmp .ne 6, 3) := dk_160 0 6 (dk_at dksX3_gather_3 5 rfl rfl)
theorem dX3_gather_77 : decode cX3_gather 77 = .ok (.iload 4, 2) := dk_21 4 (dk_at dksX3_gather_3 8 rfl rfl)
theorem dX3_gather_79 : decode cX3_gather 79 = .ok (.ireturn, 1) := dk_172 (dk_at dksX3_gather_3 10 rfl rfl)
theorem dX3_gather_80 : decode cX3_gather 80 = .ok (.aload_n 0, 1) := dk_42 (dk_at dksX3_gather_3 11 rfl rfl)
theorem dX3_gather_81 : decode cX3_gather 81 = .ok (.iload 5, 2) := dk_21 5 (dk_at dksX3_gather_3 12 rfl rfl)
theorem dX3_gather_83 : decode cX3_gather 83 = .ok (.aload_n 0, 1) := dk_42 (dk_at dksX3_gather_3 14 rfl rfl)
theorem dX3_gather_84 : decode cX3_gather 84 = .ok (.getfield 20, 3) := dk_180 0 20 (dk_at dksX3_gather_3 15 rfl rfl)
theorem dX3_gather_87 : decode cX3_gather 87 = .ok (.iload_n 1, 1) := dk_27 (dk_at dksX3_gather_3 18 rfl rfl)
theorem dX3_gather_88 : decode cX3_gather 88 = .ok (.iaload, 1) := dk_46 (dk_at dksX3_gather_3 19 rfl rfl)
theorem dX3_gather_89 : decode cX3_gather 89 = .ok (.iload_n 2, 1) := dk_28 (dk_at dksX3_gather_3 20 rfl rfl)
theorem dX3_gather_90 : decode cX3_gather 90 = .ok (.aload_n 0, 1) := dk_42 (dk_at dksX3_gather_3 21 rfl rfl)
theorem dX3_gather_91 : decode cX3_gather 91 = .ok (.getfield 62, 3) := dk_180 0 62 (dk_at dksX3_gather_4 0 rfl rfl)
theorem dX3_gather_94 : decode cX3_gather 94 = .ok (.iload 4, 2) := dk_21 4 (dk_at dksX3_gather_4 3 rfl rfl)
theorem dX3_gather_96 : decode cX3_gather 96 = .ok (.laload, 1) := dk_47 (dk_at dksX3_gather_4 5 rfl rfl)
theorem dX3_gather_97 : decode cX3_gather 97 = .ok (.invokevirtual 182, 3) := dk_182 0 182 (dk_at dksX3_gather_4 6 rfl rfl)
theorem dX3_gather_100 : decode cX3_gather 100 = .ok (.ifCond .ne 12, 3) := dk_154 0 12 (dk_at dksX3_gather_4 9 rfl rfl)
theorem dX3_gather_103 : decode cX3_gather 103 = .ok (.aload_n 0, 1) := dk_42 (dk_at dksX3_gather_4 12 rfl rfl)
theorem dX3_gather_104 : decode cX3_gather 104 = .ok (.bipush 6, 2) := dk_16 6 (dk_at dksX3_gather_4 13 rfl rfl)
theorem dX3_gather_106 : decode cX3_gather 106 = .ok (.putfield 65, 3) := dk_181 0 65 (dk_at dksX3_gather_4 15 rfl rfl)
theorem dX3_gather_109 : decode cX3_gather 109 = .ok (.iload 4, 2) := dk_21 4 (dk_at dksX3_gather_4 18 rfl rfl)
theorem dX3_gather_111 : decode cX3_gather 111 = .ok (.ireturn, 1) := dk_172 (dk_at dksX3_gather_4 20 rfl rfl)
theorem dX3_gather_112 : decode cX3_gather 112 = .ok (.iinc 4 1, 3) := dk_132 4 1 (dk_at dksX3_gather_4 21 rfl rfl)
theorem dX3_gather_115 : decode cX3_gather 115 = .ok (.goto (-81), 3) := dk_167 255 175 (dk_at dksX3_gather_5 0 rfl rfl)
theorem dX3_gather_118 : decode cX3_gather 118 = .ok (.aload_n 0, 1) := dk_42 (dk_at dksX3_gather_5 3 rfl rfl)
theorem dX3_gather_119 : decode cX3_gather 119 = .ok (.getfield 175, 3) := dk_180 0 175 (dk_at dksX3_gather_5 4 rfl rfl)
theorem dX3_gather_122 : decode cX3_gather 122 = .ok (.istore 4, 2) := dk_54 4 (dk_at dksX3_gather_5 7 rfl rfl)
theorem dX3_gather_124 : decode cX3_gather 124 = .ok (.aload_n 0, 1) := dk_42 (dk_at dksX3_gather_5 9 rfl rfl)
theorem dX3_gather_125 : decode cX3_gather 125 = .ok (.iconst 0, 1) := dk_3 (dk_at dksX3_gather_5 10 rfl rfl)
theorem dX3_gather_126 : decode cX3_gather 126 = .ok (.putfield 175, 3) := dk_181 0 175 (dk_at dksX3_gather_5 11 rfl rfl)
theorem dX3_gather_129 : decode cX3_gather 129 = .ok (.aload_n 0, 1) := dk_42 (dk_at dksX3_gather_5 14 rfl rfl)
theorem dX3_gather_130 : decode cX3_gather 130 = .ok (.iload 4, 2) := dk_21 4 (dk_at dksX3_gather_5 15 rfl rfl)
theorem dX3_gather_132 : decode cX3_gather 132 = .ok (.invokevirtual 75, 3) := dk_182 0 75 (dk_at dksX3_gather_5 17 rfl rfl)
theorem dX3_gather_135 : decode cX3_gather 135 = .ok (.ireturn, 1) := dk_172 (dk_at dksX3_gather_5 20 rfl rfl)
abbrev cX3_joins : ByteArray := prog_6_method_42_code
def yX3_joins : MethodName := ⟨RX3, "joins", "(IIIJ)Z"⟩
def dkwX3_joins_7 : List UInt8 := [22, 6, 22, 4, 113, 55, 8, 42, 27, 28, 22, 8, 182, 0, 171, 4, 172]
abbrev dktX3_joins_7 : List UInt8 := dkwX3_joins_7 ++ []
def dkwX3_joins_6 : List UInt8 := [55, 8, 167, 0, 28, 29, 8, 160, 0, 23, 22, 4, 20, 0, 178, 148, 154, 0, 7, 9, 167, 0, 8]
abbrev dktX3_joins_6 : List UInt8 := dkwX3_joins_6 ++ dktX3_joins_7
def dkwX3_joins_5 : List UInt8 := [160, 0, 29, 22, 4, 20, 0, 178, 148, 154, 0, 10, 9, 22, 6, 101, 167, 0, 8, 22, 6, 22, 4, 109]
abbrev dktX3_joins_5 : List UInt8 := dkwX3_joins_5 ++ dktX3_joins_6
def dkwX3_joins_4 : List UInt8 := [22, 6, 22, 4, 148, 156, 0, 8, 22, 6, 167, 0, 5, 22, 4, 55, 8, 167, 0, 59, 29, 7]
abbrev dktX3_joins_4 : List UInt8 := dkwX3_joins_4 ++ dktX3_joins_5
def dkwX3_joins_3 : List UInt8 := [22, 4, 148, 158, 0, 8, 22, 6, 167, 0, 5, 22, 4, 55, 8, 167, 0, 84, 29, 6, 160, 0, 23]
abbrev dktX3_joins_3 : List UInt8 := dkwX3_joins_3 ++ dktX3_joins_4
def dkwX3_joins_2 : List UInt8 := [55, 8, 29, 4, 160, 0, 13, 22, 6, 22, 4, 97, 55, 8, 167, 0, 109, 29, 5, 160, 0, 23, 22, 6]
abbrev dktX3_joins_2 : List UInt8 := dkwX3_joins_2 ++ dktX3_joins_3
def dkwX3_joins_1 : List UInt8 := [42, 180, 0, 42, 27, 47, 55, 6, 29, 6, 164, 0, 12, 22, 4, 9, 148, 154, 0, 5, 3, 172, 22, 4]
abbrev dktX3_joins_1 : List UInt8 := dkwX3_joins_1 ++ dktX3_joins_2
def dkwX3_joins_0 : List UInt8 := [28, 6, 160, 0, 22, 42, 180, 0, 46, 27, 51, 154, 0, 13, 42, 27, 28, 22, 4, 182, 0, 171, 4, 172]
abbrev dktX3_joins_0 : List UInt8 := dkwX3_joins_0 ++ dktX3_joins_1
theorem dksX3_joins_0 : cX3_joins.data.toList.drop 0 = dktX3_joins_0 := by decide +kernel
theorem dksX3_joins_1 : cX3_joins.data.toList.drop 24 = dktX3_joins_1 := dk_seg dksX3_joins_0 24 rfl rfl
theorem dksX3_joins_2 : cX3_joins.data.toList.drop 48 = dktX3_joins_2 := dk_seg dksX3_joins_1 24 rfl rfl
theorem dksX3_joins_3 : cX3_joins.data.toList.drop 72 = dktX3_joins_3 := dk_seg dksX3_joins_2 24 rfl rfl
theorem dksX3_joins_4 : cX3_joins.data.toList.drop 95 = dktX3_joins_4 := dk_seg dksX3_joins_3 23 rfl rfl
theorem dksX3_joins_5 : cX3_joins.data.toList.drop 117 = dktX3_joins_5 := dk_seg dksX3_joins_4 22 rfl rfl
theorem dksX3_joins_6 : cX3_joins.data.toList.drop 141 = dktX3_joins_6 := dk_seg dksX3_joins_5 24 rfl rfl
theorem dksX3_joins_7 : cX3_joins.data.toList.drop 164 = dktX3_joins_7 := dk_seg dksX3_joins_6 23 rfl rfl
theorem dX3_joins_0 : decode cX3_joins 0 = .ok (.iload_n 2, 1) := dk_28 (dk_at dksX3_joins_0 0 rfl rfl)
theorem dX3_joins_1 : decode cX3_joins 1 = .ok (.iconst 3, 1) := dk_6 (dk_at dksX3_joins_0 1 rfl rfl)
theorem dX3_joins_2 : decode cX3_joins 2 = .ok (.if_icmp .ne 22, 3) := dk_160 0 22 (dk_at dksX3_joins_0 2 rfl rfl)
theorem dX3_joins_5 : decode cX3_joins 5 = .ok (.aload_n 0, 1) := dk_42 (dk_at dksX3_joins_0 5 rfl rfl)
theorem dX3_joins_6 : decode cX3_joins 6 = .ok (.getfield 46, 3) := dk_180 0 46 (dk_at dksX3_joins_0 6 rfl rfl)
theorem dX3_joins_9 : decode cX3_joins 9 = .ok (.iload_n 1, 1) := dk_27 (dk_at dksX3_joins_0 9 rfl rfl)
theorem dX3_joins_10 : decode cX3_joins 10 = .ok (.baload, 1) := dk_51 (dk_at dksX3_joins_0 10 rfl rfl)
theorem dX3_joins_11 : decode cX3_joins 11 = .ok (.ifCond .ne 13, 3) := dk_154 0 13 (dk_at dksX3_joins_0 11 rfl rfl)
theorem dX3_joins_14 : decode cX3_joins 14 = .ok (.aload_n 0, 1) := dk_42 (dk_at dksX3_joins_0 14 rfl rfl)
theorem dX3_joins_15 : decode cX3_joins 15 = .ok (.iload_n 1, 1) := dk_27 (dk_at dksX3_joins_0 15 rfl rfl)
theorem dX3_joins_16 : decode cX3_joins 16 = .ok (.iload_n 2, 1) := dk_28 (dk_at dksX3_joins_0 16 rfl rfl)
theorem dX3_joins_17 : decode cX3_joins 17 = .ok (.lload 4, 2) := dk_22 4 (dk_at dksX3_joins_0 17 rfl rfl)
theorem dX3_joins_19 : decode cX3_joins 19 = .ok (.invokevirtual 171, 3) := dk_182 0 171 (dk_at dksX3_joins_0 19 rfl rfl)
theorem dX3_joins_22 : decode cX3_joins 22 = .ok (.iconst 1, 1) := dk_4 (dk_at dksX3_joins_0 22 rfl rfl)
theorem dX3_joins_23 : decode cX3_joins 23 = .ok (.ireturn, 1) := dk_172 (dk_at dksX3_joins_0 23 rfl rfl)
theorem dX3_joins_24 : decode cX3_joins 24 = .ok (.aload_n 0, 1) := dk_42 (dk_at dksX3_joins_1 0 rfl rfl)
theorem dX3_joins_25 : decode cX3_joins 25 = .ok (.getfield 42, 3) := dk_180 0 42 (dk_at dksX3_joins_1 1 rfl rfl)
theorem dX3_joins_28 : decode cX3_joins 28 = .ok (.iload_n 1, 1) := dk_27 (dk_at dksX3_joins_1 4 rfl rfl)
theorem dX3_joins_29 : decode cX3_joins 29 = .ok (.laload, 1) := dk_47 (dk_at dksX3_joins_1 5 rfl rfl)
theorem dX3_joins_30 : decode cX3_joins 30 = .ok (.lstore 6, 2) := dk_55 6 (dk_at dksX3_joins_1 6 rfl rfl)
theorem dX3_joins_32 : decode cX3_joins 32 = .ok (.iload_n 3, 1) := dk_29 (dk_at dksX3_joins_1 8 rfl rfl)
theorem dX3_joins_33 : decode cX3_joins 33 = .ok (.iconst 3, 1) := dk_6 (dk_at dksX3_joins_1 9 rfl rfl)
theorem dX3_joins_34 : decode cX3_joins 34 = .ok (.if_icmp .le 12, 3) := dk_164 0 12 (dk_at dksX3_joins_1 10 rfl rfl)
theorem dX3_joins_37 : decode cX3_joins 37 = .ok (.lload 4, 2) := dk_22 4 (dk_at dksX3_joins_1 13 rfl rfl)
theorem dX3_joins_39 : decode cX3_joins 39 = .ok (.lconst 0, 1) := dk_9 (dk_at dksX3_joins_1 15 rfl rfl)
theorem dX3_joins_40 : decode cX3_joins 40 = .ok (.lcmp, 1) := dk_148 (dk_at dksX3_joins_1 16 rfl rfl)
theorem dX3_joins_41 : decode cX3_joins 41 = .ok (.ifCond .ne 5, 3) := dk_154 0 5 (dk_at dksX3_joins_1 17 rfl rfl)
theorem dX3_joins_44 : decode cX3_joins 44 = .ok (.iconst 0, 1) := dk_3 (dk_at dksX3_joins_1 20 rfl rfl)
theorem dX3_joins_45 : decode cX3_joins 45 = .ok (.ireturn, 1) := dk_172 (dk_at dksX3_joins_1 21 rfl rfl)
theorem dX3_joins_46 : decode cX3_joins 46 = .ok (.lload 4, 2) := dk_22 4 (dk_at dksX3_joins_1 22 rfl rfl)
theorem dX3_joins_48 : decode cX3_joins 48 = .ok (.lstore 8, 2) := dk_55 8 (dk_at dksX3_joins_2 0 rfl rfl)
theorem dX3_joins_50 : decode cX3_joins 50 = .ok (.iload_n 3, 1) := dk_29 (dk_at dksX3_joins_2 2 rfl rfl)
theorem dX3_joins_51 : decode cX3_joins 51 = .ok (.iconst 1, 1) := dk_4 (dk_at dksX3_joins_2 3 rfl rfl)
theorem dX3_joins_52 : decode cX3_joins 52 = .ok (.if_icmp .ne 13, 3) := dk_160 0 13 (dk_at dksX3_joins_2 4 rfl rfl)
theorem dX3_joins_55 : decode cX3_joins 55 = .ok (.lload 6, 2) := dk_22 6 (dk_at dksX3_joins_2 7 rfl rfl)
theorem dX3_joins_57 : decode cX3_joins 57 = .ok (.lload 4, 2) := dk_22 4 (dk_at dksX3_joins_2 9 rfl rfl)
theorem dX3_joins_59 : decode cX3_joins 59 = .ok (.ladd, 1) := dk_97 (dk_at dksX3_joins_2 11 rfl rfl)
theorem dX3_joins_60 : decode cX3_joins 60 = .ok (.lstore 8, 2) := dk_55 8 (dk_at dksX3_joins_2 12 rfl rfl)
theorem dX3_joins_62 : decode cX3_joins 62 = .ok (.goto 109, 3) := dk_167 0 109 (dk_at dksX3_joins_2 14 rfl rfl)
theorem dX3_joins_65 : decode cX3_joins 65 = .ok (.iload_n 3, 1) := dk_29 (dk_at dksX3_joins_2 17 rfl rfl)
theorem dX3_joins_66 : decode cX3_joins 66 = .ok (.iconst 2, 1) := dk_5 (dk_at dksX3_joins_2 18 rfl rfl)
theorem dX3_joins_67 : decode cX3_joins 67 = .ok (.if_icmp .ne 23, 3) := dk_160 0 23 (dk_at dksX3_joins_2 19 rfl rfl)
theorem dX3_joins_70 : decode cX3_joins 70 = .ok (.lload 6, 2) := dk_22 6 (dk_at dksX3_joins_2 22 rfl rfl)
theorem dX3_joins_72 : decode cX3_joins 72 = .ok (.lload 4, 2) := dk_22 4 (dk_at dksX3_joins_3 0 rfl rfl)
theorem dX3_joins_74 : decode cX3_joins 74 = .ok (.lcmp, 1) := dk_148 (dk_at dksX3_joins_3 2 rfl rfl)
theorem dX3_joins_75 : decode cX3_joins 75 = .ok (.ifCond .le 8, 3) := dk_158 0 8 (dk_at dksX3_joins_3 3 rfl rfl)
theorem dX3_joins_78 : decode cX3_joins 78 = .ok (.lload 6, 2) := dk_22 6 (dk_at dksX3_joins_3 6 rfl rfl)
theorem dX3_joins_80 : decode cX3_joins 80 = .ok (.goto 5, 3) := dk_167 0 5 (dk_at dksX3_joins_3 8 rfl rfl)
theorem dX3_joins_83 : decode cX3_joins 83 = .ok (.lload 4, 2) := dk_22 4 (dk_at dksX3_joins_3 11 rfl rfl)
theorem dX3_joins_85 : decode cX3_joins 85 = .ok (.lstore 8, 2) := dk_55 8 (dk_at dksX3_joins_3 13 rfl rfl)
theorem dX3_joins_87 : decode cX3_joins 87 = .ok (.goto 84, 3) := dk_167 0 84 (dk_at dksX3_joins_3 15 rfl rfl)
theorem dX3_joins_90 : decode cX3_joins 90 = .ok (.iload_n 3, 1) := dk_29 (dk_at dksX3_joins_3 18 rfl rfl)
theorem dX3_joins_91 : decode cX3_joins 91 = .ok (.iconst 3, 1) := dk_6 (dk_at dksX3_joins_3 19 rfl rfl)
theorem dX3_joins_92 : decode cX3_joins 92 = .ok (.if_icmp .ne 23, 3) := dk_160 0 23 (dk_at dksX3_joins_3 20 rfl rfl)
theorem dX3_joins_95 : decode cX3_joins 95 = .ok (.lload 6, 2) := dk_22 6 (dk_at dksX3_joins_4 0 rfl rfl)
theorem dX3_joins_97 : decode cX3_joins 97 = .ok (.lload 4, 2) := dk_22 4 (dk_at dksX3_joins_4 2 rfl rfl)
theorem dX3_joins_99 : decode cX3_joins 99 = .ok (.lcmp, 1) := dk_148 (dk_at dksX3_joins_4 4 rfl rfl)
theorem dX3_joins_100 : decode cX3_joins 100 = .ok (.ifCond .ge 8, 3) := dk_156 0 8 (dk_at dksX3_joins_4 5 rfl rfl)
theorem dX3_joins_103 : decode cX3_joins 103 = .ok (.lload 6, 2) := dk_22 6 (dk_at dksX3_joins_4 8 rfl rfl)
theorem dX3_joins_105 : decode cX3_joins 105 = .ok (.goto 5, 3) := dk_167 0 5 (dk_at dksX3_joins_4 10 rfl rfl)
theorem dX3_joins_108 : decode cX3_joins 108 = .ok (.lload 4, 2) := dk_22 4 (dk_at dksX3_joins_4 13 rfl rfl)
theorem dX3_joins_110 : decode cX3_joins 110 = .ok (.lstore 8, 2) := dk_55 8 (dk_at dksX3_joins_4 15 rfl rfl)
theorem dX3_joins_112 : decode cX3_joins 112 = .ok (.goto 59, 3) := dk_167 0 59 (dk_at dksX3_joins_4 17 rfl rfl)
theorem dX3_joins_115 : decode cX3_joins 115 = .ok (.iload_n 3, 1) := dk_29 (dk_at dksX3_joins_4 20 rfl rfl)
theorem dX3_joins_116 : decode cX3_joins 116 = .ok (.iconst 4, 1) := dk_7 (dk_at dksX3_joins_4 21 rfl rfl)
theorem dX3_joins_117 : decode cX3_joins 117 = .ok (.if_icmp .ne 29, 3) := dk_160 0 29 (dk_at dksX3_joins_5 0 rfl rfl)
theorem dX3_joins_120 : decode cX3_joins 120 = .ok (.lload 4, 2) := dk_22 4 (dk_at dksX3_joins_5 3 rfl rfl)
theorem dX3_joins_122 : decode cX3_joins 122 = .ok (.ldc2_w 178, 3) := dk_20 0 178 (dk_at dksX3_joins_5 5 rfl rfl)
theorem dX3_joins_125 : decode cX3_joins 125 = .ok (.lcmp, 1) := dk_148 (dk_at dksX3_joins_5 8 rfl rfl)
theorem dX3_joins_126 : decode cX3_joins 126 = .ok (.ifCond .ne 10, 3) := dk_154 0 10 (dk_at dksX3_joins_5 9 rfl rfl)
theorem dX3_joins_129 : decode cX3_joins 129 = .ok (.lconst 0, 1) := dk_9 (dk_at dksX3_joins_5 12 rfl rfl)
theorem dX3_joins_130 : decode cX3_joins 130 = .ok (.lload 6, 2) := dk_22 6 (dk_at dksX3_joins_5 13 rfl rfl)
theorem dX3_joins_132 : decode cX3_joins 132 = .ok (.lsub, 1) := dk_101 (dk_at dksX3_joins_5 15 rfl rfl)
theorem dX3_joins_133 : decode cX3_joins 133 = .ok (.goto 8, 3) := dk_167 0 8 (dk_at dksX3_joins_5 16 rfl rfl)
theorem dX3_joins_136 : decode cX3_joins 136 = .ok (.lload 6, 2) := dk_22 6 (dk_at dksX3_joins_5 19 rfl rfl)
theorem dX3_joins_138 : decode cX3_joins 138 = .ok (.lload 4, 2) := dk_22 4 (dk_at dksX3_joins_5 21 rfl rfl)
theorem dX3_joins_140 : decode cX3_joins 140 = .ok (.ldiv, 1) := dk_109 (dk_at dksX3_joins_5 23 rfl rfl)
theorem dX3_joins_141 : decode cX3_joins 141 = .ok (.lstore 8, 2) := dk_55 8 (dk_at dksX3_joins_6 0 rfl rfl)
theorem dX3_joins_143 : decode cX3_joins 143 = .ok (.goto 28, 3) := dk_167 0 28 (dk_at dksX3_joins_6 2 rfl rfl)
theorem dX3_joins_146 : decode cX3_joins 146 = .ok (.iload_n 3, 1) := dk_29 (dk_at dksX3_joins_6 5 rfl rfl)
theorem dX3_joins_147 : decode cX3_joins 147 = .ok (.iconst 5, 1) := dk_8 (dk_at dksX3_joins_6 6 rfl rfl)
theorem dX3_joins_148 : decode cX3_joins 148 = .ok (.if_icmp .ne 23, 3) := dk_160 0 23 (dk_at dksX3_joins_6 7 rfl rfl)
theorem dX3_joins_151 : decode cX3_joins 151 = .ok (.lload 4, 2) := dk_22 4 (dk_at dksX3_joins_6 10 rfl rfl)
theorem dX3_joins_153 : decode cX3_joins 153 = .ok (.ldc2_w 178, 3) := dk_20 0 178 (dk_at dksX3_joins_6 12 rfl rfl)
theorem dX3_joins_156 : decode cX3_joins 156 = .ok (.lcmp, 1) := dk_148 (dk_at dksX3_joins_6 15 rfl rfl)
theorem dX3_joins_157 : decode cX3_joins 157 = .ok (.ifCond .ne 7, 3) := dk_154 0 7 (dk_at dksX3_joins_6 16 rfl rfl)
theorem dX3_joins_160 : decode cX3_joins 160 = .ok (.lconst 0, 1) := dk_9 (dk_at dksX3_joins_6 19 rfl rfl)
theorem dX3_joins_161 : decode cX3_joins 161 = .ok (.goto 8, 3) := dk_167 0 8 (dk_at dksX3_joins_6 20 rfl rfl)
theorem dX3_joins_164 : decode cX3_joins 164 = .ok (.lload 6, 2) := dk_22 6 (dk_at dksX3_joins_7 0 rfl rfl)
theorem dX3_joins_166 : decode cX3_joins 166 = .ok (.lload 4, 2) := dk_22 4 (dk_at dksX3_joins_7 2 rfl rfl)
theorem dX3_joins_168 : decode cX3_joins 168 = .ok (.lrem, 1) := dk_113 (dk_at dksX3_joins_7 4 rfl rfl)
theorem dX3_joins_169 : decode cX3_joins 169 = .ok (.lstore 8, 2) := dk_55 8 (dk_at dksX3_joins_7 5 rfl rfl)
theorem dX3_joins_171 : decode cX3_joins 171 = .ok (.aload_n 0, 1) := dk_42 (dk_at dksX3_joins_7 7 rfl rfl)
theorem dX3_joins_172 : decode cX3_joins 172 = .ok (.iload_n 1, 1) := dk_27 (dk_at dksX3_joins_7 8 rfl rfl)
theorem dX3_joins_173 : decode cX3_joins 173 = .ok (.iload_n 2, 1) := dk_28 (dk_at dksX3_joins_7 9 rfl rfl)
theorem dX3_joins_174 : decode cX3_joins 174 = .ok (.lload 8, 2) := dk_22 8 (dk_at dksX3_joins_7 10 rfl rfl)
theorem dX3_joins_176 : decode cX3_joins 176 = .ok (.invokevirtual 171, 3) := dk_182 0 171 (dk_at dksX3_joins_7 12 rfl rfl)
theorem dX3_joins_179 : decode cX3_joins 179 = .ok (.iconst 1, 1) := dk_4 (dk_at dksX3_joins_7 15 rfl rfl)
theorem dX3_joins_180 : decode cX3_joins 180 = .ok (.ireturn, 1) := dk_172 (dk_at dksX3_joins_7 16 rfl rfl)
abbrev cX3_join : ByteArray := prog_6_method_44_code
def yX3_join : MethodName := ⟨RX3, "join", "(III)I"⟩
def dkwX3_join_9 : List UInt8 := [167, 255, 154, 42, 21, 4, 182, 0, 75, 172]
abbrev dktX3_join_9 : List UInt8 := dkwX3_join_9 ++ []
def dkwX3_join_8 : List UInt8 := [180, 0, 42, 21, 7, 47, 182, 0, 182, 154, 0, 12, 42, 16, 6, 181, 0, 65, 21, 5, 172, 132, 5, 1]
abbrev dktX3_join_8 : List UInt8 := dkwX3_join_8 ++ dktX3_join_9
def dkwX3_join_7 : List UInt8 := [154, 0, 11, 42, 4, 181, 0, 65, 21, 5, 172, 42, 21, 6, 42, 180, 0, 20, 27, 46, 29, 42]
abbrev dktX3_join_7 : List UInt8 := dkwX3_join_7 ++ dktX3_join_8
def dkwX3_join_6 : List UInt8 := [46, 46, 21, 5, 96, 54, 7, 42, 180, 0, 20, 28, 46, 6, 160, 0, 21, 42, 180, 0, 46, 21, 7, 51]
abbrev dktX3_join_6 : List UInt8 := dkwX3_join_6 ++ dktX3_join_7
def dkwX3_join_5 : List UInt8 := [180, 0, 35, 42, 180, 0, 32, 27, 46, 46, 21, 5, 96, 54, 6, 42, 180, 0, 35, 42, 180, 0, 32, 28]
abbrev dktX3_join_5 : List UInt8 := dkwX3_join_5 ++ dktX3_join_6
def dkwX3_join_4 : List UInt8 := [46, 159, 0, 10, 42, 16, 10, 182, 0, 68, 172, 3, 54, 5, 21, 5, 21, 4, 162, 0, 101, 42]
abbrev dktX3_join_4 : List UInt8 := dkwX3_join_4 ++ dktX3_join_5
def dkwX3_join_3 : List UInt8 := [180, 0, 38, 42, 180, 0, 32, 27, 46, 46, 54, 4, 21, 4, 42, 180, 0, 38, 42, 180, 0, 32, 28, 46]
abbrev dktX3_join_3 : List UInt8 := dkwX3_join_3 ++ dktX3_join_4
def dkwX3_join_2 : List UInt8 := [28, 46, 160, 0, 13, 42, 180, 0, 20, 27, 46, 7, 160, 0, 9, 42, 5, 182, 0, 68, 172, 42]
abbrev dktX3_join_2 : List UInt8 := dkwX3_join_2 ++ dktX3_join_3
def dkwX3_join_1 : List UInt8 := [28, 182, 0, 131, 154, 0, 10, 42, 16, 7, 182, 0, 68, 172, 42, 180, 0, 20, 27, 46, 42, 180, 0, 20]
abbrev dktX3_join_1 : List UInt8 := dkwX3_join_1 ++ dktX3_join_2
def dkwX3_join_0 : List UInt8 := [29, 133, 9, 20, 0, 180, 184, 0, 101, 154, 0, 6, 18, 116, 172, 42, 27, 182, 0, 131, 153, 0, 11, 42]
abbrev dktX3_join_0 : List UInt8 := dkwX3_join_0 ++ dktX3_join_1
theorem dksX3_join_0 : cX3_join.data.toList.drop 0 = dktX3_join_0 := by decide +kernel
theorem dksX3_join_1 : cX3_join.data.toList.drop 24 = dktX3_join_1 := dk_seg dksX3_join_0 24 rfl rfl
theorem dksX3_join_2 : cX3_join.data.toList.drop 48 = dktX3_join_2 := dk_seg dksX3_join_1 24 rfl rfl
theorem dksX3_join_3 : cX3_join.data.toList.drop 70 = dktX3_join_3 := dk_seg dksX3_join_2 22 rfl rfl
theorem dksX3_join_4 : cX3_join.data.toList.drop 94 = dktX3_join_4 := dk_seg dksX3_join_3 24 rfl rfl
theorem dksX3_join_5 : cX3_join.data.toList.drop 116 = dktX3_join_5 := dk_seg dksX3_join_4 22 rfl rfl
theorem dksX3_join_6 : cX3_join.data.toList.drop 140 = dktX3_join_6 := dk_seg dksX3_join_5 24 rfl rfl
theorem dksX3_join_7 : cX3_join.data.toList.drop 164 = dktX3_join_7 := dk_seg dksX3_join_6 24 rfl rfl
theorem dksX3_join_8 : cX3_join.data.toList.drop 186 = dktX3_join_8 := dk_seg dksX3_join_7 22 rfl rfl
theorem dksX3_join_9 : cX3_join.data.toList.drop 210 = dktX3_join_9 := dk_seg dksX3_join_8 24 rfl rfl
theorem dX3_join_0 : decode cX3_join 0 = .ok (.iload_n 3, 1) := dk_29 (dk_at dksX3_join_0 0 rfl rfl)
theorem dX3_join_1 : decode cX3_join 1 = .ok (.i2l, 1) := dk_133 (dk_at dksX3_join_0 1 rfl rfl)
theorem dX3_join_2 : decode cX3_join 2 = .ok (.lconst 0, 1) := dk_9 (dk_at dksX3_join_0 2 rfl rfl)
theorem dX3_join_3 : decode cX3_join 3 = .ok (.ldc2_w 180, 3) := dk_20 0 180 (dk_at dksX3_join_0 3 rfl rfl)
theorem dX3_join_6 : decode cX3_join 6 = .ok (.invokestatic 101, 3) := dk_184 0 101 (dk_at dksX3_join_0 6 rfl rfl)
theorem dX3_join_9 : decode cX3_join 9 = .ok (.ifCond .ne 6, 3) := dk_154 0 6 (dk_at dksX3_join_0 9 rfl rfl)
theorem dX3_join_12 : decode cX3_join 12 = .ok (.ldc 116, 2) := dk_18 116 (dk_at dksX3_join_0 12 rfl rfl)
theorem dX3_join_14 : decode cX3_join 14 = .ok (.ireturn, 1) := dk_172 (dk_at dksX3_join_0 14 rfl rfl)
theorem dX3_join_15 : decode cX3_join 15 = .ok (.aload_n 0, 1) := dk_42 (dk_at dksX3_join_0 15 rfl rfl)
theorem dX3_join_16 : decode cX3_join 16 = .ok (.iload_n 1, 1) := dk_27 (dk_at dksX3_join_0 16 rfl rfl)
theorem dX3_join_17 : decode cX3_join 17 = .ok (.invokevirtual 131, 3) := dk_182 0 131 (dk_at dksX3_join_0 17 rfl rfl)
theorem dX3_join_20 : decode cX3_join 20 = .ok (.ifCond .eq 11, 3) := dk_153 0 11 (dk_at dksX3_join_0 20 rfl rfl)
theorem dX3_join_23 : decode cX3_join 23 = .ok (.aload_n 0, 1) := dk_42 (dk_at dksX3_join_0 23 rfl rfl)
theorem dX3_join_24 : decode cX3_join 24 = .ok (.iload_n 2, 1) := dk_28 (dk_at dksX3_join_1 0 rfl rfl)
theorem dX3_join_25 : decode cX3_join 25 = .ok (.invokevirtual 131, 3) := dk_182 0 131 (dk_at dksX3_join_1 1 rfl rfl)
theorem dX3_join_28 : decode cX3_join 28 = .ok (.ifCond .ne 10, 3) := dk_154 0 10 (dk_at dksX3_join_1 4 rfl rfl)
theorem dX3_join_31 : decode cX3_join 31 = .ok (.aload_n 0, 1) := dk_42 (dk_at dksX3_join_1 7 rfl rfl)
theorem dX3_join_32 : decode cX3_join 32 = .ok (.bipush 7, 2) := dk_16 7 (dk_at dksX3_join_1 8 rfl rfl)
theorem dX3_join_34 : decode cX3_join 34 = .ok (.invokevirtual 68, 3) := dk_182 0 68 (dk_at dksX3_join_1 10 rfl rfl)
theorem dX3_join_37 : decode cX3_join 37 = .ok (.ireturn, 1) := dk_172 (dk_at dksX3_join_1 13 rfl rfl)
theorem dX3_join_38 : decode cX3_join 38 = .ok (.aload_n 0, 1) := dk_42 (dk_at dksX3_join_1 14 rfl rfl)
theorem dX3_join_39 : decode cX3_join 39 = .ok (.getfield 20, 3) := dk_180 0 20 (dk_at dksX3_join_1 15 rfl rfl)
theorem dX3_join_42 : decode cX3_join 42 = .ok (.iload_n 1, 1) := dk_27 (dk_at dksX3_join_1 18 rfl rfl)
theorem dX3_join_43 : decode cX3_join 43 = .ok (.iaload, 1) := dk_46 (dk_at dksX3_join_1 19 rfl rfl)
theorem dX3_join_44 : decode cX3_join 44 = .ok (.aload_n 0, 1) := dk_42 (dk_at dksX3_join_1 20 rfl rfl)
theorem dX3_join_45 : decode cX3_join 45 = .ok (.getfield 20, 3) := dk_180 0 20 (dk_at dksX3_join_1 21 rfl rfl)
theorem dX3_join_48 : decode cX3_join 48 = .ok (.iload_n 2, 1) := dk_28 (dk_at dksX3_join_2 0 rfl rfl)
theorem dX3_join_49 : decode cX3_join 49 = .ok (.iaload, 1) := dk_46 (dk_at dksX3_join_2 1 rfl rfl)
theorem dX3_join_50 : decode cX3_join 50 = .ok (.if_icmp .ne 13, 3) := dk_160 0 13 (dk_at dksX3_join_2 2 rfl rfl)
theorem dX3_join_53 : decode cX3_join 53 = .ok (.aload_n 0, 1) := dk_42 (dk_at dksX3_join_2 5 rfl rfl)
theorem dX3_join_54 : decode cX3_join 54 = .ok (.getfield 20, 3) := dk_180 0 20 (dk_at dksX3_join_2 6 rfl rfl)
theorem dX3_join_57 : decode cX3_join 57 = .ok (.iload_n 1, 1) := dk_27 (dk_at dksX3_join_2 9 rfl rfl)
theorem dX3_join_58 : decode cX3_join 58 = .ok (.iaload, 1) := dk_46 (dk_at dksX3_join_2 10 rfl rfl)
theorem dX3_join_59 : decode cX3_join 59 = .ok (.iconst 4, 1) := dk_7 (dk_at dksX3_join_2 11 rfl rfl)
theorem dX3_join_60 : decode cX3_join 60 = .ok (.if_icmp .ne 9, 3) := dk_160 0 9 (dk_at dksX3_join_2 12 rfl rfl)
theorem dX3_join_63 : decode cX3_join 63 = .ok (.aload_n 0, 1) := dk_42 (dk_at dksX3_join_2 15 rfl rfl)
theorem dX3_join_64 : decode cX3_join 64 = .ok (.iconst 2, 1) := dk_5 (dk_at dksX3_join_2 16 rfl rfl)
theorem dX3_join_65 : decode cX3_join 65 = .ok (.invokevirtual 68, 3) := dk_182 0 68 (dk_at dksX3_join_2 17 rfl rfl)
theorem dX3_join_68 : decode cX3_join 68 = .ok (.ireturn, 1) := dk_172 (dk_at dksX3_join_2 20 rfl rfl)
theorem dX3_join_69 : decode cX3_join 69 = .ok (.aload_n 0, 1) := dk_42 (dk_at dksX3_join_2 21 rfl rfl)
theorem dX3_join_70 : decode cX3_join 70 = .ok (.getfield 38, 3) := dk_180 0 38 (dk_at dksX3_join_3 0 rfl rfl)
theorem dX3_join_73 : decode cX3_join 73 = .ok (.aload_n 0, 1) := dk_42 (dk_at dksX3_join_3 3 rfl rfl)
theorem dX3_join_74 : decode cX3_join 74 = .ok (.getfield 32, 3) := dk_180 0 32 (dk_at dksX3_join_3 4 rfl rfl)
theorem dX3_join_77 : decode cX3_join 77 = .ok (.iload_n 1, 1) := dk_27 (dk_at dksX3_join_3 7 rfl rfl)
theorem dX3_join_78 : decode cX3_join 78 = .ok (.iaload, 1) := dk_46 (dk_at dksX3_join_3 8 rfl rfl)
theorem dX3_join_79 : decode cX3_join 79 = .ok (.iaload, 1) := dk_46 (dk_at dksX3_join_3 9 rfl rfl)
theorem dX3_join_80 : decode cX3_join 80 = .ok (.istore 4, 2) := dk_54 4 (dk_at dksX3_join_3 10 rfl rfl)
theorem dX3_join_82 : decode cX3_join 82 = .ok (.iload 4, 2) := dk_21 4 (dk_at dksX3_join_3 12 rfl rfl)
theorem dX3_join_84 : decode cX3_join 84 = .ok (.aload_n 0, 1) := dk_42 (dk_at dksX3_join_3 14 rfl rfl)
theorem dX3_join_85 : decode cX3_join 85 = .ok (.getfield 38, 3) := dk_180 0 38 (dk_at dksX3_join_3 15 rfl rfl)
theorem dX3_join_88 : decode cX3_join 88 = .ok (.aload_n 0, 1) := dk_42 (dk_at dksX3_join_3 18 rfl rfl)
theorem dX3_join_89 : decode cX3_join 89 = .ok (.getfield 32, 3) := dk_180 0 32 (dk_at dksX3_join_3 19 rfl rfl)
theorem dX3_join_92 : decode cX3_join 92 = .ok (.iload_n 2, 1) := dk_28 (dk_at dksX3_join_3 22 rfl rfl)
theorem dX3_join_93 : decode cX3_join 93 = .ok (.iaload, 1) := dk_46 (dk_at dksX3_join_3 23 rfl rfl)
theorem dX3_join_94 : decode cX3_join 94 = .ok (.iaload, 1) := dk_46 (dk_at dksX3_join_4 0 rfl rfl)
theorem dX3_join_95 : decode cX3_join 95 = .ok (.if_icmp .eq 10, 3) := dk_159 0 10 (dk_at dksX3_join_4 1 rfl rfl)
theorem dX3_join_98 : decode cX3_join 98 = .ok (.aload_n 0, 1) := dk_42 (dk_at dksX3_join_4 4 rfl rfl)
theorem dX3_join_99 : decode cX3_join 99 = .ok (.bipush 10, 2) := dk_16 10 (dk_at dksX3_join_4 5 rfl rfl)
theorem dX3_join_101 : decode cX3_join 101 = .ok (.invokevirtual 68, 3) := dk_182 0 68 (dk_at dksX3_join_4 7 rfl rfl)
theorem dX3_join_104 : decode cX3_join 104 = .ok (.ireturn, 1) := dk_172 (dk_at dksX3_join_4 10 rfl rfl)
theorem dX3_join_105 : decode cX3_join 105 = .ok (.iconst 0, 1) := dk_3 (dk_at dksX3_join_4 11 rfl rfl)
theorem dX3_join_106 : decode cX3_join 106 = .ok (.istore 5, 2) := dk_54 5 (dk_at dksX3_join_4 12 rfl rfl)
theorem dX3_join_108 : decode cX3_join 108 = .ok (.iload 5, 2) := dk_21 5 (dk_at dksX3_join_4 14 rfl rfl)
theorem dX3_join_110 : decode cX3_join 110 = .ok (.iload 4, 2) := dk_21 4 (dk_at dksX3_join_4 16 rfl rfl)
theorem dX3_join_112 : decode cX3_join 112 = .ok (.if_icmp .ge 101, 3) := dk_162 0 101 (dk_at dksX3_join_4 18 rfl rfl)
theorem dX3_join_115 : decode cX3_join 115 = .ok (.aload_n 0, 1) := dk_42 (dk_at dksX3_join_4 21 rfl rfl)
theorem dX3_join_116 : decode cX3_join 116 = .ok (.getfield 35, 3) := dk_180 0 35 (dk_at dksX3_join_5 0 rfl rfl)
theorem dX3_join_119 : decode cX3_join 119 = .ok (.aload_n 0, 1) := dk_42 (dk_at dksX3_join_5 3 rfl rfl)
theorem dX3_join_120 : decode cX3_join 120 = .ok (.getfield 32, 3) := dk_180 0 32 (dk_at dksX3_join_5 4 rfl rfl)
theorem dX3_join_123 : decode cX3_join 123 = .ok (.iload_n 1, 1) := dk_27 (dk_at dksX3_join_5 7 rfl rfl)
theorem dX3_join_124 : decode cX3_join 124 = .ok (.iaload, 1) := dk_46 (dk_at dksX3_join_5 8 rfl rfl)
theorem dX3_join_125 : decode cX3_join 125 = .ok (.iaload, 1) := dk_46 (dk_at dksX3_join_5 9 rfl rfl)
theorem dX3_join_126 : decode cX3_join 126 = .ok (.iload 5, 2) := dk_21 5 (dk_at dksX3_join_5 10 rfl rfl)
theorem dX3_join_128 : decode cX3_join 128 = .ok (.iadd, 1) := dk_96 (dk_at dksX3_join_5 12 rfl rfl)
theorem dX3_join_129 : decode cX3_join 129 = .ok (.istore 6, 2) := dk_54 6 (dk_at dksX3_join_5 13 rfl rfl)
theorem dX3_join_131 : decode cX3_join 131 = .ok (.aload_n 0, 1) := dk_42 (dk_at dksX3_join_5 15 rfl rfl)
theorem dX3_join_132 : decode cX3_join 132 = .ok (.getfield 35, 3) := dk_180 0 35 (dk_at dksX3_join_5 16 rfl rfl)
theorem dX3_join_135 : decode cX3_join 135 = .ok (.aload_n 0, 1) := dk_42 (dk_at dksX3_join_5 19 rfl rfl)
theorem dX3_join_136 : decode cX3_join 136 = .ok (.getfield 32, 3) := dk_180 0 32 (dk_at dksX3_join_5 20 rfl rfl)
theorem dX3_join_139 : decode cX3_join 139 = .ok (.iload_n 2, 1) := dk_28 (dk_at dksX3_join_5 23 rfl rfl)
theorem dX3_join_140 : decode cX3_join 140 = .ok (.iaload, 1) := dk_46 (dk_at dksX3_join_6 0 rfl rfl)
theorem dX3_join_141 : decode cX3_join 141 = .ok (.iaload, 1) := dk_46 (dk_at dksX3_join_6 1 rfl rfl)
theorem dX3_join_142 : decode cX3_join 142 = .ok (.iload 5, 2) := dk_21 5 (dk_at dksX3_join_6 2 rfl rfl)
theorem dX3_join_144 : decode cX3_join 144 = .ok (.iadd, 1) := dk_96 (dk_at dksX3_join_6 4 rfl rfl)
theorem dX3_join_145 : decode cX3_join 145 = .ok (.istore 7, 2) := dk_54 7 (dk_at dksX3_join_6 5 rfl rfl)
theorem dX3_join_147 : decode cX3_join 147 = .ok (.aload_n 0, 1) := dk_42 (dk_at dksX3_join_6 7 rfl rfl)
theorem dX3_join_148 : decode cX3_join 148 = .ok (.getfield 20, 3) := dk_180 0 20 (dk_at dksX3_join_6 8 rfl rfl)
theorem dX3_join_151 : decode cX3_join 151 = .ok (.iload_n 2, 1) := dk_28 (dk_at dksX3_join_6 11 rfl rfl)
theorem dX3_join_152 : decode cX3_join 152 = .ok (.iaload, 1) := dk_46 (dk_at dksX3_join_6 12 rfl rfl)
theorem dX3_join_153 : decode cX3_join 153 = .ok (.iconst 3, 1) := dk_6 (dk_at dksX3_join_6 13 rfl rfl)
theorem dX3_join_154 : decode cX3_join 154 = .ok (.if_icmp .ne 21, 3) := dk_160 0 21 (dk_at dksX3_join_6 14 rfl rfl)
theorem dX3_join_157 : decode cX3_join 157 = .ok (.aload_n 0, 1) := dk_42 (dk_at dksX3_join_6 17 rfl rfl)
theorem dX3_join_158 : decode cX3_join 158 = .ok (.getfield 46, 3) := dk_180 0 46 (dk_at dksX3_join_6 18 rfl rfl)
theorem dX3_join_161 : decode cX3_join 161 = .ok (.iload 7, 2) := dk_21 7 (dk_at dksX3_join_6 21 rfl rfl)
theorem dX3_join_163 : decode cX3_join 163 = .ok (.baload, 1) := dk_51 (dk_at dksX3_join_6 23 rfl rfl)
theorem dX3_join_164 : decode cX3_join 164 = .ok (.ifCond .ne 11, 3) := dk_154 0 11 (dk_at dksX3_join_7 0 rfl rfl)
theorem dX3_join_167 : decode cX3_join 167 = .ok (.aload_n 0, 1) := dk_42 (dk_at dksX3_join_7 3 rfl rfl)
theorem dX3_join_168 : decode cX3_join 168 = .ok (.iconst 1, 1) := dk_4 (dk_at dksX3_join_7 4 rfl rfl)
theorem dX3_join_169 : decode cX3_join 169 = .ok (.putfield 65, 3) := dk_181 0 65 (dk_at dksX3_join_7 5 rfl rfl)
theorem dX3_join_172 : decode cX3_join 172 = .ok (.iload 5, 2) := dk_21 5 (dk_at dksX3_join_7 8 rfl rfl)
theorem dX3_join_174 : decode cX3_join 174 = .ok (.ireturn, 1) := dk_172 (dk_at dksX3_join_7 10 rfl rfl)
theorem dX3_join_175 : decode cX3_join 175 = .ok (.aload_n 0, 1) := dk_42 (dk_at dksX3_join_7 11 rfl rfl)
theorem dX3_join_176 : decode cX3_join 176 = .ok (.iload 6, 2) := dk_21 6 (dk_at dksX3_join_7 12 rfl rfl)
theorem dX3_join_178 : decode cX3_join 178 = .ok (.aload_n 0, 1) := dk_42 (dk_at dksX3_join_7 14 rfl rfl)
theorem dX3_join_179 : decode cX3_join 179 = .ok (.getfield 20, 3) := dk_180 0 20 (dk_at dksX3_join_7 15 rfl rfl)
theorem dX3_join_182 : decode cX3_join 182 = .ok (.iload_n 1, 1) := dk_27 (dk_at dksX3_join_7 18 rfl rfl)
theorem dX3_join_183 : decode cX3_join 183 = .ok (.iaload, 1) := dk_46 (dk_at dksX3_join_7 19 rfl rfl)
theorem dX3_join_184 : decode cX3_join 184 = .ok (.iload_n 3, 1) := dk_29 (dk_at dksX3_join_7 20 rfl rfl)
theorem dX3_join_185 : decode cX3_join 185 = .ok (.aload_n 0, 1) := dk_42 (dk_at dksX3_join_7 21 rfl rfl)
theorem dX3_join_186 : decode cX3_join 186 = .ok (.getfield 42, 3) := dk_180 0 42 (dk_at dksX3_join_8 0 rfl rfl)
theorem dX3_join_189 : decode cX3_join 189 = .ok (.iload 7, 2) := dk_21 7 (dk_at dksX3_join_8 3 rfl rfl)
theorem dX3_join_191 : decode cX3_join 191 = .ok (.laload, 1) := dk_47 (dk_at dksX3_join_8 5 rfl rfl)
theorem dX3_join_192 : decode cX3_join 192 = .ok (.invokevirtual 182, 3) := dk_182 0 182 (dk_at dksX3_join_8 6 rfl rfl)
theorem dX3_join_195 : decode cX3_join 195 = .ok (.ifCond .ne 12, 3) := dk_154 0 12 (dk_at dksX3_join_8 9 rfl rfl)
theorem dX3_join_198 : decode cX3_join 198 = .ok (.aload_n 0, 1) := dk_42 (dk_at dksX3_join_8 12 rfl rfl)
theorem dX3_join_199 : decode cX3_join 199 = .ok (.bipush 6, 2) := dk_16 6 (dk_at dksX3_join_8 13 rfl rfl)
theorem dX3_join_201 : decode cX3_join 201 = .ok (.putfield 65, 3) := dk_181 0 65 (dk_at dksX3_join_8 15 rfl rfl)
theorem dX3_join_204 : decode cX3_join 204 = .ok (.iload 5, 2) := dk_21 5 (dk_at dksX3_join_8 18 rfl rfl)
theorem dX3_join_206 : decode cX3_join 206 = .ok (.ireturn, 1) := dk_172 (dk_at dksX3_join_8 20 rfl rfl)
theorem dX3_join_207 : decode cX3_join 207 = .ok (.iinc 5 1, 3) := dk_132 5 1 (dk_at dksX3_join_8 21 rfl rfl)
theorem dX3_join_210 : decode cX3_join 210 = .ok (.goto (-102), 3) := dk_167 255 154 (dk_at dksX3_join_9 0 rfl rfl)
theorem dX3_join_213 : decode cX3_join 213 = .ok (.aload_n 0, 1) := dk_42 (dk_at dksX3_join_9 3 rfl rfl)
theorem dX3_join_214 : decode cX3_join 214 = .ok (.iload 4, 2) := dk_21 4 (dk_at dksX3_join_9 4 rfl rfl)
theorem dX3_join_216 : decode cX3_join 216 = .ok (.invokevirtual 75, 3) := dk_182 0 75 (dk_at dksX3_join_9 6 rfl rfl)
theorem dX3_join_219 : decode cX3_join 219 = .ok (.ireturn, 1) := dk_172 (dk_at dksX3_join_9 9 rfl rfl)
abbrev cX3_sum : ByteArray := prog_6_method_46_code
def yX3_sum : MethodName := ⟨RX3, "sum", "(I)J"⟩
def dkwX3_sum_4 : List UInt8 := [132, 4, 1, 167, 255, 208, 32, 173]
abbrev dktX3_sum_4 : List UInt8 := dkwX3_sum_4 ++ []
def dkwX3_sum_3 : List UInt8 := [96, 46, 54, 5, 32, 21, 5, 2, 160, 0, 7, 9, 167, 0, 9, 42, 21, 5, 182, 0, 186, 97, 65]
abbrev dktX3_sum_3 : List UInt8 := dkwX3_sum_3 ++ dktX3_sum_4
def dkwX3_sum_2 : List UInt8 := [54, 4, 21, 4, 42, 27, 182, 0, 155, 162, 0, 44, 42, 180, 0, 50, 42, 180, 0, 32, 27, 46, 21, 4]
abbrev dktX3_sum_2 : List UInt8 := dkwX3_sum_2 ++ dktX3_sum_3
def dkwX3_sum_1 : List UInt8 := [180, 0, 20, 27, 46, 7, 159, 0, 14, 42, 42, 180, 0, 32, 27, 46, 182, 0, 186, 173, 9, 65, 3]
abbrev dktX3_sum_1 : List UInt8 := dkwX3_sum_1 ++ dktX3_sum_2
def dkwX3_sum_0 : List UInt8 := [42, 27, 182, 0, 131, 154, 0, 11, 42, 16, 7, 182, 0, 68, 133, 173, 42, 3, 181, 0, 65, 42]
abbrev dktX3_sum_0 : List UInt8 := dkwX3_sum_0 ++ dktX3_sum_1
theorem dksX3_sum_0 : cX3_sum.data.toList.drop 0 = dktX3_sum_0 := by decide +kernel
theorem dksX3_sum_1 : cX3_sum.data.toList.drop 22 = dktX3_sum_1 := dk_seg dksX3_sum_0 22 rfl rfl
theorem dksX3_sum_2 : cX3_sum.data.toList.drop 45 = dktX3_sum_2 := dk_seg dksX3_sum_1 23 rfl rfl
theorem dksX3_sum_3 : cX3_sum.data.toList.drop 69 = dktX3_sum_3 := dk_seg dksX3_sum_2 24 rfl rfl
theorem dksX3_sum_4 : cX3_sum.data.toList.drop 92 = dktX3_sum_4 := dk_seg dksX3_sum_3 23 rfl rfl
theorem dX3_sum_0 : decode cX3_sum 0 = .ok (.aload_n 0, 1) := dk_42 (dk_at dksX3_sum_0 0 rfl rfl)
theorem dX3_sum_1 : decode cX3_sum 1 = .ok (.iload_n 1, 1) := dk_27 (dk_at dksX3_sum_0 1 rfl rfl)
theorem dX3_sum_2 : decode cX3_sum 2 = .ok (.invokevirtual 131, 3) := dk_182 0 131 (dk_at dksX3_sum_0 2 rfl rfl)
theorem dX3_sum_5 : decode cX3_sum 5 = .ok (.ifCond .ne 11, 3) := dk_154 0 11 (dk_at dksX3_sum_0 5 rfl rfl)
theorem dX3_sum_8 : decode cX3_sum 8 = .ok (.aload_n 0, 1) := dk_42 (dk_at dksX3_sum_0 8 rfl rfl)
theorem dX3_sum_9 : decode cX3_sum 9 = .ok (.bipush 7, 2) := dk_16 7 (dk_at dksX3_sum_0 9 rfl rfl)
theorem dX3_sum_11 : decode cX3_sum 11 = .ok (.invokevirtual 68, 3) := dk_182 0 68 (dk_at dksX3_sum_0 11 rfl rfl)
theorem dX3_sum_14 : decode cX3_sum 14 = .ok (.i2l, 1) := dk_133 (dk_at dksX3_sum_0 14 rfl rfl)
theorem dX3_sum_15 : decode cX3_sum 15 = .ok (.lreturn, 1) := dk_173 (dk_at dksX3_sum_0 15 rfl rfl)
theorem dX3_sum_16 : decode cX3_sum 16 = .ok (.aload_n 0, 1) := dk_42 (dk_at dksX3_sum_0 16 rfl rfl)
theorem dX3_sum_17 : decode cX3_sum 17 = .ok (.iconst 0, 1) := dk_3 (dk_at dksX3_sum_0 17 rfl rfl)
theorem dX3_sum_18 : decode cX3_sum 18 = .ok (.putfield 65, 3) := dk_181 0 65 (dk_at dksX3_sum_0 18 rfl rfl)
theorem dX3_sum_21 : decode cX3_sum 21 = .ok (.aload_n 0, 1) := dk_42 (dk_at dksX3_sum_0 21 rfl rfl)
theorem dX3_sum_22 : decode cX3_sum 22 = .ok (.getfield 20, 3) := dk_180 0 20 (dk_at dksX3_sum_1 0 rfl rfl)
theorem dX3_sum_25 : decode cX3_sum 25 = .ok (.iload_n 1, 1) := dk_27 (dk_at dksX3_sum_1 3 rfl rfl)
theorem dX3_sum_26 : decode cX3_sum 26 = .ok (.iaload, 1) := dk_46 (dk_at dksX3_sum_1 4 rfl rfl)
theorem dX3_sum_27 : decode cX3_sum 27 = .ok (.iconst 4, 1) := dk_7 (dk_at dksX3_sum_1 5 rfl rfl)
theorem dX3_sum_28 : decode cX3_sum 28 = .ok (.if_icmp .eq 14, 3) := dk_159 0 14 (dk_at dksX3_sum_1 6 rfl rfl)
theorem dX3_sum_31 : decode cX3_sum 31 = .ok (.aload_n 0, 1) := dk_42 (dk_at dksX3_sum_1 9 rfl rfl)
theorem dX3_sum_32 : decode cX3_sum 32 = .ok (.aload_n 0, 1) := dk_42 (dk_at dksX3_sum_1 10 rfl rfl)
theorem dX3_sum_33 : decode cX3_sum 33 = .ok (.getfield 32, 3) := dk_180 0 32 (dk_at dksX3_sum_1 11 rfl rfl)
theorem dX3_sum_36 : decode cX3_sum 36 = .ok (.iload_n 1, 1) := dk_27 (dk_at dksX3_sum_1 14 rfl rfl)
theorem dX3_sum_37 : decode cX3_sum 37 = .ok (.iaload, 1) := dk_46 (dk_at dksX3_sum_1 15 rfl rfl)
theorem dX3_sum_38 : decode cX3_sum 38 = .ok (.invokevirtual 186, 3) := dk_182 0 186 (dk_at dksX3_sum_1 16 rfl rfl)
theorem dX3_sum_41 : decode cX3_sum 41 = .ok (.lreturn, 1) := dk_173 (dk_at dksX3_sum_1 19 rfl rfl)
theorem dX3_sum_42 : decode cX3_sum 42 = .ok (.lconst 0, 1) := dk_9 (dk_at dksX3_sum_1 20 rfl rfl)
theorem dX3_sum_43 : decode cX3_sum 43 = .ok (.lstore_n 2, 1) := dk_65 (dk_at dksX3_sum_1 21 rfl rfl)
theorem dX3_sum_44 : decode cX3_sum 44 = .ok (.iconst 0, 1) := dk_3 (dk_at dksX3_sum_1 22 rfl rfl)
theorem dX3_sum_45 : decode cX3_sum 45 = .ok (.istore 4, 2) := dk_54 4 (dk_at dksX3_sum_2 0 rfl rfl)
theorem dX3_sum_47 : decode cX3_sum 47 = .ok (.iload 4, 2) := dk_21 4 (dk_at dksX3_sum_2 2 rfl rfl)
theorem dX3_sum_49 : decode cX3_sum 49 = .ok (.aload_n 0, 1) := dk_42 (dk_at dksX3_sum_2 4 rfl rfl)
theorem dX3_sum_50 : decode cX3_sum 50 = .ok (.iload_n 1, 1) := dk_27 (dk_at dksX3_sum_2 5 rfl rfl)
theorem dX3_sum_51 : decode cX3_sum 51 = .ok (.invokevirtual 155, 3) := dk_182 0 155 (dk_at dksX3_sum_2 6 rfl rfl)
theorem dX3_sum_54 : decode cX3_sum 54 = .ok (.if_icmp .ge 44, 3) := dk_162 0 44 (dk_at dksX3_sum_2 9 rfl rfl)
theorem dX3_sum_57 : decode cX3_sum 57 = .ok (.aload_n 0, 1) := dk_42 (dk_at dksX3_sum_2 12 rfl rfl)
theorem dX3_sum_58 : decode cX3_sum 58 = .ok (.getfield 50, 3) := dk_180 0 50 (dk_at dksX3_sum_2 13 rfl rfl)
theorem dX3_sum_61 : decode cX3_sum 61 = .ok (.aload_n 0, 1) := dk_42 (dk_at dksX3_sum_2 16 rfl rfl)
theorem dX3_sum_62 : decode cX3_sum 62 = .ok (.getfield 32, 3) := dk_180 0 32 (dk_at dksX3_sum_2 17 rfl rfl)
theorem dX3_sum_65 : decode cX3_sum 65 = .ok (.iload_n 1, 1) := dk_27 (dk_at dksX3_sum_2 20 rfl rfl)
theorem dX3_sum_66 : decode cX3_sum 66 = .ok (.iaload, 1) := dk_46 (dk_at dksX3_sum_2 21 rfl rfl)
theorem dX3_sum_67 : decode cX3_sum 67 = .ok (.iload 4, 2) := dk_21 4 (dk_at dksX3_sum_2 22 rfl rfl)
theorem dX3_sum_69 : decode cX3_sum 69 = .ok (.iadd, 1) := dk_96 (dk_at dksX3_sum_3 0 rfl rfl)
theorem dX3_sum_70 : decode cX3_sum 70 = .ok (.iaload, 1) := dk_46 (dk_at dksX3_sum_3 1 rfl rfl)
theorem dX3_sum_71 : decode cX3_sum 71 = .ok (.istore 5, 2) := dk_54 5 (dk_at dksX3_sum_3 2 rfl rfl)
theorem dX3_sum_73 : decode cX3_sum 73 = .ok (.lload_n 2, 1) := dk_32 (dk_at dksX3_sum_3 4 rfl rfl)
theorem dX3_sum_74 : decode cX3_sum 74 = .ok (.iload 5, 2) := dk_21 5 (dk_at dksX3_sum_3 5 rfl rfl)
theorem dX3_sum_76 : decode cX3_sum 76 = .ok (.iconst (-1), 1) := dk_2 (dk_at dksX3_sum_3 7 rfl rfl)
theorem dX3_sum_77 : decode cX3_sum 77 = .ok (.if_icmp .ne 7, 3) := dk_160 0 7 (dk_at dksX3_sum_3 8 rfl rfl)
theorem dX3_sum_80 : decode cX3_sum 80 = .ok (.lconst 0, 1) := dk_9 (dk_at dksX3_sum_3 11 rfl rfl)
theorem dX3_sum_81 : decode cX3_sum 81 = .ok (.goto 9, 3) := dk_167 0 9 (dk_at dksX3_sum_3 12 rfl rfl)
theorem dX3_sum_84 : decode cX3_sum 84 = .ok (.aload_n 0, 1) := dk_42 (dk_at dksX3_sum_3 15 rfl rfl)
theorem dX3_sum_85 : decode cX3_sum 85 = .ok (.iload 5, 2) := dk_21 5 (dk_at dksX3_sum_3 16 rfl rfl)
theorem dX3_sum_87 : decode cX3_sum 87 = .ok (.invokevirtual 186, 3) := dk_182 0 186 (dk_at dksX3_sum_3 18 rfl rfl)
theorem dX3_sum_90 : decode cX3_sum 90 = .ok (.ladd, 1) := dk_97 (dk_at dksX3_sum_3 21 rfl rfl)
theorem dX3_sum_91 : decode cX3_sum 91 = .ok (.lstore_n 2, 1) := dk_65 (dk_at dksX3_sum_3 22 rfl rfl)
theorem dX3_sum_92 : decode cX3_sum 92 = .ok (.iinc 4 1, 3) := dk_132 4 1 (dk_at dksX3_sum_4 0 rfl rfl)
theorem dX3_sum_95 : decode cX3_sum 95 = .ok (.goto (-48), 3) := dk_167 255 208 (dk_at dksX3_sum_4 3 rfl rfl)
theorem dX3_sum_98 : decode cX3_sum 98 = .ok (.lload_n 2, 1) := dk_32 (dk_at dksX3_sum_4 6 rfl rfl)
theorem dX3_sum_99 : decode cX3_sum 99 = .ok (.lreturn, 1) := dk_173 (dk_at dksX3_sum_4 7 rfl rfl)
abbrev cX3_sumOf : ByteArray := prog_6_method_45_code
def yX3_sumOf : MethodName := ⟨RX3, "sumOf", "(I)J"⟩
def dkwX3_sumOf_1 : List UInt8 := [180, 0, 35, 27, 46, 21, 4, 96, 47, 97, 65, 132, 4, 1, 167, 255, 225, 32, 173]
abbrev dktX3_sumOf_1 : List UInt8 := dkwX3_sumOf_1 ++ []
def dkwX3_sumOf_0 : List UInt8 := [9, 65, 3, 54, 4, 21, 4, 42, 180, 0, 38, 27, 46, 162, 0, 26, 32, 42, 180, 0, 42, 42]
abbrev dktX3_sumOf_0 : List UInt8 := dkwX3_sumOf_0 ++ dktX3_sumOf_1
theorem dksX3_sumOf_0 : cX3_sumOf.data.toList.drop 0 = dktX3_sumOf_0 := by decide +kernel
theorem dksX3_sumOf_1 : cX3_sumOf.data.toList.drop 22 = dktX3_sumOf_1 := dk_seg dksX3_sumOf_0 22 rfl rfl
theorem dX3_sumOf_0 : decode cX3_sumOf 0 = .ok (.lconst 0, 1) := dk_9 (dk_at dksX3_sumOf_0 0 rfl rfl)
theorem dX3_sumOf_1 : decode cX3_sumOf 1 = .ok (.lstore_n 2, 1) := dk_65 (dk_at dksX3_sumOf_0 1 rfl rfl)
theorem dX3_sumOf_2 : decode cX3_sumOf 2 = .ok (.iconst 0, 1) := dk_3 (dk_at dksX3_sumOf_0 2 rfl rfl)
theorem dX3_sumOf_3 : decode cX3_sumOf 3 = .ok (.istore 4, 2) := dk_54 4 (dk_at dksX3_sumOf_0 3 rfl rfl)
theorem dX3_sumOf_5 : decode cX3_sumOf 5 = .ok (.iload 4, 2) := dk_21 4 (dk_at dksX3_sumOf_0 5 rfl rfl)
theorem dX3_sumOf_7 : decode cX3_sumOf 7 = .ok (.aload_n 0, 1) := dk_42 (dk_at dksX3_sumOf_0 7 rfl rfl)
theorem dX3_sumOf_8 : decode cX3_sumOf 8 = .ok (.getfield 38, 3) := dk_180 0 38 (dk_at dksX3_sumOf_0 8 rfl rfl)
theorem dX3_sumOf_11 : decode cX3_sumOf 11 = .ok (.iload_n 1, 1) := dk_27 (dk_at dksX3_sumOf_0 11 rfl rfl)
theorem dX3_sumOf_12 : decode cX3_sumOf 12 = .ok (.iaload, 1) := dk_46 (dk_at dksX3_sumOf_0 12 rfl rfl)
theorem dX3_sumOf_13 : decode cX3_sumOf 13 = .ok (.if_icmp .ge 26, 3) := dk_162 0 26 (dk_at dksX3_sumOf_0 13 rfl rfl)
theorem dX3_sumOf_16 : decode cX3_sumOf 16 = .ok (.lload_n 2, 1) := dk_32 (dk_at dksX3_sumOf_0 16 rfl rfl)
theorem dX3_sumOf_17 : decode cX3_sumOf 17 = .ok (.aload_n 0, 1) := dk_42 (dk_at dksX3_sumOf_0 17 rfl rfl)
theorem dX3_sumOf_18 : decode cX3_sumOf 18 = .ok (.getfield 42, 3) := dk_180 0 42 (dk_at dksX3_sumOf_0 18 rfl rfl)
theorem dX3_sumOf_21 : decode cX3_sumOf 21 = .ok (.aload_n 0, 1) := dk_42 (dk_at dksX3_sumOf_0 21 rfl rfl)
theorem dX3_sumOf_22 : decode cX3_sumOf 22 = .ok (.getfield 35, 3) := dk_180 0 35 (dk_at dksX3_sumOf_1 0 rfl rfl)
theorem dX3_sumOf_25 : decode cX3_sumOf 25 = .ok (.iload_n 1, 1) := dk_27 (dk_at dksX3_sumOf_1 3 rfl rfl)
theorem dX3_sumOf_26 : decode cX3_sumOf 26 = .ok (.iaload, 1) := dk_46 (dk_at dksX3_sumOf_1 4 rfl rfl)
theorem dX3_sumOf_27 : decode cX3_sumOf 27 = .ok (.iload 4, 2) := dk_21 4 (dk_at dksX3_sumOf_1 5 rfl rfl)
theorem dX3_sumOf_29 : decode cX3_sumOf 29 = .ok (.iadd, 1) := dk_96 (dk_at dksX3_sumOf_1 7 rfl rfl)
theorem dX3_sumOf_30 : decode cX3_sumOf 30 = .ok (.laload, 1) := dk_47 (dk_at dksX3_sumOf_1 8 rfl rfl)
theorem dX3_sumOf_31 : decode cX3_sumOf 31 = .ok (.ladd, 1) := dk_97 (dk_at dksX3_sumOf_1 9 rfl rfl)
theorem dX3_sumOf_32 : decode cX3_sumOf 32 = .ok (.lstore_n 2, 1) := dk_65 (dk_at dksX3_sumOf_1 10 rfl rfl)
theorem dX3_sumOf_33 : decode cX3_sumOf 33 = .ok (.iinc 4 1, 3) := dk_132 4 1 (dk_at dksX3_sumOf_1 11 rfl rfl)
theorem dX3_sumOf_36 : decode cX3_sumOf 36 = .ok (.goto (-31), 3) := dk_167 255 225 (dk_at dksX3_sumOf_1 14 rfl rfl)
theorem dX3_sumOf_39 : decode cX3_sumOf 39 = .ok (.lload_n 2, 1) := dk_32 (dk_at dksX3_sumOf_1 17 rfl rfl)
theorem dX3_sumOf_40 : decode cX3_sumOf 40 = .ok (.lreturn, 1) := dk_173 (dk_at dksX3_sumOf_1 18 rfl rfl)
abbrev cX3_mean : ByteArray := prog_6_method_47_code
def yX3_mean : MethodName := ⟨RX3, "mean", "(I)J"⟩
def dkwX3_mean_3 : List UInt8 := [182, 0, 186, 42, 180, 0, 38, 42, 180, 0, 32, 27, 46, 46, 133, 109, 173]
abbrev dktX3_mean_3 : List UInt8 := dkwX3_mean_3 ++ []
def dkwX3_mean_2 : List UInt8 := [28, 153, 0, 10, 42, 28, 182, 0, 68, 133, 173, 42, 3, 181, 0, 65, 42, 42, 180, 0, 32, 27, 46]
abbrev dktX3_mean_2 : List UInt8 := dkwX3_mean_2 ++ dktX3_mean_3
def dkwX3_mean_1 : List UInt8 := [167, 0, 23, 42, 180, 0, 38, 42, 180, 0, 32, 27, 46, 46, 154, 0, 8, 16, 6, 167, 0, 4, 3, 61]
abbrev dktX3_mean_1 : List UInt8 := dkwX3_mean_1 ++ dktX3_mean_2
def dkwX3_mean_0 : List UInt8 := [42, 27, 182, 0, 131, 154, 0, 8, 16, 7, 167, 0, 37, 42, 180, 0, 20, 27, 46, 6, 161, 0, 7, 5]
abbrev dktX3_mean_0 : List UInt8 := dkwX3_mean_0 ++ dktX3_mean_1
theorem dksX3_mean_0 : cX3_mean.data.toList.drop 0 = dktX3_mean_0 := by decide +kernel
theorem dksX3_mean_1 : cX3_mean.data.toList.drop 24 = dktX3_mean_1 := dk_seg dksX3_mean_0 24 rfl rfl
theorem dksX3_mean_2 : cX3_mean.data.toList.drop 48 = dktX3_mean_2 := dk_seg dksX3_mean_1 24 rfl rfl
theorem dksX3_mean_3 : cX3_mean.data.toList.drop 71 = dktX3_mean_3 := dk_seg dksX3_mean_2 23 rfl rfl
theorem dX3_mean_0 : decode cX3_mean 0 = .ok (.aload_n 0, 1) := dk_42 (dk_at dksX3_mean_0 0 rfl rfl)
theorem dX3_mean_1 : decode cX3_mean 1 = .ok (.iload_n 1, 1) := dk_27 (dk_at dksX3_mean_0 1 rfl rfl)
theorem dX3_mean_2 : decode cX3_mean 2 = .ok (.invokevirtual 131, 3) := dk_182 0 131 (dk_at dksX3_mean_0 2 rfl rfl)
theorem dX3_mean_5 : decode cX3_mean 5 = .ok (.ifCond .ne 8, 3) := dk_154 0 8 (dk_at dksX3_mean_0 5 rfl rfl)
theorem dX3_mean_8 : decode cX3_mean 8 = .ok (.bipush 7, 2) := dk_16 7 (dk_at dksX3_mean_0 8 rfl rfl)
theorem dX3_mean_10 : decode cX3_mean 10 = .ok (.goto 37, 3) := dk_167 0 37 (dk_at dksX3_mean_0 10 rfl rfl)
theorem dX3_mean_13 : decode cX3_mean 13 = .ok (.aload_n 0, 1) := dk_42 (dk_at dksX3_mean_0 13 rfl rfl)
theorem dX3_mean_14 : decode cX3_mean 14 = .ok (.getfield 20, 3) := dk_180 0 20 (dk_at dksX3_mean_0 14 rfl rfl)
theorem dX3_mean_17 : decode cX3_mean 17 = .ok (.iload_n 1, 1) := dk_27 (dk_at dksX3_mean_0 17 rfl rfl)
theorem dX3_mean_18 : decode cX3_mean 18 = .ok (.iaload, 1) := dk_46 (dk_at dksX3_mean_0 18 rfl rfl)
theorem dX3_mean_19 : decode cX3_mean 19 = .ok (.iconst 3, 1) := dk_6 (dk_at dksX3_mean_0 19 rfl rfl)
theorem dX3_mean_20 : decode cX3_mean 20 = .ok (.if_icmp .lt 7, 3) := dk_161 0 7 (dk_at dksX3_mean_0 20 rfl rfl)
theorem dX3_mean_23 : decode cX3_mean 23 = .ok (.iconst 2, 1) := dk_5 (dk_at dksX3_mean_0 23 rfl rfl)
theorem dX3_mean_24 : decode cX3_mean 24 = .ok (.goto 23, 3) := dk_167 0 23 (dk_at dksX3_mean_1 0 rfl rfl)
theorem dX3_mean_27 : decode cX3_mean 27 = .ok (.aload_n 0, 1) := dk_42 (dk_at dksX3_mean_1 3 rfl rfl)
theorem dX3_mean_28 : decode cX3_mean 28 = .ok (.getfield 38, 3) := dk_180 0 38 (dk_at dksX3_mean_1 4 rfl rfl)
theorem dX3_mean_31 : decode cX3_mean 31 = .ok (.aload_n 0, 1) := dk_42 (dk_at dksX3_mean_1 7 rfl rfl)
theorem dX3_mean_32 : decode cX3_mean 32 = .ok (.getfield 32, 3) := dk_180 0 32 (dk_at dksX3_mean_1 8 rfl rfl)
theorem dX3_mean_35 : decode cX3_mean 35 = .ok (.iload_n 1, 1) := dk_27 (dk_at dksX3_mean_1 11 rfl rfl)
theorem dX3_mean_36 : decode cX3_mean 36 = .ok (.iaload, 1) := dk_46 (dk_at dksX3_mean_1 12 rfl rfl)
theorem dX3_mean_37 : decode cX3_mean 37 = .ok (.iaload, 1) := dk_46 (dk_at dksX3_mean_1 13 rfl rfl)
theorem dX3_mean_38 : decode cX3_mean 38 = .ok (.ifCond .ne 8, 3) := dk_154 0 8 (dk_at dksX3_mean_1 14 rfl rfl)
theorem dX3_mean_41 : decode cX3_mean 41 = .ok (.bipush 6, 2) := dk_16 6 (dk_at dksX3_mean_1 17 rfl rfl)
theorem dX3_mean_43 : decode cX3_mean 43 = .ok (.goto 4, 3) := dk_167 0 4 (dk_at dksX3_mean_1 19 rfl rfl)
theorem dX3_mean_46 : decode cX3_mean 46 = .ok (.iconst 0, 1) := dk_3 (dk_at dksX3_mean_1 22 rfl rfl)
theorem dX3_mean_47 : decode cX3_mean 47 = .ok (.istore_n 2, 1) := dk_61 (dk_at dksX3_mean_1 23 rfl rfl)
theorem dX3_mean_48 : decode cX3_mean 48 = .ok (.iload_n 2, 1) := dk_28 (dk_at dksX3_mean_2 0 rfl rfl)
theorem dX3_mean_49 : decode cX3_mean 49 = .ok (.ifCond .eq 10, 3) := dk_153 0 10 (dk_at dksX3_mean_2 1 rfl rfl)
theorem dX3_mean_52 : decode cX3_mean 52 = .ok (.aload_n 0, 1) := dk_42 (dk_at dksX3_mean_2 4 rfl rfl)
theorem dX3_mean_53 : decode cX3_mean 53 = .ok (.iload_n 2, 1) := dk_28 (dk_at dksX3_mean_2 5 rfl rfl)
theorem dX3_mean_54 : decode cX3_mean 54 = .ok (.invokevirtual 68, 3) := dk_182 0 68 (dk_at dksX3_mean_2 6 rfl rfl)
theorem dX3_mean_57 : decode cX3_mean 57 = .ok (.i2l, 1) := dk_133 (dk_at dksX3_mean_2 9 rfl rfl)
theorem dX3_mean_58 : decode cX3_mean 58 = .ok (.lreturn, 1) := dk_173 (dk_at dksX3_mean_2 10 rfl rfl)
theorem dX3_mean_59 : decode cX3_mean 59 = .ok (.aload_n 0, 1) := dk_42 (dk_at dksX3_mean_2 11 rfl rfl)
theorem dX3_mean_60 : decode cX3_mean 60 = .ok (.iconst 0, 1) := dk_3 (dk_at dksX3_mean_2 12 rfl rfl)
theorem dX3_mean_61 : decode cX3_mean 61 = .ok (.putfield 65, 3) := dk_181 0 65 (dk_at dksX3_mean_2 13 rfl rfl)
theorem dX3_mean_64 : decode cX3_mean 64 = .ok (.aload_n 0, 1) := dk_42 (dk_at dksX3_mean_2 16 rfl rfl)
theorem dX3_mean_65 : decode cX3_mean 65 = .ok (.aload_n 0, 1) := dk_42 (dk_at dksX3_mean_2 17 rfl rfl)
theorem dX3_mean_66 : decode cX3_mean 66 = .ok (.getfield 32, 3) := dk_180 0 32 (dk_at dksX3_mean_2 18 rfl rfl)
theorem dX3_mean_69 : decode cX3_mean 69 = .ok (.iload_n 1, 1) := dk_27 (dk_at dksX3_mean_2 21 rfl rfl)
theorem dX3_mean_70 : decode cX3_mean 70 = .ok (.iaload, 1) := dk_46 (dk_at dksX3_mean_2 22 rfl rfl)
theorem dX3_mean_71 : decode cX3_mean 71 = .ok (.invokevirtual 186, 3) := dk_182 0 186 (dk_at dksX3_mean_3 0 rfl rfl)
theorem dX3_mean_74 : decode cX3_mean 74 = .ok (.aload_n 0, 1) := dk_42 (dk_at dksX3_mean_3 3 rfl rfl)
theorem dX3_mean_75 : decode cX3_mean 75 = .ok (.getfield 38, 3) := dk_180 0 38 (dk_at dksX3_mean_3 4 rfl rfl)
theorem dX3_mean_78 : decode cX3_mean 78 = .ok (.aload_n 0, 1) := dk_42 (dk_at dksX3_mean_3 7 rfl rfl)
theorem dX3_mean_79 : decode cX3_mean 79 = .ok (.getfield 32, 3) := dk_180 0 32 (dk_at dksX3_mean_3 8 rfl rfl)
theorem dX3_mean_82 : decode cX3_mean 82 = .ok (.iload_n 1, 1) := dk_27 (dk_at dksX3_mean_3 11 rfl rfl)
theorem dX3_mean_83 : decode cX3_mean 83 = .ok (.iaload, 1) := dk_46 (dk_at dksX3_mean_3 12 rfl rfl)
theorem dX3_mean_84 : decode cX3_mean 84 = .ok (.iaload, 1) := dk_46 (dk_at dksX3_mean_3 13 rfl rfl)
theorem dX3_mean_85 : decode cX3_mean 85 = .ok (.i2l, 1) := dk_133 (dk_at dksX3_mean_3 14 rfl rfl)
theorem dX3_mean_86 : decode cX3_mean 86 = .ok (.ldiv, 1) := dk_109 (dk_at dksX3_mean_3 15 rfl rfl)
theorem dX3_mean_87 : decode cX3_mean 87 = .ok (.lreturn, 1) := dk_173 (dk_at dksX3_mean_3 16 rfl rfl)
abbrev cX3_about : ByteArray := prog_6_method_48_code
def yX3_about : MethodName := ⟨RX3, "about", "(II)I"⟩
def dkwX3_about_9 : List UInt8 := [96, 46, 182, 0, 75, 172]
abbrev dktX3_about_9 : List UInt8 := dkwX3_about_9 ++ []
def dkwX3_about_8 : List UInt8 := [160, 0, 16, 42, 180, 0, 26, 6, 27, 104, 29, 96, 46, 167, 0, 13, 42, 180, 0, 29, 6, 27, 104, 29]
abbrev dktX3_about_8 : List UInt8 := dkwX3_about_8 ++ dktX3_about_9
def dkwX3_about_7 : List UInt8 := [108, 62, 29, 42, 180, 0, 23, 27, 46, 161, 0, 10, 42, 16, 9, 182, 0, 68, 172, 42, 28, 5, 112, 4]
abbrev dktX3_about_7 : List UInt8 := dkwX3_about_7 ++ dktX3_about_8
def dkwX3_about_6 : List UInt8 := [180, 0, 38, 21, 5, 46, 96, 62, 132, 4, 1, 167, 255, 197, 42, 29, 182, 0, 75, 172, 28, 6, 100, 5]
abbrev dktX3_about_6 : List UInt8 := dkwX3_about_6 ++ dktX3_about_7
def dkwX3_about_5 : List UInt8 := [42, 180, 0, 32, 27, 46, 21, 4, 96, 46, 54, 5, 29, 21, 5, 2, 160, 0, 7, 3, 167, 0, 10, 42]
abbrev dktX3_about_5 : List UInt8 := dkwX3_about_5 ++ dktX3_about_6
def dkwX3_about_4 : List UInt8 := [42, 180, 0, 20, 27, 46, 7, 160, 0, 55, 21, 4, 42, 27, 182, 0, 155, 162, 0, 45, 42, 180, 0, 50]
abbrev dktX3_about_4 : List UInt8 := dkwX3_about_4 ++ dktX3_about_5
def dkwX3_about_3 : List UInt8 := [46, 7, 160, 0, 7, 3, 167, 0, 14, 42, 180, 0, 38, 42, 180, 0, 32, 27, 46, 46, 62, 3, 54, 4]
abbrev dktX3_about_3 : List UInt8 := dkwX3_about_3 ++ dktX3_about_4
def dkwX3_about_2 : List UInt8 := [160, 0, 14, 42, 42, 180, 0, 23, 27, 46, 182, 0, 75, 172, 28, 5, 160, 0, 100, 42, 180, 0, 20, 27]
abbrev dktX3_about_2 : List UInt8 := dkwX3_about_2 ++ dktX3_about_3
def dkwX3_about_1 : List UInt8 := [16, 7, 182, 0, 68, 172, 28, 154, 0, 14, 42, 42, 180, 0, 20, 27, 46, 182, 0, 75, 172, 28, 4]
abbrev dktX3_about_1 : List UInt8 := dkwX3_about_1 ++ dktX3_about_2
def dkwX3_about_0 : List UInt8 := [28, 133, 9, 20, 0, 190, 184, 0, 101, 154, 0, 6, 18, 116, 172, 42, 27, 182, 0, 131, 154, 0, 10, 42]
abbrev dktX3_about_0 : List UInt8 := dkwX3_about_0 ++ dktX3_about_1
theorem dksX3_about_0 : cX3_about.data.toList.drop 0 = dktX3_about_0 := by decide +kernel
theorem dksX3_about_1 : cX3_about.data.toList.drop 24 = dktX3_about_1 := dk_seg dksX3_about_0 24 rfl rfl
theorem dksX3_about_2 : cX3_about.data.toList.drop 47 = dktX3_about_2 := dk_seg dksX3_about_1 23 rfl rfl
theorem dksX3_about_3 : cX3_about.data.toList.drop 71 = dktX3_about_3 := dk_seg dksX3_about_2 24 rfl rfl
theorem dksX3_about_4 : cX3_about.data.toList.drop 95 = dktX3_about_4 := dk_seg dksX3_about_3 24 rfl rfl
theorem dksX3_about_5 : cX3_about.data.toList.drop 119 = dktX3_about_5 := dk_seg dksX3_about_4 24 rfl rfl
theorem dksX3_about_6 : cX3_about.data.toList.drop 143 = dktX3_about_6 := dk_seg dksX3_about_5 24 rfl rfl
theorem dksX3_about_7 : cX3_about.data.toList.drop 167 = dktX3_about_7 := dk_seg dksX3_about_6 24 rfl rfl
theorem dksX3_about_8 : cX3_about.data.toList.drop 191 = dktX3_about_8 := dk_seg dksX3_about_7 24 rfl rfl
theorem dksX3_about_9 : cX3_about.data.toList.drop 215 = dktX3_about_9 := dk_seg dksX3_about_8 24 rfl rfl
theorem dX3_about_0 : decode cX3_about 0 = .ok (.iload_n 2, 1) := dk_28 (dk_at dksX3_about_0 0 rfl rfl)
theorem dX3_about_1 : decode cX3_about 1 = .ok (.i2l, 1) := dk_133 (dk_at dksX3_about_0 1 rfl rfl)
theorem dX3_about_2 : decode cX3_about 2 = .ok (.lconst 0, 1) := dk_9 (dk_at dksX3_about_0 2 rfl rfl)
theorem dX3_about_3 : decode cX3_about 3 = .ok (.ldc2_w 190, 3) := dk_20 0 190 (dk_at dksX3_about_0 3 rfl rfl)
theorem dX3_about_6 : decode cX3_about 6 = .ok (.invokestatic 101, 3) := dk_184 0 101 (dk_at dksX3_about_0 6 rfl rfl)
theorem dX3_about_9 : decode cX3_about 9 = .ok (.ifCond .ne 6, 3) := dk_154 0 6 (dk_at dksX3_about_0 9 rfl rfl)
theorem dX3_about_12 : decode cX3_about 12 = .ok (.ldc 116, 2) := dk_18 116 (dk_at dksX3_about_0 12 rfl rfl)
theorem dX3_about_14 : decode cX3_about 14 = .ok (.ireturn, 1) := dk_172 (dk_at dksX3_about_0 14 rfl rfl)
theorem dX3_about_15 : decode cX3_about 15 = .ok (.aload_n 0, 1) := dk_42 (dk_at dksX3_about_0 15 rfl rfl)
theorem dX3_about_16 : decode cX3_about 16 = .ok (.iload_n 1, 1) := dk_27 (dk_at dksX3_about_0 16 rfl rfl)
theorem dX3_about_17 : decode cX3_about 17 = .ok (.invokevirtual 131, 3) := dk_182 0 131 (dk_at dksX3_about_0 17 rfl rfl)
theorem dX3_about_20 : decode cX3_about 20 = .ok (.ifCond .ne 10, 3) := dk_154 0 10 (dk_at dksX3_about_0 20 rfl rfl)
theorem dX3_about_23 : decode cX3_about 23 = .ok (.aload_n 0, 1) := dk_42 (dk_at dksX3_about_0 23 rfl rfl)
theorem dX3_about_24 : decode cX3_about 24 = .ok (.bipush 7, 2) := dk_16 7 (dk_at dksX3_about_1 0 rfl rfl)
theorem dX3_about_26 : decode cX3_about 26 = .ok (.invokevirtual 68, 3) := dk_182 0 68 (dk_at dksX3_about_1 2 rfl rfl)
theorem dX3_about_29 : decode cX3_about 29 = .ok (.ireturn, 1) := dk_172 (dk_at dksX3_about_1 5 rfl rfl)
theorem dX3_about_30 : decode cX3_about 30 = .ok (.iload_n 2, 1) := dk_28 (dk_at dksX3_about_1 6 rfl rfl)
theorem dX3_about_31 : decode cX3_about 31 = .ok (.ifCond .ne 14, 3) := dk_154 0 14 (dk_at dksX3_about_1 7 rfl rfl)
theorem dX3_about_34 : decode cX3_about 34 = .ok (.aload_n 0, 1) := dk_42 (dk_at dksX3_about_1 10 rfl rfl)
theorem dX3_about_35 : decode cX3_about 35 = .ok (.aload_n 0, 1) := dk_42 (dk_at dksX3_about_1 11 rfl rfl)
theorem dX3_about_36 : decode cX3_about 36 = .ok (.getfield 20, 3) := dk_180 0 20 (dk_at dksX3_about_1 12 rfl rfl)
theorem dX3_about_39 : decode cX3_about 39 = .ok (.iload_n 1, 1) := dk_27 (dk_at dksX3_about_1 15 rfl rfl)
theorem dX3_about_40 : decode cX3_about 40 = .ok (.iaload, 1) := dk_46 (dk_at dksX3_about_1 16 rfl rfl)
theorem dX3_about_41 : decode cX3_about 41 = .ok (.invokevirtual 75, 3) := dk_182 0 75 (dk_at dksX3_about_1 17 rfl rfl)
theorem dX3_about_44 : decode cX3_about 44 = .ok (.ireturn, 1) := dk_172 (dk_at dksX3_about_1 20 rfl rfl)
theorem dX3_about_45 : decode cX3_about 45 = .ok (.iload_n 2, 1) := dk_28 (dk_at dksX3_about_1 21 rfl rfl)
theorem dX3_about_46 : decode cX3_about 46 = .ok (.iconst 1, 1) := dk_4 (dk_at dksX3_about_1 22 rfl rfl)
theorem dX3_about_47 : decode cX3_about 47 = .ok (.if_icmp .ne 14, 3) := dk_160 0 14 (dk_at dksX3_about_2 0 rfl rfl)
theorem dX3_about_50 : decode cX3_about 50 = .ok (.aload_n 0, 1) := dk_42 (dk_at dksX3_about_2 3 rfl rfl)
theorem dX3_about_51 : decode cX3_about 51 = .ok (.aload_n 0, 1) := dk_42 (dk_at dksX3_about_2 4 rfl rfl)
theorem dX3_about_52 : decode cX3_about 52 = .ok (.getfield 23, 3) := dk_180 0 23 (dk_at dksX3_about_2 5 rfl rfl)
theorem dX3_about_55 : decode cX3_about 55 = .ok (.iload_n 1, 1) := dk_27 (dk_at dksX3_about_2 8 rfl rfl)
theorem dX3_about_56 : decode cX3_about 56 = .ok (.iaload, 1) := dk_46 (dk_at dksX3_about_2 9 rfl rfl)
theorem dX3_about_57 : decode cX3_about 57 = .ok (.invokevirtual 75, 3) := dk_182 0 75 (dk_at dksX3_about_2 10 rfl rfl)
theorem dX3_about_60 : decode cX3_about 60 = .ok (.ireturn, 1) := dk_172 (dk_at dksX3_about_2 13 rfl rfl)
theorem dX3_about_61 : decode cX3_about 61 = .ok (.iload_n 2, 1) := dk_28 (dk_at dksX3_about_2 14 rfl rfl)
theorem dX3_about_62 : decode cX3_about 62 = .ok (.iconst 2, 1) := dk_5 (dk_at dksX3_about_2 15 rfl rfl)
theorem dX3_about_63 : decode cX3_about 63 = .ok (.if_icmp .ne 100, 3) := dk_160 0 100 (dk_at dksX3_about_2 16 rfl rfl)
theorem dX3_about_66 : decode cX3_about 66 = .ok (.aload_n 0, 1) := dk_42 (dk_at dksX3_about_2 19 rfl rfl)
theorem dX3_about_67 : decode cX3_about 67 = .ok (.getfield 20, 3) := dk_180 0 20 (dk_at dksX3_about_2 20 rfl rfl)
theorem dX3_about_70 : decode cX3_about 70 = .ok (.iload_n 1, 1) := dk_27 (dk_at dksX3_about_2 23 rfl rfl)
theorem dX3_about_71 : decode cX3_about 71 = .ok (.iaload, 1) := dk_46 (dk_at dksX3_about_3 0 rfl rfl)
theorem dX3_about_72 : decode cX3_about 72 = .ok (.iconst 4, 1) := dk_7 (dk_at dksX3_about_3 1 rfl rfl)
theorem dX3_about_73 : decode cX3_about 73 = .ok (.if_icmp .ne 7, 3) := dk_160 0 7 (dk_at dksX3_about_3 2 rfl rfl)
theorem dX3_about_76 : decode cX3_about 76 = .ok (.iconst 0, 1) := dk_3 (dk_at dksX3_about_3 5 rfl rfl)
theorem dX3_about_77 : decode cX3_about 77 = .ok (.goto 14, 3) := dk_167 0 14 (dk_at dksX3_about_3 6 rfl rfl)
theorem dX3_about_80 : decode cX3_about 80 = .ok (.aload_n 0, 1) := dk_42 (dk_at dksX3_about_3 9 rfl rfl)
theorem dX3_about_81 : decode cX3_about 81 = .ok (.getfield 38, 3) := dk_180 0 38 (dk_at dksX3_about_3 10 rfl rfl)
theorem dX3_about_84 : decode cX3_about 84 = .ok (.aload_n 0, 1) := dk_42 (dk_at dksX3_about_3 13 rfl rfl)
theorem dX3_about_85 : decode cX3_about 85 = .ok (.getfield 32, 3) := dk_180 0 32 (dk_at dksX3_about_3 14 rfl rfl)
theorem dX3_about_88 : decode cX3_about 88 = .ok (.iload_n 1, 1) := dk_27 (dk_at dksX3_about_3 17 rfl rfl)
theorem dX3_about_89 : decode cX3_about 89 = .ok (.iaload, 1) := dk_46 (dk_at dksX3_about_3 18 rfl rfl)
theorem dX3_about_90 : decode cX3_about 90 = .ok (.iaload, 1) := dk_46 (dk_at dksX3_about_3 19 rfl rfl)
theorem dX3_about_91 : decode cX3_about 91 = .ok (.istore_n 3, 1) := dk_62 (dk_at dksX3_about_3 20 rfl rfl)
theorem dX3_about_92 : decode cX3_about 92 = .ok (.iconst 0, 1) := dk_3 (dk_at dksX3_about_3 21 rfl rfl)
theorem dX3_about_93 : decode cX3_about 93 = .ok (.istore 4, 2) := dk_54 4 (dk_at dksX3_about_3 22 rfl rfl)
theorem dX3_about_95 : decode cX3_about 95 = .ok (.aload_n 0, 1) := dk_42 (dk_at dksX3_about_4 0 rfl rfl)
theorem dX3_about_96 : decode cX3_about 96 = .ok (.getfield 20, 3) := dk_180 0 20 (dk_at dksX3_about_4 1 rfl rfl)
theorem dX3_about_99 : decode cX3_about 99 = .ok (.iload_n 1, 1) := dk_27 (dk_at dksX3_about_4 4 rfl rfl)
theorem dX3_about_100 : decode cX3_about 100 = .ok (.iaload, 1) := dk_46 (dk_at dksX3_about_4 5 rfl rfl)
theorem dX3_about_101 : decode cX3_about 101 = .ok (.iconst 4, 1) := dk_7 (dk_at dksX3_about_4 6 rfl rfl)
theorem dX3_about_102 : decode cX3_about 102 = .ok (.if_icmp .ne 55, 3) := dk_160 0 55 (dk_at dksX3_about_4 7 rfl rfl)
theorem dX3_about_105 : decode cX3_about 105 = .ok (.iload 4, 2) := dk_21 4 (dk_at dksX3_about_4 10 rfl rfl)
theorem dX3_about_107 : decode cX3_about 107 = .ok (.aload_n 0, 1) := dk_42 (dk_at dksX3_about_4 12 rfl rfl)
theorem dX3_about_108 : decode cX3_about 108 = .ok (.iload_n 1, 1) := dk_27 (dk_at dksX3_about_4 13 rfl rfl)
theorem dX3_about_109 : decode cX3_about 109 = .ok (.invokevirtual 155, 3) := dk_182 0 155 (dk_at dksX3_about_4 14 rfl rfl)
theorem dX3_about_112 : decode cX3_about 112 = .ok (.if_icmp .ge 45, 3) := dk_162 0 45 (dk_at dksX3_about_4 17 rfl rfl)
theorem dX3_about_115 : decode cX3_about 115 = .ok (.aload_n 0, 1) := dk_42 (dk_at dksX3_about_4 20 rfl rfl)
theorem dX3_about_116 : decode cX3_about 116 = .ok (.getfield 50, 3) := dk_180 0 50 (dk_at dksX3_about_4 21 rfl rfl)
theorem dX3_about_119 : decode cX3_about 119 = .ok (.aload_n 0, 1) := dk_42 (dk_at dksX3_about_5 0 rfl rfl)
theorem dX3_about_120 : decode cX3_about 120 = .ok (.getfield 32, 3) := dk_180 0 32 (dk_at dksX3_about_5 1 rfl rfl)
theorem dX3_about_123 : decode cX3_about 123 = .ok (.iload_n 1, 1) := dk_27 (dk_at dksX3_about_5 4 rfl rfl)
theorem dX3_about_124 : decode cX3_about 124 = .ok (.iaload, 1) := dk_46 (dk_at dksX3_about_5 5 rfl rfl)
theorem dX3_about_125 : decode cX3_about 125 = .ok (.iload 4, 2) := dk_21 4 (dk_at dksX3_about_5 6 rfl rfl)
theorem dX3_about_127 : decode cX3_about 127 = .ok (.iadd, 1) := dk_96 (dk_at dksX3_about_5 8 rfl rfl)
theorem dX3_about_128 : decode cX3_about 128 = .ok (.iaload, 1) := dk_46 (dk_at dksX3_about_5 9 rfl rfl)
theorem dX3_about_129 : decode cX3_about 129 = .ok (.istore 5, 2) := dk_54 5 (dk_at dksX3_about_5 10 rfl rfl)
theorem dX3_about_131 : decode cX3_about 131 = .ok (.iload_n 3, 1) := dk_29 (dk_at dksX3_about_5 12 rfl rfl)
theorem dX3_about_132 : decode cX3_about 132 = .ok (.iload 5, 2) := dk_21 5 (dk_at dksX3_about_5 13 rfl rfl)
theorem dX3_about_134 : decode cX3_about 134 = .ok (.iconst (-1), 1) := dk_2 (dk_at dksX3_about_5 15 rfl rfl)
theorem dX3_about_135 : decode cX3_about 135 = .ok (.if_icmp .ne 7, 3) := dk_160 0 7 (dk_at dksX3_about_5 16 rfl rfl)
theorem dX3_about_138 : decode cX3_about 138 = .ok (.iconst 0, 1) := dk_3 (dk_at dksX3_about_5 19 rfl rfl)
theorem dX3_about_139 : decode cX3_about 139 = .ok (.goto 10, 3) := dk_167 0 10 (dk_at dksX3_about_5 20 rfl rfl)
theorem dX3_about_142 : decode cX3_about 142 = .ok (.aload_n 0, 1) := dk_42 (dk_at dksX3_about_5 23 rfl rfl)
theorem dX3_about_143 : decode cX3_about 143 = .ok (.getfield 38, 3) := dk_180 0 38 (dk_at dksX3_about_6 0 rfl rfl)
theorem dX3_about_146 : decode cX3_about 146 = .ok (.iload 5, 2) := dk_21 5 (dk_at dksX3_about_6 3 rfl rfl)
theorem dX3_about_148 : decode cX3_about 148 = .ok (.iaload, 1) := dk_46 (dk_at dksX3_about_6 5 rfl rfl)
theorem dX3_about_149 : decode cX3_about 149 = .ok (.iadd, 1) := dk_96 (dk_at dksX3_about_6 6 rfl rfl)
theorem dX3_about_150 : decode cX3_about 150 = .ok (.istore_n 3, 1) := dk_62 (dk_at dksX3_about_6 7 rfl rfl)
theorem dX3_about_151 : decode cX3_about 151 = .ok (.iinc 4 1, 3) := dk_132 4 1 (dk_at dksX3_about_6 8 rfl rfl)
theorem dX3_about_154 : decode cX3_about 154 = .ok (.goto (-59), 3) := dk_167 255 197 (dk_at dksX3_about_6 11 rfl rfl)
theorem dX3_about_157 : decode cX3_about 157 = .ok (.aload_n 0, 1) := dk_42 (dk_at dksX3_about_6 14 rfl rfl)
theorem dX3_about_158 : decode cX3_about 158 = .ok (.iload_n 3, 1) := dk_29 (dk_at dksX3_about_6 15 rfl rfl)
theorem dX3_about_159 : decode cX3_about 159 = .ok (.invokevirtual 75, 3) := dk_182 0 75 (dk_at dksX3_about_6 16 rfl rfl)
theorem dX3_about_162 : decode cX3_about 162 = .ok (.ireturn, 1) := dk_172 (dk_at dksX3_about_6 19 rfl rfl)
theorem dX3_about_163 : decode cX3_about 163 = .ok (.iload_n 2, 1) := dk_28 (dk_at dksX3_about_6 20 rfl rfl)
theorem dX3_about_164 : decode cX3_about 164 = .ok (.iconst 3, 1) := dk_6 (dk_at dksX3_about_6 21 rfl rfl)
theorem dX3_about_165 : decode cX3_about 165 = .ok (.isub, 1) := dk_100 (dk_at dksX3_about_6 22 rfl rfl)
theorem dX3_about_166 : decode cX3_about 166 = .ok (.iconst 2, 1) := dk_5 (dk_at dksX3_about_6 23 rfl rfl)
theorem dX3_about_167 : decode cX3_about 167 = .ok (.idiv, 1) := dk_108 (dk_at dksX3_about_7 0 rfl rfl)
theorem dX3_about_168 : decode cX3_about 168 = .ok (.istore_n 3, 1) := dk_62 (dk_at dksX3_about_7 1 rfl rfl)
theorem dX3_about_169 : decode cX3_about 169 = .ok (.iload_n 3, 1) := dk_29 (dk_at dksX3_about_7 2 rfl rfl)
theorem dX3_about_170 : decode cX3_about 170 = .ok (.aload_n 0, 1) := dk_42 (dk_at dksX3_about_7 3 rfl rfl)
theorem dX3_about_171 : decode cX3_about 171 = .ok (.getfield 23, 3) := dk_180 0 23 (dk_at dksX3_about_7 4 rfl rfl)
theorem dX3_about_174 : decode cX3_about 174 = .ok (.iload_n 1, 1) := dk_27 (dk_at dksX3_about_7 7 rfl rfl)
theorem dX3_about_175 : decode cX3_about 175 = .ok (.iaload, 1) := dk_46 (dk_at dksX3_about_7 8 rfl rfl)
theorem dX3_about_176 : decode cX3_about 176 = .ok (.if_icmp .lt 10, 3) := dk_161 0 10 (dk_at dksX3_about_7 9 rfl rfl)
theorem dX3_about_179 : decode cX3_about 179 = .ok (.aload_n 0, 1) := dk_42 (dk_at dksX3_about_7 12 rfl rfl)
theorem dX3_about_180 : decode cX3_about 180 = .ok (.bipush 9, 2) := dk_16 9 (dk_at dksX3_about_7 13 rfl rfl)
theorem dX3_about_182 : decode cX3_about 182 = .ok (.invokevirtual 68, 3) := dk_182 0 68 (dk_at dksX3_about_7 15 rfl rfl)
theorem dX3_about_185 : decode cX3_about 185 = .ok (.ireturn, 1) := dk_172 (dk_at dksX3_about_7 18 rfl rfl)
theorem dX3_about_186 : decode cX3_about 186 = .ok (.aload_n 0, 1) := dk_42 (dk_at dksX3_about_7 19 rfl rfl)
theorem dX3_about_187 : decode cX3_about 187 = .ok (.iload_n 2, 1) := dk_28 (dk_at dksX3_about_7 20 rfl rfl)
theorem dX3_about_188 : decode cX3_about 188 = .ok (.iconst 2, 1) := dk_5 (dk_at dksX3_about_7 21 rfl rfl)
theorem dX3_about_189 : decode cX3_about 189 = .ok (.irem, 1) := dk_112 (dk_at dksX3_about_7 22 rfl rfl)
theorem dX3_about_190 : decode cX3_about 190 = .ok (.iconst 1, 1) := dk_4 (dk_at dksX3_about_7 23 rfl rfl)
theorem dX3_about_191 : decode cX3_about 191 = .ok (.if_icmp .ne 16, 3) := dk_160 0 16 (dk_at dksX3_about_8 0 rfl rfl)
theorem dX3_about_194 : decode cX3_about 194 = .ok (.aload_n 0, 1) := dk_42 (dk_at dksX3_about_8 3 rfl rfl)
theorem dX3_about_195 : decode cX3_about 195 = .ok (.getfield 26, 3) := dk_180 0 26 (dk_at dksX3_about_8 4 rfl rfl)
theorem dX3_about_198 : decode cX3_about 198 = .ok (.iconst 3, 1) := dk_6 (dk_at dksX3_about_8 7 rfl rfl)
theorem dX3_about_199 : decode cX3_about 199 = .ok (.iload_n 1, 1) := dk_27 (dk_at dksX3_about_8 8 rfl rfl)
theorem dX3_about_200 : decode cX3_about 200 = .ok (.imul, 1) := dk_104 (dk_at dksX3_about_8 9 rfl rfl)
theorem dX3_about_201 : decode cX3_about 201 = .ok (.iload_n 3, 1) := dk_29 (dk_at dksX3_about_8 10 rfl rfl)
theorem dX3_about_202 : decode cX3_about 202 = .ok (.iadd, 1) := dk_96 (dk_at dksX3_about_8 11 rfl rfl)
theorem dX3_about_203 : decode cX3_about 203 = .ok (.iaload, 1) := dk_46 (dk_at dksX3_about_8 12 rfl rfl)
theorem dX3_about_204 : decode cX3_about 204 = .ok (.goto 13, 3) := dk_167 0 13 (dk_at dksX3_about_8 13 rfl rfl)
theorem dX3_about_207 : decode cX3_about 207 = .ok (.aload_n 0, 1) := dk_42 (dk_at dksX3_about_8 16 rfl rfl)
theorem dX3_about_208 : decode cX3_about 208 = .ok (.getfield 29, 3) := dk_180 0 29 (dk_at dksX3_about_8 17 rfl rfl)
theorem dX3_about_211 : decode cX3_about 211 = .ok (.iconst 3, 1) := dk_6 (dk_at dksX3_about_8 20 rfl rfl)
theorem dX3_about_212 : decode cX3_about 212 = .ok (.iload_n 1, 1) := dk_27 (dk_at dksX3_about_8 21 rfl rfl)
theorem dX3_about_213 : decode cX3_about 213 = .ok (.imul, 1) := dk_104 (dk_at dksX3_about_8 22 rfl rfl)
theorem dX3_about_214 : decode cX3_about 214 = .ok (.iload_n 3, 1) := dk_29 (dk_at dksX3_about_8 23 rfl rfl)
theorem dX3_about_215 : decode cX3_about 215 = .ok (.iadd, 1) := dk_96 (dk_at dksX3_about_9 0 rfl rfl)
theorem dX3_about_216 : decode cX3_about 216 = .ok (.iaload, 1) := dk_46 (dk_at dksX3_about_9 1 rfl rfl)
theorem dX3_about_217 : decode cX3_about 217 = .ok (.invokevirtual 75, 3) := dk_182 0 75 (dk_at dksX3_about_9 2 rfl rfl)
theorem dX3_about_220 : decode cX3_about 220 = .ok (.ireturn, 1) := dk_172 (dk_at dksX3_about_9 5 rfl rfl)
abbrev cX3_same : ByteArray := prog_6_method_49_code
def yX3_same : MethodName := ⟨RX3, "same", "(II)I"⟩
def dkwX3_same_7 : List UInt8 := [167, 255, 202, 42, 29, 153, 0, 7, 4, 167, 0, 4, 3, 182, 0, 75, 172]
abbrev dktX3_same_7 : List UInt8 := dkwX3_same_7 ++ []
def dkwX3_same_6 : List UInt8 := [42, 180, 0, 32, 28, 46, 21, 4, 96, 46, 160, 0, 7, 4, 167, 0, 4, 3, 62, 132, 4, 1]
abbrev dktX3_same_6 : List UInt8 := dkwX3_same_6 ++ dktX3_same_7
def dkwX3_same_5 : List UInt8 := [182, 0, 155, 162, 0, 46, 42, 180, 0, 50, 42, 180, 0, 32, 27, 46, 21, 4, 96, 46, 42, 180, 0, 50]
abbrev dktX3_same_5 : List UInt8 := dkwX3_same_5 ++ dktX3_same_6
def dkwX3_same_4 : List UInt8 := [182, 0, 155, 160, 0, 7, 4, 167, 0, 4, 3, 62, 3, 54, 4, 29, 153, 0, 56, 21, 4, 42, 27]
abbrev dktX3_same_4 : List UInt8 := dkwX3_same_4 ++ dktX3_same_5
def dkwX3_same_3 : List UInt8 := [180, 0, 32, 28, 46, 160, 0, 7, 4, 167, 0, 4, 3, 182, 0, 75, 172, 42, 27, 182, 0, 155, 42, 28]
abbrev dktX3_same_3 : List UInt8 := dkwX3_same_3 ++ dktX3_same_4
def dkwX3_same_2 : List UInt8 := [27, 46, 7, 159, 0, 32, 42, 180, 0, 20, 28, 46, 7, 159, 0, 22, 42, 180, 0, 32, 27, 46, 42]
abbrev dktX3_same_2 : List UInt8 := dkwX3_same_2 ++ dktX3_same_3
def dkwX3_same_1 : List UInt8 := [180, 0, 20, 27, 46, 7, 160, 0, 13, 42, 180, 0, 20, 28, 46, 7, 159, 0, 48, 42, 42, 180, 0, 20]
abbrev dktX3_same_1 : List UInt8 := dkwX3_same_1 ++ dktX3_same_2
def dkwX3_same_0 : List UInt8 := [42, 27, 182, 0, 131, 153, 0, 11, 42, 28, 182, 0, 131, 154, 0, 10, 42, 16, 7, 182, 0, 68, 172, 42]
abbrev dktX3_same_0 : List UInt8 := dkwX3_same_0 ++ dktX3_same_1
theorem dksX3_same_0 : cX3_same.data.toList.drop 0 = dktX3_same_0 := by decide +kernel
theorem dksX3_same_1 : cX3_same.data.toList.drop 24 = dktX3_same_1 := dk_seg dksX3_same_0 24 rfl rfl
theorem dksX3_same_2 : cX3_same.data.toList.drop 48 = dktX3_same_2 := dk_seg dksX3_same_1 24 rfl rfl
theorem dksX3_same_3 : cX3_same.data.toList.drop 71 = dktX3_same_3 := dk_seg dksX3_same_2 23 rfl rfl
theorem dksX3_same_4 : cX3_same.data.toList.drop 95 = dktX3_same_4 := dk_seg dksX3_same_3 24 rfl rfl
theorem dksX3_same_5 : cX3_same.data.toList.drop 118 = dktX3_same_5 := dk_seg dksX3_same_4 23 rfl rfl
theorem dksX3_same_6 : cX3_same.data.toList.drop 142 = dktX3_same_6 := dk_seg dksX3_same_5 24 rfl rfl
theorem dksX3_same_7 : cX3_same.data.toList.drop 164 = dktX3_same_7 := dk_seg dksX3_same_6 22 rfl rfl
theorem dX3_same_0 : decode cX3_same 0 = .ok (.aload_n 0, 1) := dk_42 (dk_at dksX3_same_0 0 rfl rfl)
theorem dX3_same_1 : decode cX3_same 1 = .ok (.iload_n 1, 1) := dk_27 (dk_at dksX3_same_0 1 rfl rfl)
theorem dX3_same_2 : decode cX3_same 2 = .ok (.invokevirtual 131, 3) := dk_182 0 131 (dk_at dksX3_same_0 2 rfl rfl)
theorem dX3_same_5 : decode cX3_same 5 = .ok (.ifCond .eq 11, 3) := dk_153 0 11 (dk_at dksX3_same_0 5 rfl rfl)
theorem dX3_same_8 : decode cX3_same 8 = .ok (.aload_n 0, 1) := dk_42 (dk_at dksX3_same_0 8 rfl rfl)
theorem dX3_same_9 : decode cX3_same 9 = .ok (.iload_n 2, 1) := dk_28 (dk_at dksX3_same_0 9 rfl rfl)
theorem dX3_same_10 : decode cX3_same 10 = .ok (.invokevirtual 131, 3) := dk_182 0 131 (dk_at dksX3_same_0 10 rfl rfl)
theorem dX3_same_13 : decode cX3_same 13 = .ok (.ifCond .ne 10, 3) := dk_154 0 10 (dk_at dksX3_same_0 13 rfl rfl)
theorem dX3_same_16 : decode cX3_same 16 = .ok (.aload_n 0, 1) := dk_42 (dk_at dksX3_same_0 16 rfl rfl)
theorem dX3_same_17 : decode cX3_same 17 = .ok (.bipush 7, 2) := dk_16 7 (dk_at dksX3_same_0 17 rfl rfl)
theorem dX3_same_19 : decode cX3_same 19 = .ok (.invokevirtual 68, 3) := dk_182 0 68 (dk_at dksX3_same_0 19 rfl rfl)
theorem dX3_same_22 : decode cX3_same 22 = .ok (.ireturn, 1) := dk_172 (dk_at dksX3_same_0 22 rfl rfl)
theorem dX3_same_23 : decode cX3_same 23 = .ok (.aload_n 0, 1) := dk_42 (dk_at dksX3_same_0 23 rfl rfl)
theorem dX3_same_24 : decode cX3_same 24 = .ok (.getfield 20, 3) := dk_180 0 20 (dk_at dksX3_same_1 0 rfl rfl)
theorem dX3_same_27 : decode cX3_same 27 = .ok (.iload_n 1, 1) := dk_27 (dk_at dksX3_same_1 3 rfl rfl)
theorem dX3_same_28 : decode cX3_same 28 = .ok (.iaload, 1) := dk_46 (dk_at dksX3_same_1 4 rfl rfl)
theorem dX3_same_29 : decode cX3_same 29 = .ok (.iconst 4, 1) := dk_7 (dk_at dksX3_same_1 5 rfl rfl)
theorem dX3_same_30 : decode cX3_same 30 = .ok (.if_icmp .ne 13, 3) := dk_160 0 13 (dk_at dksX3_same_1 6 rfl rfl)
theorem dX3_same_33 : decode cX3_same 33 = .ok (.aload_n 0, 1) := dk_42 (dk_at dksX3_same_1 9 rfl rfl)
theorem dX3_same_34 : decode cX3_same 34 = .ok (.getfield 20, 3) := dk_180 0 20 (dk_at dksX3_same_1 10 rfl rfl)
theorem dX3_same_37 : decode cX3_same 37 = .ok (.iload_n 2, 1) := dk_28 (dk_at dksX3_same_1 13 rfl rfl)
theorem dX3_same_38 : decode cX3_same 38 = .ok (.iaload, 1) := dk_46 (dk_at dksX3_same_1 14 rfl rfl)
theorem dX3_same_39 : decode cX3_same 39 = .ok (.iconst 4, 1) := dk_7 (dk_at dksX3_same_1 15 rfl rfl)
theorem dX3_same_40 : decode cX3_same 40 = .ok (.if_icmp .eq 48, 3) := dk_159 0 48 (dk_at dksX3_same_1 16 rfl rfl)
theorem dX3_same_43 : decode cX3_same 43 = .ok (.aload_n 0, 1) := dk_42 (dk_at dksX3_same_1 19 rfl rfl)
theorem dX3_same_44 : decode cX3_same 44 = .ok (.aload_n 0, 1) := dk_42 (dk_at dksX3_same_1 20 rfl rfl)
theorem dX3_same_45 : decode cX3_same 45 = .ok (.getfield 20, 3) := dk_180 0 20 (dk_at dksX3_same_1 21 rfl rfl)
theorem dX3_same_48 : decode cX3_same 48 = .ok (.iload_n 1, 1) := dk_27 (dk_at dksX3_same_2 0 rfl rfl)
theorem dX3_same_49 : decode cX3_same 49 = .ok (.iaload, 1) := dk_46 (dk_at dksX3_same_2 1 rfl rfl)
theorem dX3_same_50 : decode cX3_same 50 = .ok (.iconst 4, 1) := dk_7 (dk_at dksX3_same_2 2 rfl rfl)
theorem dX3_same_51 : decode cX3_same 51 = .ok (.if_icmp .eq 32, 3) := dk_159 0 32 (dk_at dksX3_same_2 3 rfl rfl)
theorem dX3_same_54 : decode cX3_same 54 = .ok (.aload_n 0, 1) := dk_42 (dk_at dksX3_same_2 6 rfl rfl)
theorem dX3_same_55 : decode cX3_same 55 = .ok (.getfield 20, 3) := dk_180 0 20 (dk_at dksX3_same_2 7 rfl rfl)
theorem dX3_same_58 : decode cX3_same 58 = .ok (.iload_n 2, 1) := dk_28 (dk_at dksX3_same_2 10 rfl rfl)
theorem dX3_same_59 : decode cX3_same 59 = .ok (.iaload, 1) := dk_46 (dk_at dksX3_same_2 11 rfl rfl)
theorem dX3_same_60 : decode cX3_same 60 = .ok (.iconst 4, 1) := dk_7 (dk_at dksX3_same_2 12 rfl rfl)
theorem dX3_same_61 : decode cX3_same 61 = .ok (.if_icmp .eq 22, 3) := dk_159 0 22 (dk_at dksX3_same_2 13 rfl rfl)
theorem dX3_same_64 : decode cX3_same 64 = .ok (.aload_n 0, 1) := dk_42 (dk_at dksX3_same_2 16 rfl rfl)
theorem dX3_same_65 : decode cX3_same 65 = .ok (.getfield 32, 3) := dk_180 0 32 (dk_at dksX3_same_2 17 rfl rfl)
theorem dX3_same_68 : decode cX3_same 68 = .ok (.iload_n 1, 1) := dk_27 (dk_at dksX3_same_2 20 rfl rfl)
theorem dX3_same_69 : decode cX3_same 69 = .ok (.iaload, 1) := dk_46 (dk_at dksX3_same_2 21 rfl rfl)
theorem dX3_same_70 : decode cX3_same 70 = .ok (.aload_n 0, 1) := dk_42 (dk_at dksX3_same_2 22 rfl rfl)
theorem dX3_same_71 : decode cX3_same 71 = .ok (.getfield 32, 3) := dk_180 0 32 (dk_at dksX3_same_3 0 rfl rfl)
theorem dX3_same_74 : decode cX3_same 74 = .ok (.iload_n 2, 1) := dk_28 (dk_at dksX3_same_3 3 rfl rfl)
theorem dX3_same_75 : decode cX3_same 75 = .ok (.iaload, 1) := dk_46 (dk_at dksX3_same_3 4 rfl rfl)
theorem dX3_same_76 : decode cX3_same 76 = .ok (.if_icmp .ne 7, 3) := dk_160 0 7 (dk_at dksX3_same_3 5 rfl rfl)
theorem dX3_same_79 : decode cX3_same 79 = .ok (.iconst 1, 1) := dk_4 (dk_at dksX3_same_3 8 rfl rfl)
theorem dX3_same_80 : decode cX3_same 80 = .ok (.goto 4, 3) := dk_167 0 4 (dk_at dksX3_same_3 9 rfl rfl)
theorem dX3_same_83 : decode cX3_same 83 = .ok (.iconst 0, 1) := dk_3 (dk_at dksX3_same_3 12 rfl rfl)
theorem dX3_same_84 : decode cX3_same 84 = .ok (.invokevirtual 75, 3) := dk_182 0 75 (dk_at dksX3_same_3 13 rfl rfl)
theorem dX3_same_87 : decode cX3_same 87 = .ok (.ireturn, 1) := dk_172 (dk_at dksX3_same_3 16 rfl rfl)
theorem dX3_same_88 : decode cX3_same 88 = .ok (.aload_n 0, 1) := dk_42 (dk_at dksX3_same_3 17 rfl rfl)
theorem dX3_same_89 : decode cX3_same 89 = .ok (.iload_n 1, 1) := dk_27 (dk_at dksX3_same_3 18 rfl rfl)
theorem dX3_same_90 : decode cX3_same 90 = .ok (.invokevirtual 155, 3) := dk_182 0 155 (dk_at dksX3_same_3 19 rfl rfl)
theorem dX3_same_93 : decode cX3_same 93 = .ok (.aload_n 0, 1) := dk_42 (dk_at dksX3_same_3 22 rfl rfl)
theorem dX3_same_94 : decode cX3_same 94 = .ok (.iload_n 2, 1) := dk_28 (dk_at dksX3_same_3 23 rfl rfl)
theorem dX3_same_95 : decode cX3_same 95 = .ok (.invokevirtual 155, 3) := dk_182 0 155 (dk_at dksX3_same_4 0 rfl rfl)
theorem dX3_same_98 : decode cX3_same 98 = .ok (.if_icmp .ne 7, 3) := dk_160 0 7 (dk_at dksX3_same_4 3 rfl rfl)
theorem dX3_same_101 : decode cX3_same 101 = .ok (.iconst 1, 1) := dk_4 (dk_at dksX3_same_4 6 rfl rfl)
theorem dX3_same_102 : decode cX3_same 102 = .ok (.goto 4, 3) := dk_167 0 4 (dk_at dksX3_same_4 7 rfl rfl)
theorem dX3_same_105 : decode cX3_same 105 = .ok (.iconst 0, 1) := dk_3 (dk_at dksX3_same_4 10 rfl rfl)
theorem dX3_same_106 : decode cX3_same 106 = .ok (.istore_n 3, 1) := dk_62 (dk_at dksX3_same_4 11 rfl rfl)
theorem dX3_same_107 : decode cX3_same 107 = .ok (.iconst 0, 1) := dk_3 (dk_at dksX3_same_4 12 rfl rfl)
theorem dX3_same_108 : decode cX3_same 108 = .ok (.istore 4, 2) := dk_54 4 (dk_at dksX3_same_4 13 rfl rfl)
theorem dX3_same_110 : decode cX3_same 110 = .ok (.iload_n 3, 1) := dk_29 (dk_at dksX3_same_4 15 rfl rfl)
theorem dX3_same_111 : decode cX3_same 111 = .ok (.ifCond .eq 56, 3) := dk_153 0 56 (dk_at dksX3_same_4 16 rfl rfl)
theorem dX3_same_114 : decode cX3_same 114 = .ok (.iload 4, 2) := dk_21 4 (dk_at dksX3_same_4 19 rfl rfl)
theorem dX3_same_116 : decode cX3_same 116 = .ok (.aload_n 0, 1) := dk_42 (dk_at dksX3_same_4 21 rfl rfl)
theorem dX3_same_117 : decode cX3_same 117 = .ok (.iload_n 1, 1) := dk_27 (dk_at dksX3_same_4 22 rfl rfl)
theorem dX3_same_118 : decode cX3_same 118 = .ok (.invokevirtual 155, 3) := dk_182 0 155 (dk_at dksX3_same_5 0 rfl rfl)
theorem dX3_same_121 : decode cX3_same 121 = .ok (.if_icmp .ge 46, 3) := dk_162 0 46 (dk_at dksX3_same_5 3 rfl rfl)
theorem dX3_same_124 : decode cX3_same 124 = .ok (.aload_n 0, 1) := dk_42 (dk_at dksX3_same_5 6 rfl rfl)
theorem dX3_same_125 : decode cX3_same 125 = .ok (.getfield 50, 3) := dk_180 0 50 (dk_at dksX3_same_5 7 rfl rfl)
theorem dX3_same_128 : decode cX3_same 128 = .ok (.aload_n 0, 1) := dk_42 (dk_at dksX3_same_5 10 rfl rfl)
theorem dX3_same_129 : decode cX3_same 129 = .ok (.getfield 32, 3) := dk_180 0 32 (dk_at dksX3_same_5 11 rfl rfl)
theorem dX3_same_132 : decode cX3_same 132 = .ok (.iload_n 1, 1) := dk_27 (dk_at dksX3_same_5 14 rfl rfl)
theorem dX3_same_133 : decode cX3_same 133 = .ok (.iaload, 1) := dk_46 (dk_at dksX3_same_5 15 rfl rfl)
theorem dX3_same_134 : decode cX3_same 134 = .ok (.iload 4, 2) := dk_21 4 (dk_at dksX3_same_5 16 rfl rfl)
theorem dX3_same_136 : decode cX3_same 136 = .ok (.iadd, 1) := dk_96 (dk_at dksX3_same_5 18 rfl rfl)
theorem dX3_same_137 : decode cX3_same 137 = .ok (.iaload, 1) := dk_46 (dk_at dksX3_same_5 19 rfl rfl)
theorem dX3_same_138 : decode cX3_same 138 = .ok (.aload_n 0, 1) := dk_42 (dk_at dksX3_same_5 20 rfl rfl)
theorem dX3_same_139 : decode cX3_same 139 = .ok (.getfield 50, 3) := dk_180 0 50 (dk_at dksX3_same_5 21 rfl rfl)
theorem dX3_same_142 : decode cX3_same 142 = .ok (.aload_n 0, 1) := dk_42 (dk_at dksX3_same_6 0 rfl rfl)
theorem dX3_same_143 : decode cX3_same 143 = .ok (.getfield 32, 3) := dk_180 0 32 (dk_at dksX3_same_6 1 rfl rfl)
theorem dX3_same_146 : decode cX3_same 146 = .ok (.iload_n 2, 1) := dk_28 (dk_at dksX3_same_6 4 rfl rfl)
theorem dX3_same_147 : decode cX3_same 147 = .ok (.iaload, 1) := dk_46 (dk_at dksX3_same_6 5 rfl rfl)
theorem dX3_same_148 : decode cX3_same 148 = .ok (.iload 4, 2) := dk_21 4 (dk_at dksX3_same_6 6 rfl rfl)
theorem dX3_same_150 : decode cX3_same 150 = .ok (.iadd, 1) := dk_96 (dk_at dksX3_same_6 8 rfl rfl)
theorem dX3_same_151 : decode cX3_same 151 = .ok (.iaload, 1) := dk_46 (dk_at dksX3_same_6 9 rfl rfl)
theorem dX3_same_152 : decode cX3_same 152 = .ok (.if_icmp .ne 7, 3) := dk_160 0 7 (dk_at dksX3_same_6 10 rfl rfl)
theorem dX3_same_155 : decode cX3_same 155 = .ok (.iconst 1, 1) := dk_4 (dk_at dksX3_same_6 13 rfl rfl)
theorem dX3_same_156 : decode cX3_same 156 = .ok (.goto 4, 3) := dk_167 0 4 (dk_at dksX3_same_6 14 rfl rfl)
theorem dX3_same_159 : decode cX3_same 159 = .ok (.iconst 0, 1) := dk_3 (dk_at dksX3_same_6 17 rfl rfl)
theorem dX3_same_160 : decode cX3_same 160 = .ok (.istore_n 3, 1) := dk_62 (dk_at dksX3_same_6 18 rfl rfl)
theorem dX3_same_161 : decode cX3_same 161 = .ok (.iinc 4 1, 3) := dk_132 4 1 (dk_at dksX3_same_6 19 rfl rfl)
theorem dX3_same_164 : decode cX3_same 164 = .ok (.goto (-54), 3) := dk_167 255 202 (dk_at dksX3_same_7 0 rfl rfl)
theorem dX3_same_167 : decode cX3_same 167 = .ok (.aload_n 0, 1) := dk_42 (dk_at dksX3_same_7 3 rfl rfl)
theorem dX3_same_168 : decode cX3_same 168 = .ok (.iload_n 3, 1) := dk_29 (dk_at dksX3_same_7 4 rfl rfl)
theorem dX3_same_169 : decode cX3_same 169 = .ok (.ifCond .eq 7, 3) := dk_153 0 7 (dk_at dksX3_same_7 5 rfl rfl)
theorem dX3_same_172 : decode cX3_same 172 = .ok (.iconst 1, 1) := dk_4 (dk_at dksX3_same_7 8 rfl rfl)
theorem dX3_same_173 : decode cX3_same 173 = .ok (.goto 4, 3) := dk_167 0 4 (dk_at dksX3_same_7 9 rfl rfl)
theorem dX3_same_176 : decode cX3_same 176 = .ok (.iconst 0, 1) := dk_3 (dk_at dksX3_same_7 12 rfl rfl)
theorem dX3_same_177 : decode cX3_same 177 = .ok (.invokevirtual 75, 3) := dk_182 0 75 (dk_at dksX3_same_7 13 rfl rfl)
theorem dX3_same_180 : decode cX3_same 180 = .ok (.ireturn, 1) := dk_172 (dk_at dksX3_same_7 16 rfl rfl)
abbrev cX3_compare : ByteArray := prog_6_method_50_code
def yX3_compare : MethodName := ⟨RX3, "compare", "(II)I"⟩
def dkwX3_compare_8 : List UInt8 := [167, 0, 4, 3, 182, 0, 75, 172]
abbrev dktX3_compare_8 : List UInt8 := dkwX3_compare_8 ++ []
def dkwX3_compare_7 : List UInt8 := [132, 5, 1, 167, 255, 172, 42, 29, 21, 4, 162, 0, 7, 2, 167, 0, 14, 29, 21, 4, 164, 0, 7, 4]
abbrev dktX3_compare_7 : List UInt8 := dkwX3_compare_7 ++ dktX3_compare_8
def dkwX3_compare_6 : List UInt8 := [148, 153, 0, 21, 42, 22, 6, 22, 8, 148, 156, 0, 7, 2, 167, 0, 4, 4, 182, 0, 75, 172]
abbrev dktX3_compare_6 : List UInt8 := dkwX3_compare_6 ++ dktX3_compare_7
def dkwX3_compare_5 : List UInt8 := [180, 0, 42, 42, 180, 0, 35, 42, 180, 0, 32, 28, 46, 46, 21, 5, 96, 47, 55, 8, 22, 6, 22, 8]
abbrev dktX3_compare_5 : List UInt8 := dkwX3_compare_5 ++ dktX3_compare_6
def dkwX3_compare_4 : List UInt8 := [42, 180, 0, 42, 42, 180, 0, 35, 42, 180, 0, 32, 27, 46, 46, 21, 5, 96, 47, 55, 6, 42]
abbrev dktX3_compare_4 : List UInt8 := dkwX3_compare_4 ++ dktX3_compare_5
def dkwX3_compare_3 : List UInt8 := [180, 0, 32, 28, 46, 46, 54, 4, 3, 54, 5, 21, 5, 29, 162, 0, 84, 21, 5, 21, 4, 162, 0, 77]
abbrev dktX3_compare_3 : List UInt8 := dkwX3_compare_3 ++ dktX3_compare_4
def dkwX3_compare_2 : List UInt8 := [42, 5, 182, 0, 68, 172, 42, 180, 0, 38, 42, 180, 0, 32, 27, 46, 46, 62, 42, 180, 0, 38, 42]
abbrev dktX3_compare_2 : List UInt8 := dkwX3_compare_2 ++ dktX3_compare_3
def dkwX3_compare_1 : List UInt8 := [180, 0, 20, 27, 46, 42, 180, 0, 20, 28, 46, 160, 0, 13, 42, 180, 0, 20, 27, 46, 6, 161, 0, 9]
abbrev dktX3_compare_1 : List UInt8 := dkwX3_compare_1 ++ dktX3_compare_2
def dkwX3_compare_0 : List UInt8 := [42, 27, 182, 0, 131, 153, 0, 11, 42, 28, 182, 0, 131, 154, 0, 10, 42, 16, 7, 182, 0, 68, 172, 42]
abbrev dktX3_compare_0 : List UInt8 := dkwX3_compare_0 ++ dktX3_compare_1
theorem dksX3_compare_0 : cX3_compare.data.toList.drop 0 = dktX3_compare_0 := by decide +kernel
theorem dksX3_compare_1 : cX3_compare.data.toList.drop 24 = dktX3_compare_1 := dk_seg dksX3_compare_0 24 rfl rfl
theorem dksX3_compare_2 : cX3_compare.data.toList.drop 48 = dktX3_compare_2 := dk_seg dksX3_compare_1 24 rfl rfl
theorem dksX3_compare_3 : cX3_compare.data.toList.drop 71 = dktX3_compare_3 := dk_seg dksX3_compare_2 23 rfl rfl
theorem dksX3_compare_4 : cX3_compare.data.toList.drop 95 = dktX3_compare_4 := dk_seg dksX3_compare_3 24 rfl rfl
theorem dksX3_compare_5 : cX3_compare.data.toList.drop 117 = dktX3_compare_5 := dk_seg dksX3_compare_4 22 rfl rfl
theorem dksX3_compare_6 : cX3_compare.data.toList.drop 141 = dktX3_compare_6 := dk_seg dksX3_compare_5 24 rfl rfl
theorem dksX3_compare_7 : cX3_compare.data.toList.drop 163 = dktX3_compare_7 := dk_seg dksX3_compare_6 22 rfl rfl
theorem dksX3_compare_8 : cX3_compare.data.toList.drop 187 = dktX3_compare_8 := dk_seg dksX3_compare_7 24 rfl rfl
theorem dX3_compare_0 : decode cX3_compare 0 = .ok (.aload_n 0, 1) := dk_42 (dk_at dksX3_compare_0 0 rfl rfl)
theorem dX3_compare_1 : decode cX3_compare 1 = .ok (.iload_n 1, 1) := dk_27 (dk_at dksX3_compare_0 1 rfl rfl)
theorem dX3_compare_2 : decode cX3_compare 2 = .ok (.invokevirtual 131, 3) := dk_182 0 131 (dk_at dksX3_compare_0 2 rfl rfl)
theorem dX3_compare_5 : decode cX3_compare 5 = .ok (.ifCond .eq 11, 3) := dk_153 0 11 (dk_at dksX3_compare_0 5 rfl rfl)
theorem dX3_compare_8 : decode cX3_compare 8 = .ok (.aload_n 0, 1) := dk_42 (dk_at dksX3_compare_0 8 rfl rfl)
theorem dX3_compare_9 : decode cX3_compare 9 = .ok (.iload_n 2, 1) := dk_28 (dk_at dksX3_compare_0 9 rfl rfl)
theorem dX3_compare_10 : decode cX3_compare 10 = .ok (.invokevirtual 131, 3) := dk_182 0 131 (dk_at dksX3_compare_0 10 rfl rfl)
theorem dX3_compare_13 : decode cX3_compare 13 = .ok (.ifCond .ne 10, 3) := dk_154 0 10 (dk_at dksX3_compare_0 13 rfl rfl)
theorem dX3_compare_16 : decode cX3_compare 16 = .ok (.aload_n 0, 1) := dk_42 (dk_at dksX3_compare_0 16 rfl rfl)
theorem dX3_compare_17 : decode cX3_compare 17 = .ok (.bipush 7, 2) := dk_16 7 (dk_at dksX3_compare_0 17 rfl rfl)
theorem dX3_compare_19 : decode cX3_compare 19 = .ok (.invokevirtual 68, 3) := dk_182 0 68 (dk_at dksX3_compare_0 19 rfl rfl)
theorem dX3_compare_22 : decode cX3_compare 22 = .ok (.ireturn, 1) := dk_172 (dk_at dksX3_compare_0 22 rfl rfl)
theorem dX3_compare_23 : decode cX3_compare 23 = .ok (.aload_n 0, 1) := dk_42 (dk_at dksX3_compare_0 23 rfl rfl)
theorem dX3_compare_24 : decode cX3_compare 24 = .ok (.getfield 20, 3) := dk_180 0 20 (dk_at dksX3_compare_1 0 rfl rfl)
theorem dX3_compare_27 : decode cX3_compare 27 = .ok (.iload_n 1, 1) := dk_27 (dk_at dksX3_compare_1 3 rfl rfl)
theorem dX3_compare_28 : decode cX3_compare 28 = .ok (.iaload, 1) := dk_46 (dk_at dksX3_compare_1 4 rfl rfl)
theorem dX3_compare_29 : decode cX3_compare 29 = .ok (.aload_n 0, 1) := dk_42 (dk_at dksX3_compare_1 5 rfl rfl)
theorem dX3_compare_30 : decode cX3_compare 30 = .ok (.getfield 20, 3) := dk_180 0 20 (dk_at dksX3_compare_1 6 rfl rfl)
theorem dX3_compare_33 : decode cX3_compare 33 = .ok (.iload_n 2, 1) := dk_28 (dk_at dksX3_compare_1 9 rfl rfl)
theorem dX3_compare_34 : decode cX3_compare 34 = .ok (.iaload, 1) := dk_46 (dk_at dksX3_compare_1 10 rfl rfl)
theorem dX3_compare_35 : decode cX3_compare 35 = .ok (.if_icmp .ne 13, 3) := dk_160 0 13 (dk_at dksX3_compare_1 11 rfl rfl)
theorem dX3_compare_38 : decode cX3_compare 38 = .ok (.aload_n 0, 1) := dk_42 (dk_at dksX3_compare_1 14 rfl rfl)
theorem dX3_compare_39 : decode cX3_compare 39 = .ok (.getfield 20, 3) := dk_180 0 20 (dk_at dksX3_compare_1 15 rfl rfl)
theorem dX3_compare_42 : decode cX3_compare 42 = .ok (.iload_n 1, 1) := dk_27 (dk_at dksX3_compare_1 18 rfl rfl)
theorem dX3_compare_43 : decode cX3_compare 43 = .ok (.iaload, 1) := dk_46 (dk_at dksX3_compare_1 19 rfl rfl)
theorem dX3_compare_44 : decode cX3_compare 44 = .ok (.iconst 3, 1) := dk_6 (dk_at dksX3_compare_1 20 rfl rfl)
theorem dX3_compare_45 : decode cX3_compare 45 = .ok (.if_icmp .lt 9, 3) := dk_161 0 9 (dk_at dksX3_compare_1 21 rfl rfl)
theorem dX3_compare_48 : decode cX3_compare 48 = .ok (.aload_n 0, 1) := dk_42 (dk_at dksX3_compare_2 0 rfl rfl)
theorem dX3_compare_49 : decode cX3_compare 49 = .ok (.iconst 2, 1) := dk_5 (dk_at dksX3_compare_2 1 rfl rfl)
theorem dX3_compare_50 : decode cX3_compare 50 = .ok (.invokevirtual 68, 3) := dk_182 0 68 (dk_at dksX3_compare_2 2 rfl rfl)
theorem dX3_compare_53 : decode cX3_compare 53 = .ok (.ireturn, 1) := dk_172 (dk_at dksX3_compare_2 5 rfl rfl)
theorem dX3_compare_54 : decode cX3_compare 54 = .ok (.aload_n 0, 1) := dk_42 (dk_at dksX3_compare_2 6 rfl rfl)
theorem dX3_compare_55 : decode cX3_compare 55 = .ok (.getfield 38, 3) := dk_180 0 38 (dk_at dksX3_compare_2 7 rfl rfl)
theorem dX3_compare_58 : decode cX3_compare 58 = .ok (.aload_n 0, 1) := dk_42 (dk_at dksX3_compare_2 10 rfl rfl)
theorem dX3_compare_59 : decode cX3_compare 59 = .ok (.getfield 32, 3) := dk_180 0 32 (dk_at dksX3_compare_2 11 rfl rfl)
theorem dX3_compare_62 : decode cX3_compare 62 = .ok (.iload_n 1, 1) := dk_27 (dk_at dksX3_compare_2 14 rfl rfl)
theorem dX3_compare_63 : decode cX3_compare 63 = .ok (.iaload, 1) := dk_46 (dk_at dksX3_compare_2 15 rfl rfl)
theorem dX3_compare_64 : decode cX3_compare 64 = .ok (.iaload, 1) := dk_46 (dk_at dksX3_compare_2 16 rfl rfl)
theorem dX3_compare_65 : decode cX3_compare 65 = .ok (.istore_n 3, 1) := dk_62 (dk_at dksX3_compare_2 17 rfl rfl)
theorem dX3_compare_66 : decode cX3_compare 66 = .ok (.aload_n 0, 1) := dk_42 (dk_at dksX3_compare_2 18 rfl rfl)
theorem dX3_compare_67 : decode cX3_compare 67 = .ok (.getfield 38, 3) := dk_180 0 38 (dk_at dksX3_compare_2 19 rfl rfl)
theorem dX3_compare_70 : decode cX3_compare 70 = .ok (.aload_n 0, 1) := dk_42 (dk_at dksX3_compare_2 22 rfl rfl)
theorem dX3_compare_71 : decode cX3_compare 71 = .ok (.getfield 32, 3) := dk_180 0 32 (dk_at dksX3_compare_3 0 rfl rfl)
theorem dX3_compare_74 : decode cX3_compare 74 = .ok (.iload_n 2, 1) := dk_28 (dk_at dksX3_compare_3 3 rfl rfl)
theorem dX3_compare_75 : decode cX3_compare 75 = .ok (.iaload, 1) := dk_46 (dk_at dksX3_compare_3 4 rfl rfl)
theorem dX3_compare_76 : decode cX3_compare 76 = .ok (.iaload, 1) := dk_46 (dk_at dksX3_compare_3 5 rfl rfl)
theorem dX3_compare_77 : decode cX3_compare 77 = .ok (.istore 4, 2) := dk_54 4 (dk_at dksX3_compare_3 6 rfl rfl)
theorem dX3_compare_79 : decode cX3_compare 79 = .ok (.iconst 0, 1) := dk_3 (dk_at dksX3_compare_3 8 rfl rfl)
theorem dX3_compare_80 : decode cX3_compare 80 = .ok (.istore 5, 2) := dk_54 5 (dk_at dksX3_compare_3 9 rfl rfl)
theorem dX3_compare_82 : decode cX3_compare 82 = .ok (.iload 5, 2) := dk_21 5 (dk_at dksX3_compare_3 11 rfl rfl)
theorem dX3_compare_84 : decode cX3_compare 84 = .ok (.iload_n 3, 1) := dk_29 (dk_at dksX3_compare_3 13 rfl rfl)
theorem dX3_compare_85 : decode cX3_compare 85 = .ok (.if_icmp .ge 84, 3) := dk_162 0 84 (dk_at dksX3_compare_3 14 rfl rfl)
theorem dX3_compare_88 : decode cX3_compare 88 = .ok (.iload 5, 2) := dk_21 5 (dk_at dksX3_compare_3 17 rfl rfl)
theorem dX3_compare_90 : decode cX3_compare 90 = .ok (.iload 4, 2) := dk_21 4 (dk_at dksX3_compare_3 19 rfl rfl)
theorem dX3_compare_92 : decode cX3_compare 92 = .ok (.if_icmp .ge 77, 3) := dk_162 0 77 (dk_at dksX3_compare_3 21 rfl rfl)
theorem dX3_compare_95 : decode cX3_compare 95 = .ok (.aload_n 0, 1) := dk_42 (dk_at dksX3_compare_4 0 rfl rfl)
theorem dX3_compare_96 : decode cX3_compare 96 = .ok (.getfield 42, 3) := dk_180 0 42 (dk_at dksX3_compare_4 1 rfl rfl)
theorem dX3_compare_99 : decode cX3_compare 99 = .ok (.aload_n 0, 1) := dk_42 (dk_at dksX3_compare_4 4 rfl rfl)
theorem dX3_compare_100 : decode cX3_compare 100 = .ok (.getfield 35, 3) := dk_180 0 35 (dk_at dksX3_compare_4 5 rfl rfl)
theorem dX3_compare_103 : decode cX3_compare 103 = .ok (.aload_n 0, 1) := dk_42 (dk_at dksX3_compare_4 8 rfl rfl)
theorem dX3_compare_104 : decode cX3_compare 104 = .ok (.getfield 32, 3) := dk_180 0 32 (dk_at dksX3_compare_4 9 rfl rfl)
theorem dX3_compare_107 : decode cX3_compare 107 = .ok (.iload_n 1, 1) := dk_27 (dk_at dksX3_compare_4 12 rfl rfl)
theorem dX3_compare_108 : decode cX3_compare 108 = .ok (.iaload, 1) := dk_46 (dk_at dksX3_compare_4 13 rfl rfl)
theorem dX3_compare_109 : decode cX3_compare 109 = .ok (.iaload, 1) := dk_46 (dk_at dksX3_compare_4 14 rfl rfl)
theorem dX3_compare_110 : decode cX3_compare 110 = .ok (.iload 5, 2) := dk_21 5 (dk_at dksX3_compare_4 15 rfl rfl)
theorem dX3_compare_112 : decode cX3_compare 112 = .ok (.iadd, 1) := dk_96 (dk_at dksX3_compare_4 17 rfl rfl)
theorem dX3_compare_113 : decode cX3_compare 113 = .ok (.laload, 1) := dk_47 (dk_at dksX3_compare_4 18 rfl rfl)
theorem dX3_compare_114 : decode cX3_compare 114 = .ok (.lstore 6, 2) := dk_55 6 (dk_at dksX3_compare_4 19 rfl rfl)
theorem dX3_compare_116 : decode cX3_compare 116 = .ok (.aload_n 0, 1) := dk_42 (dk_at dksX3_compare_4 21 rfl rfl)
theorem dX3_compare_117 : decode cX3_compare 117 = .ok (.getfield 42, 3) := dk_180 0 42 (dk_at dksX3_compare_5 0 rfl rfl)
theorem dX3_compare_120 : decode cX3_compare 120 = .ok (.aload_n 0, 1) := dk_42 (dk_at dksX3_compare_5 3 rfl rfl)
theorem dX3_compare_121 : decode cX3_compare 121 = .ok (.getfield 35, 3) := dk_180 0 35 (dk_at dksX3_compare_5 4 rfl rfl)
theorem dX3_compare_124 : decode cX3_compare 124 = .ok (.aload_n 0, 1) := dk_42 (dk_at dksX3_compare_5 7 rfl rfl)
theorem dX3_compare_125 : decode cX3_compare 125 = .ok (.getfield 32, 3) := dk_180 0 32 (dk_at dksX3_compare_5 8 rfl rfl)
theorem dX3_compare_128 : decode cX3_compare 128 = .ok (.iload_n 2, 1) := dk_28 (dk_at dksX3_compare_5 11 rfl rfl)
theorem dX3_compare_129 : decode cX3_compare 129 = .ok (.iaload, 1) := dk_46 (dk_at dksX3_compare_5 12 rfl rfl)
theorem dX3_compare_130 : decode cX3_compare 130 = .ok (.iaload, 1) := dk_46 (dk_at dksX3_compare_5 13 rfl rfl)
theorem dX3_compare_131 : decode cX3_compare 131 = .ok (.iload 5, 2) := dk_21 5 (dk_at dksX3_compare_5 14 rfl rfl)
theorem dX3_compare_133 : decode cX3_compare 133 = .ok (.iadd, 1) := dk_96 (dk_at dksX3_compare_5 16 rfl rfl)
theorem dX3_compare_134 : decode cX3_compare 134 = .ok (.laload, 1) := dk_47 (dk_at dksX3_compare_5 17 rfl rfl)
theorem dX3_compare_135 : decode cX3_compare 135 = .ok (.lstore 8, 2) := dk_55 8 (dk_at dksX3_compare_5 18 rfl rfl)
theorem dX3_compare_137 : decode cX3_compare 137 = .ok (.lload 6, 2) := dk_22 6 (dk_at dksX3_compare_5 20 rfl rfl)
theorem dX3_compare_139 : decode cX3_compare 139 = .ok (.lload 8, 2) := dk_22 8 (dk_at dksX3_compare_5 22 rfl rfl)
theorem dX3_compare_141 : decode cX3_compare 141 = .ok (.lcmp, 1) := dk_148 (dk_at dksX3_compare_6 0 rfl rfl)
theorem dX3_compare_142 : decode cX3_compare 142 = .ok (.ifCond .eq 21, 3) := dk_153 0 21 (dk_at dksX3_compare_6 1 rfl rfl)
theorem dX3_compare_145 : decode cX3_compare 145 = .ok (.aload_n 0, 1) := dk_42 (dk_at dksX3_compare_6 4 rfl rfl)
theorem dX3_compare_146 : decode cX3_compare 146 = .ok (.lload 6, 2) := dk_22 6 (dk_at dksX3_compare_6 5 rfl rfl)
theorem dX3_compare_148 : decode cX3_compare 148 = .ok (.lload 8, 2) := dk_22 8 (dk_at dksX3_compare_6 7 rfl rfl)
theorem dX3_compare_150 : decode cX3_compare 150 = .ok (.lcmp, 1) := dk_148 (dk_at dksX3_compare_6 9 rfl rfl)
theorem dX3_compare_151 : decode cX3_compare 151 = .ok (.ifCond .ge 7, 3) := dk_156 0 7 (dk_at dksX3_compare_6 10 rfl rfl)
theorem dX3_compare_154 : decode cX3_compare 154 = .ok (.iconst (-1), 1) := dk_2 (dk_at dksX3_compare_6 13 rfl rfl)
theorem dX3_compare_155 : decode cX3_compare 155 = .ok (.goto 4, 3) := dk_167 0 4 (dk_at dksX3_compare_6 14 rfl rfl)
theorem dX3_compare_158 : decode cX3_compare 158 = .ok (.iconst 1, 1) := dk_4 (dk_at dksX3_compare_6 17 rfl rfl)
theorem dX3_compare_159 : decode cX3_compare 159 = .ok (.invokevirtual 75, 3) := dk_182 0 75 (dk_at dksX3_compare_6 18 rfl rfl)
theorem dX3_compare_162 : decode cX3_compare 162 = .ok (.ireturn, 1) := dk_172 (dk_at dksX3_compare_6 21 rfl rfl)
theorem dX3_compare_163 : decode cX3_compare 163 = .ok (.iinc 5 1, 3) := dk_132 5 1 (dk_at dksX3_compare_7 0 rfl rfl)
theorem dX3_compare_166 : decode cX3_compare 166 = .ok (.goto (-84), 3) := dk_167 255 172 (dk_at dksX3_compare_7 3 rfl rfl)
theorem dX3_compare_169 : decode cX3_compare 169 = .ok (.aload_n 0, 1) := dk_42 (dk_at dksX3_compare_7 6 rfl rfl)
theorem dX3_compare_170 : decode cX3_compare 170 = .ok (.iload_n 3, 1) := dk_29 (dk_at dksX3_compare_7 7 rfl rfl)
theorem dX3_compare_171 : decode cX3_compare 171 = .ok (.iload 4, 2) := dk_21 4 (dk_at dksX3_compare_7 8 rfl rfl)
theorem dX3_compare_173 : decode cX3_compare 173 = .ok (.if_icmp .ge 7, 3) := dk_162 0 7 (dk_at dksX3_compare_7 10 rfl rfl)
theorem dX3_compare_176 : decode cX3_compare 176 = .ok (.iconst (-1), 1) := dk_2 (dk_at dksX3_compare_7 13 rfl rfl)
theorem dX3_compare_177 : decode cX3_compare 177 = .ok (.goto 14, 3) := dk_167 0 14 (dk_at dksX3_compare_7 14 rfl rfl)
theorem dX3_compare_180 : decode cX3_compare 180 = .ok (.iload_n 3, 1) := dk_29 (dk_at dksX3_compare_7 17 rfl rfl)
theorem dX3_compare_181 : decode cX3_compare 181 = .ok (.iload 4, 2) := dk_21 4 (dk_at dksX3_compare_7 18 rfl rfl)
theorem dX3_compare_183 : decode cX3_compare 183 = .ok (.if_icmp .le 7, 3) := dk_164 0 7 (dk_at dksX3_compare_7 20 rfl rfl)
theorem dX3_compare_186 : decode cX3_compare 186 = .ok (.iconst 1, 1) := dk_4 (dk_at dksX3_compare_7 23 rfl rfl)
theorem dX3_compare_187 : decode cX3_compare 187 = .ok (.goto 4, 3) := dk_167 0 4 (dk_at dksX3_compare_8 0 rfl rfl)
theorem dX3_compare_190 : decode cX3_compare 190 = .ok (.iconst 0, 1) := dk_3 (dk_at dksX3_compare_8 3 rfl rfl)
theorem dX3_compare_191 : decode cX3_compare 191 = .ok (.invokevirtual 75, 3) := dk_182 0 75 (dk_at dksX3_compare_8 4 rfl rfl)
theorem dX3_compare_194 : decode cX3_compare 194 = .ok (.ireturn, 1) := dk_172 (dk_at dksX3_compare_8 7 rfl rfl)
abbrev cX3_clear : ByteArray := prog_6_method_51_code
def yX3_clear : MethodName := ⟨RX3, "clear", "()I"⟩
def dkwX3_clear_2 : List UInt8 := [172]
abbrev dktX3_clear_2 : List UInt8 := dkwX3_clear_2 ++ []
def dkwX3_clear_1 : List UInt8 := [181, 0, 105, 42, 3, 181, 0, 175, 42, 3, 181, 0, 72, 42, 3, 181, 0, 65, 42, 2, 181, 0, 9, 27]
abbrev dktX3_clear_1 : List UInt8 := dkwX3_clear_1 ++ dktX3_clear_2
def dkwX3_clear_0 : List UInt8 := [42, 180, 0, 98, 60, 42, 3, 181, 0, 98, 42, 3, 181, 0, 86, 42, 3, 181, 0, 89, 42, 3]
abbrev dktX3_clear_0 : List UInt8 := dkwX3_clear_0 ++ dktX3_clear_1
theorem dksX3_clear_0 : cX3_clear.data.toList.drop 0 = dktX3_clear_0 := by decide +kernel
theorem dksX3_clear_1 : cX3_clear.data.toList.drop 22 = dktX3_clear_1 := dk_seg dksX3_clear_0 22 rfl rfl
theorem dksX3_clear_2 : cX3_clear.data.toList.drop 46 = dktX3_clear_2 := dk_seg dksX3_clear_1 24 rfl rfl
theorem dX3_clear_0 : decode cX3_clear 0 = .ok (.aload_n 0, 1) := dk_42 (dk_at dksX3_clear_0 0 rfl rfl)
theorem dX3_clear_1 : decode cX3_clear 1 = .ok (.getfield 98, 3) := dk_180 0 98 (dk_at dksX3_clear_0 1 rfl rfl)
theorem dX3_clear_4 : decode cX3_clear 4 = .ok (.istore_n 1, 1) := dk_60 (dk_at dksX3_clear_0 4 rfl rfl)
theorem dX3_clear_5 : decode cX3_clear 5 = .ok (.aload_n 0, 1) := dk_42 (dk_at dksX3_clear_0 5 rfl rfl)
theorem dX3_clear_6 : decode cX3_clear 6 = .ok (.iconst 0, 1) := dk_3 (dk_at dksX3_clear_0 6 rfl rfl)
theorem dX3_clear_7 : decode cX3_clear 7 = .ok (.putfield 98, 3) := dk_181 0 98 (dk_at dksX3_clear_0 7 rfl rfl)
theorem dX3_clear_10 : decode cX3_clear 10 = .ok (.aload_n 0, 1) := dk_42 (dk_at dksX3_clear_0 10 rfl rfl)
theorem dX3_clear_11 : decode cX3_clear 11 = .ok (.iconst 0, 1) := dk_3 (dk_at dksX3_clear_0 11 rfl rfl)
theorem dX3_clear_12 : decode cX3_clear 12 = .ok (.putfield 86, 3) := dk_181 0 86 (dk_at dksX3_clear_0 12 rfl rfl)
theorem dX3_clear_15 : decode cX3_clear 15 = .ok (.aload_n 0, 1) := dk_42 (dk_at dksX3_clear_0 15 rfl rfl)
theorem dX3_clear_16 : decode cX3_clear 16 = .ok (.iconst 0, 1) := dk_3 (dk_at dksX3_clear_0 16 rfl rfl)
theorem dX3_clear_17 : decode cX3_clear 17 = .ok (.putfield 89, 3) := dk_181 0 89 (dk_at dksX3_clear_0 17 rfl rfl)
theorem dX3_clear_20 : decode cX3_clear 20 = .ok (.aload_n 0, 1) := dk_42 (dk_at dksX3_clear_0 20 rfl rfl)
theorem dX3_clear_21 : decode cX3_clear 21 = .ok (.iconst 0, 1) := dk_3 (dk_at dksX3_clear_0 21 rfl rfl)
theorem dX3_clear_22 : decode cX3_clear 22 = .ok (.putfield 105, 3) := dk_181 0 105 (dk_at dksX3_clear_1 0 rfl rfl)
theorem dX3_clear_25 : decode cX3_clear 25 = .ok (.aload_n 0, 1) := dk_42 (dk_at dksX3_clear_1 3 rfl rfl)
theorem dX3_clear_26 : decode cX3_clear 26 = .ok (.iconst 0, 1) := dk_3 (dk_at dksX3_clear_1 4 rfl rfl)
theorem dX3_clear_27 : decode cX3_clear 27 = .ok (.putfield 175, 3) := dk_181 0 175 (dk_at dksX3_clear_1 5 rfl rfl)
theorem dX3_clear_30 : decode cX3_clear 30 = .ok (.aload_n 0, 1) := dk_42 (dk_at dksX3_clear_1 8 rfl rfl)
theorem dX3_clear_31 : decode cX3_clear 31 = .ok (.iconst 0, 1) := dk_3 (dk_at dksX3_clear_1 9 rfl rfl)
theorem dX3_clear_32 : decode cX3_clear 32 = .ok (.putfield 72, 3) := dk_181 0 72 (dk_at dksX3_clear_1 10 rfl rfl)
theorem dX3_clear_35 : decode cX3_clear 35 = .ok (.aload_n 0, 1) := dk_42 (dk_at dksX3_clear_1 13 rfl rfl)
theorem dX3_clear_36 : decode cX3_clear 36 = .ok (.iconst 0, 1) := dk_3 (dk_at dksX3_clear_1 14 rfl rfl)
theorem dX3_clear_37 : decode cX3_clear 37 = .ok (.putfield 65, 3) := dk_181 0 65 (dk_at dksX3_clear_1 15 rfl rfl)
theorem dX3_clear_40 : decode cX3_clear 40 = .ok (.aload_n 0, 1) := dk_42 (dk_at dksX3_clear_1 18 rfl rfl)
theorem dX3_clear_41 : decode cX3_clear 41 = .ok (.iconst (-1), 1) := dk_2 (dk_at dksX3_clear_1 19 rfl rfl)
theorem dX3_clear_42 : decode cX3_clear 42 = .ok (.putfield 9, 3) := dk_181 0 9 (dk_at dksX3_clear_1 20 rfl rfl)
theorem dX3_clear_45 : decode cX3_clear 45 = .ok (.iload_n 1, 1) := dk_27 (dk_at dksX3_clear_1 23 rfl rfl)
theorem dX3_clear_46 : decode cX3_clear 46 = .ok (.ireturn, 1) := dk_172 (dk_at dksX3_clear_2 0 rfl rfl)
theorem q31 : (Jvm.Cond.initialized "ArrayMakerModel") ∈ lw_all := lw_g (lw_at lw_m1 4 rfl) rfl
theorem q525 : (Jvm.Cond.instantiable "ArrayMakerModel" (25 : Nat)) ∈ lw_all := lw_g (lw_at lw_m3 18 rfl) rfl
theorem q527 : (Jvm.Cond.instanceMethod ({ cls := "ArrayMakerModel", name := "<init>", desc := "()V" } : Jvm.MethodName)) ∈ lw_all := lw_g (lw_at lw_m3 20 rfl) rfl
theorem q528 : (Jvm.Cond.code ({ cls := "ArrayMakerModel", name := "<init>", desc := "()V" } : Jvm.MethodName) prog_6_method_1_code (1 : Nat) (Option.none : Option Jvm.ClassFile.FieldType)) ∈ lw_all := lw_g (lw_at lw_m3 21 rfl) rfl
theorem q529 : (Jvm.Cond.methodLink "ArrayMakerModel" (1 : Nat) ({ cls := "java/lang/Object", name := "<init>", desc := "()V" } : Jvm.MethodName)) ∈ lw_all := lw_g (lw_at lw_m3 22 rfl) rfl
theorem q530 : (Jvm.Cond.constant "ArrayMakerModel" (41 : Nat) (300000 : Int32)) ∈ lw_all := lw_g (lw_at lw_m3 23 rfl) rfl
theorem q531 : (Jvm.Cond.fieldLink "ArrayMakerModel" (65 : Nat) "ArrayMakerModel" "code" "I") ∈ lw_all := lw_g (lw_at lw_m3 24 rfl) rfl
theorem q532 : (Jvm.Cond.fieldLink "ArrayMakerModel" (9 : Nat) "ArrayMakerModel" "which" "I") ∈ lw_all := lw_g (lw_at lw_m3 25 rfl) rfl
theorem q533 : (Jvm.Cond.fieldLink "ArrayMakerModel" (72 : Nat) "ArrayMakerModel" "dimensions" "I") ∈ lw_all := lw_g (lw_at lw_m3 26 rfl) rfl
theorem q534 : (Jvm.Cond.fieldLink "ArrayMakerModel" (13 : Nat) "ArrayMakerModel" "low" "[I") ∈ lw_all := lw_g (lw_at lw_m3 27 rfl) rfl
theorem q535 : (Jvm.Cond.fieldLink "ArrayMakerModel" (17 : Nat) "ArrayMakerModel" "high" "[I") ∈ lw_all := lw_g (lw_at lw_m3 28 rfl) rfl
theorem q536 : (Jvm.Cond.fieldLink "ArrayMakerModel" (98 : Nat) "ArrayMakerModel" "arrays" "I") ∈ lw_all := lw_g (lw_at lw_m3 29 rfl) rfl
theorem q537 : (Jvm.Cond.fieldLink "ArrayMakerModel" (20 : Nat) "ArrayMakerModel" "kinds" "[I") ∈ lw_all := lw_g (lw_at lw_m3 30 rfl) rfl
theorem q538 : (Jvm.Cond.fieldLink "ArrayMakerModel" (23 : Nat) "ArrayMakerModel" "ranks" "[I") ∈ lw_all := lw_g (lw_at lw_m3 31 rfl) rfl
theorem q539 : (Jvm.Cond.fieldLink "ArrayMakerModel" (26 : Nat) "ArrayMakerModel" "lows" "[I") ∈ lw_all := lw_g (lw_at lw_m3 32 rfl) rfl
theorem q540 : (Jvm.Cond.fieldLink "ArrayMakerModel" (29 : Nat) "ArrayMakerModel" "highs" "[I") ∈ lw_all := lw_g (lw_at lw_m3 33 rfl) rfl
theorem q541 : (Jvm.Cond.fieldLink "ArrayMakerModel" (32 : Nat) "ArrayMakerModel" "rowOf" "[I") ∈ lw_all := lw_g (lw_at lw_m3 34 rfl) rfl
theorem q542 : (Jvm.Cond.fieldLink "ArrayMakerModel" (86 : Nat) "ArrayMakerModel" "rows" "I") ∈ lw_all := lw_g (lw_at lw_m3 35 rfl) rfl
theorem q543 : (Jvm.Cond.fieldLink "ArrayMakerModel" (35 : Nat) "ArrayMakerModel" "rowAt" "[I") ∈ lw_all := lw_g (lw_at lw_m3 36 rfl) rfl
theorem q544 : (Jvm.Cond.fieldLink "ArrayMakerModel" (38 : Nat) "ArrayMakerModel" "rowSize" "[I") ∈ lw_all := lw_g (lw_at lw_m3 37 rfl) rfl
theorem q545 : (Jvm.Cond.fieldLink "ArrayMakerModel" (89 : Nat) "ArrayMakerModel" "pooled" "I") ∈ lw_all := lw_g (lw_at lw_m3 38 rfl) rfl
theorem q546 : (Jvm.Cond.fieldLink "ArrayMakerModel" (42 : Nat) "ArrayMakerModel" "pool" "[J") ∈ lw_all := lw_g (lw_at lw_m3 39 rfl) rfl
theorem q547 : (Jvm.Cond.fieldLink "ArrayMakerModel" (46 : Nat) "ArrayMakerModel" "hasBox" "[Z") ∈ lw_all := lw_g (lw_at lw_m3 40 rfl) rfl
theorem q548 : (Jvm.Cond.fieldLink "ArrayMakerModel" (105 : Nat) "ArrayMakerModel" "slots" "I") ∈ lw_all := lw_g (lw_at lw_m3 41 rfl) rfl
theorem q549 : (Jvm.Cond.fieldLink "ArrayMakerModel" (50 : Nat) "ArrayMakerModel" "slot" "[I") ∈ lw_all := lw_g (lw_at lw_m3 42 rfl) rfl
theorem q550 : (Jvm.Cond.fieldLink "ArrayMakerModel" (175 : Nat) "ArrayMakerModel" "lines" "I") ∈ lw_all := lw_g (lw_at lw_m3 43 rfl) rfl
theorem q551 : (Jvm.Cond.fieldLink "ArrayMakerModel" (53 : Nat) "ArrayMakerModel" "lineI" "[I") ∈ lw_all := lw_g (lw_at lw_m3 44 rfl) rfl
theorem q552 : (Jvm.Cond.fieldLink "ArrayMakerModel" (56 : Nat) "ArrayMakerModel" "lineJ" "[I") ∈ lw_all := lw_g (lw_at lw_m3 45 rfl) rfl
theorem q553 : (Jvm.Cond.fieldLink "ArrayMakerModel" (59 : Nat) "ArrayMakerModel" "lineK" "[I") ∈ lw_all := lw_g (lw_at lw_m3 46 rfl) rfl
theorem q554 : (Jvm.Cond.fieldLink "ArrayMakerModel" (62 : Nat) "ArrayMakerModel" "lineV" "[J") ∈ lw_all := lw_g (lw_at lw_m3 47 rfl) rfl
theorem q555 : (Jvm.Cond.fieldLink "ArrayMakerModel" (142 : Nat) "ArrayMakerModel" "beyond" "I") ∈ lw_all := lw_g (lw_at lw_m3 48 rfl) rfl
theorem q556 : (Jvm.Cond.lays "ArrayMakerModel" "ArrayMakerModel" "code" "I") ∈ lw_all := lw_g (lw_at lw_m3 49 rfl) rfl
theorem q557 : (Jvm.Cond.soleField "ArrayMakerModel" "code") ∈ lw_all := lw_g (lw_at lw_m3 50 rfl) rfl
theorem q558 : (Jvm.Cond.lays "ArrayMakerModel" "ArrayMakerModel" "which" "I") ∈ lw_all := lw_g (lw_at lw_m3 51 rfl) rfl
theorem q559 : (Jvm.Cond.soleField "ArrayMakerModel" "which") ∈ lw_all := lw_g (lw_at lw_m3 52 rfl) rfl
theorem q560 : (Jvm.Cond.lays "ArrayMakerModel" "ArrayMakerModel" "dimensions" "I") ∈ lw_all := lw_g (lw_at lw_m3 53 rfl) rfl
theorem q561 : (Jvm.Cond.soleField "ArrayMakerModel" "dimensions") ∈ lw_all := lw_g (lw_at lw_m3 54 rfl) rfl
theorem q562 : (Jvm.Cond.laysFinal "ArrayMakerModel" "ArrayMakerModel" "low" "[I") ∈ lw_all := lw_g (lw_at lw_m3 55 rfl) rfl
theorem q563 : (Jvm.Cond.soleField "ArrayMakerModel" "low") ∈ lw_all := lw_g (lw_at lw_m3 56 rfl) rfl
theorem q564 : (Jvm.Cond.laysFinal "ArrayMakerModel" "ArrayMakerModel" "high" "[I") ∈ lw_all := lw_g (lw_at lw_m3 57 rfl) rfl
theorem q565 : (Jvm.Cond.soleField "ArrayMakerModel" "high") ∈ lw_all := lw_g (lw_at lw_m3 58 rfl) rfl
theorem q566 : (Jvm.Cond.lays "ArrayMakerModel" "ArrayMakerModel" "arrays" "I") ∈ lw_all := lw_g (lw_at lw_m3 59 rfl) rfl
theorem q567 : (Jvm.Cond.soleField "ArrayMakerModel" "arrays") ∈ lw_all := lw_g (lw_at lw_m3 60 rfl) rfl
theorem q568 : (Jvm.Cond.laysFinal "ArrayMakerModel" "ArrayMakerModel" "kinds" "[I") ∈ lw_all := lw_g (lw_at lw_m3 61 rfl) rfl
theorem q569 : (Jvm.Cond.soleField "ArrayMakerModel" "kinds") ∈ lw_all := lw_g (lw_at lw_m3 62 rfl) rfl
theorem q570 : (Jvm.Cond.laysFinal "ArrayMakerModel" "ArrayMakerModel" "ranks" "[I") ∈ lw_all := lw_g (lw_at lw_m3 63 rfl) rfl
theorem q571 : (Jvm.Cond.soleField "ArrayMakerModel" "ranks") ∈ lw_all := lw_g (lw_at lw_m3 64 rfl) rfl
theorem q572 : (Jvm.Cond.laysFinal "ArrayMakerModel" "ArrayMakerModel" "lows" "[I") ∈ lw_all := lw_g (lw_at lw_m3 65 rfl) rfl
theorem q573 : (Jvm.Cond.soleField "ArrayMakerModel" "lows") ∈ lw_all := lw_g (lw_at lw_m3 66 rfl) rfl
theorem q574 : (Jvm.Cond.laysFinal "ArrayMakerModel" "ArrayMakerModel" "highs" "[I") ∈ lw_all := lw_g (lw_at lw_m3 67 rfl) rfl
theorem q575 : (Jvm.Cond.soleField "ArrayMakerModel" "highs") ∈ lw_all := lw_g (lw_at lw_m3 68 rfl) rfl
theorem q576 : (Jvm.Cond.laysFinal "ArrayMakerModel" "ArrayMakerModel" "rowOf" "[I") ∈ lw_all := lw_g (lw_at lw_m3 69 rfl) rfl
theorem q577 : (Jvm.Cond.soleField "ArrayMakerModel" "rowOf") ∈ lw_all := lw_g (lw_at lw_m3 70 rfl) rfl
theorem q578 : (Jvm.Cond.lays "ArrayMakerModel" "ArrayMakerModel" "rows" "I") ∈ lw_all := lw_g (lw_at lw_m3 71 rfl) rfl
theorem q579 : (Jvm.Cond.soleField "ArrayMakerModel" "rows") ∈ lw_all := lw_g (lw_at lw_m3 72 rfl) rfl
theorem q580 : (Jvm.Cond.laysFinal "ArrayMakerModel" "ArrayMakerModel" "rowAt" "[I") ∈ lw_all := lw_g (lw_at lw_m3 73 rfl) rfl
theorem q581 : (Jvm.Cond.soleField "ArrayMakerModel" "rowAt") ∈ lw_all := lw_g (lw_at lw_m3 74 rfl) rfl
theorem q582 : (Jvm.Cond.laysFinal "ArrayMakerModel" "ArrayMakerModel" "rowSize" "[I") ∈ lw_all := lw_g (lw_at lw_m3 75 rfl) rfl
theorem q583 : (Jvm.Cond.soleField "ArrayMakerModel" "rowSize") ∈ lw_all := lw_g (lw_at lw_m3 76 rfl) rfl
theorem q584 : (Jvm.Cond.lays "ArrayMakerModel" "ArrayMakerModel" "pooled" "I") ∈ lw_all := lw_g (lw_at lw_m3 77 rfl) rfl
theorem q585 : (Jvm.Cond.soleField "ArrayMakerModel" "pooled") ∈ lw_all := lw_g (lw_at lw_m3 78 rfl) rfl
theorem q586 : (Jvm.Cond.laysFinal "ArrayMakerModel" "ArrayMakerModel" "pool" "[J") ∈ lw_all := lw_g (lw_at lw_m3 79 rfl) rfl
theorem q587 : (Jvm.Cond.soleField "ArrayMakerModel" "pool") ∈ lw_all := lw_g (lw_at lw_m3 80 rfl) rfl
theorem q588 : (Jvm.Cond.laysFinal "ArrayMakerModel" "ArrayMakerModel" "hasBox" "[Z") ∈ lw_all := lw_g (lw_at lw_m3 81 rfl) rfl
theorem q589 : (Jvm.Cond.soleField "ArrayMakerModel" "hasBox") ∈ lw_all := lw_g (lw_at lw_m3 82 rfl) rfl
theorem q590 : (Jvm.Cond.lays "ArrayMakerModel" "ArrayMakerModel" "slots" "I") ∈ lw_all := lw_g (lw_at lw_m3 83 rfl) rfl
theorem q591 : (Jvm.Cond.soleField "ArrayMakerModel" "slots") ∈ lw_all := lw_g (lw_at lw_m3 84 rfl) rfl
theorem q592 : (Jvm.Cond.laysFinal "ArrayMakerModel" "ArrayMakerModel" "slot" "[I") ∈ lw_all := lw_g (lw_at lw_m3 85 rfl) rfl
theorem q593 : (Jvm.Cond.soleField "ArrayMakerModel" "slot") ∈ lw_all := lw_g (lw_at lw_m3 86 rfl) rfl
theorem q594 : (Jvm.Cond.lays "ArrayMakerModel" "ArrayMakerModel" "lines" "I") ∈ lw_all := lw_g (lw_at lw_m3 87 rfl) rfl
theorem q595 : (Jvm.Cond.soleField "ArrayMakerModel" "lines") ∈ lw_all := lw_g (lw_at lw_m3 88 rfl) rfl
theorem q596 : (Jvm.Cond.laysFinal "ArrayMakerModel" "ArrayMakerModel" "lineI" "[I") ∈ lw_all := lw_g (lw_at lw_m3 89 rfl) rfl
theorem q597 : (Jvm.Cond.soleField "ArrayMakerModel" "lineI") ∈ lw_all := lw_g (lw_at lw_m3 90 rfl) rfl
theorem q598 : (Jvm.Cond.laysFinal "ArrayMakerModel" "ArrayMakerModel" "lineJ" "[I") ∈ lw_all := lw_g (lw_at lw_m3 91 rfl) rfl
theorem q599 : (Jvm.Cond.soleField "ArrayMakerModel" "lineJ") ∈ lw_all := lw_g (lw_at lw_m3 92 rfl) rfl
theorem q600 : (Jvm.Cond.laysFinal "ArrayMakerModel" "ArrayMakerModel" "lineK" "[I") ∈ lw_all := lw_g (lw_at lw_m3 93 rfl) rfl
theorem q601 : (Jvm.Cond.soleField "ArrayMakerModel" "lineK") ∈ lw_all := lw_g (lw_at lw_m3 94 rfl) rfl
theorem q602 : (Jvm.Cond.laysFinal "ArrayMakerModel" "ArrayMakerModel" "lineV" "[J") ∈ lw_all := lw_g (lw_at lw_m3 95 rfl) rfl
theorem q603 : (Jvm.Cond.soleField "ArrayMakerModel" "lineV") ∈ lw_all := lw_g (lw_at lw_m3 96 rfl) rfl
theorem q604 : (Jvm.Cond.lays "ArrayMakerModel" "ArrayMakerModel" "beyond" "I") ∈ lw_all := lw_g (lw_at lw_m3 97 rfl) rfl
theorem q605 : (Jvm.Cond.soleField "ArrayMakerModel" "beyond") ∈ lw_all := lw_g (lw_at lw_m3 98 rfl) rfl
theorem q606 : (Jvm.Cond.superclass "ArrayMakerModel" "java/lang/Object") ∈ lw_all := lw_g (lw_at lw_m3 99 rfl) rfl
theorem q609 : (Jvm.Cond.instanceMethod ({ cls := "ArrayMakerModel", name := "code", desc := "()I" } : Jvm.MethodName)) ∈ lw_all := lw_g (lw_at lw_m3 102 rfl) rfl
theorem q610 : (Jvm.Cond.selects "ArrayMakerModel" ({ cls := "ArrayMakerModel", name := "code", desc := "()I" } : Jvm.MethodName) ({ cls := "ArrayMakerModel", name := "code", desc := "()I" } : Jvm.MethodName)) ∈ lw_all := lw_g (lw_at lw_m3 103 rfl) rfl
theorem q611 : (Jvm.Cond.code ({ cls := "ArrayMakerModel", name := "code", desc := "()I" } : Jvm.MethodName) prog_6_method_4_code (1 : Nat) (Option.some Jvm.ClassFile.FieldType.int)) ∈ lw_all := lw_g (lw_at lw_m3 104 rfl) rfl
theorem q613 : (Jvm.Cond.instanceMethod ({ cls := "ArrayMakerModel", name := "which", desc := "()I" } : Jvm.MethodName)) ∈ lw_all := lw_g (lw_at lw_m3 106 rfl) rfl
theorem q614 : (Jvm.Cond.selects "ArrayMakerModel" ({ cls := "ArrayMakerModel", name := "which", desc := "()I" } : Jvm.MethodName) ({ cls := "ArrayMakerModel", name := "which", desc := "()I" } : Jvm.MethodName)) ∈ lw_all := lw_g (lw_at lw_m3 107 rfl) rfl
theorem q615 : (Jvm.Cond.code ({ cls := "ArrayMakerModel", name := "which", desc := "()I" } : Jvm.MethodName) prog_6_method_5_code (1 : Nat) (Option.some Jvm.ClassFile.FieldType.int)) ∈ lw_all := lw_g (lw_at lw_m3 108 rfl) rfl
theorem q617 : (Jvm.Cond.instanceMethod ({ cls := "ArrayMakerModel", name := "range", desc := "(II)I" } : Jvm.MethodName)) ∈ lw_all := lw_g (lw_at lw_m3 110 rfl) rfl
theorem q618 : (Jvm.Cond.selects "ArrayMakerModel" ({ cls := "ArrayMakerModel", name := "range", desc := "(II)I" } : Jvm.MethodName) ({ cls := "ArrayMakerModel", name := "range", desc := "(II)I" } : Jvm.MethodName)) ∈ lw_all := lw_g (lw_at lw_m3 111 rfl) rfl
theorem q619 : (Jvm.Cond.code ({ cls := "ArrayMakerModel", name := "range", desc := "(II)I" } : Jvm.MethodName) prog_6_method_9_code (3 : Nat) (Option.some Jvm.ClassFile.FieldType.int)) ∈ lw_all := lw_g (lw_at lw_m3 112 rfl) rfl
theorem q620 : (Jvm.Cond.methodLink "ArrayMakerModel" (68 : Nat) ({ cls := "ArrayMakerModel", name := "no", desc := "(I)I" } : Jvm.MethodName)) ∈ lw_all := lw_g (lw_at lw_m3 113 rfl) rfl
theorem q621 : (Jvm.Cond.privateMethod ({ cls := "ArrayMakerModel", name := "no", desc := "(I)I" } : Jvm.MethodName)) ∈ lw_tbl := lw_at lw_m3 114 rfl
theorem q622 : (Jvm.Cond.instanceMethod ({ cls := "ArrayMakerModel", name := "no", desc := "(I)I" } : Jvm.MethodName)) ∈ lw_all := lw_g (lw_at lw_m3 115 rfl) rfl
theorem q623 : (Jvm.Cond.code ({ cls := "ArrayMakerModel", name := "no", desc := "(I)I" } : Jvm.MethodName) prog_6_method_6_code (2 : Nat) (Option.some Jvm.ClassFile.FieldType.int)) ∈ lw_all := lw_g (lw_at lw_m3 116 rfl) rfl
theorem q624 : (Jvm.Cond.methodLink "ArrayMakerModel" (75 : Nat) ({ cls := "ArrayMakerModel", name := "yes", desc := "(I)I" } : Jvm.MethodName)) ∈ lw_all := lw_g (lw_at lw_m3 117 rfl) rfl
theorem q625 : (Jvm.Cond.privateMethod ({ cls := "ArrayMakerModel", name := "yes", desc := "(I)I" } : Jvm.MethodName)) ∈ lw_tbl := lw_at lw_m3 118 rfl
theorem q626 : (Jvm.Cond.instanceMethod ({ cls := "ArrayMakerModel", name := "yes", desc := "(I)I" } : Jvm.MethodName)) ∈ lw_all := lw_g (lw_at lw_m3 119 rfl) rfl
theorem q627 : (Jvm.Cond.code ({ cls := "ArrayMakerModel", name := "yes", desc := "(I)I" } : Jvm.MethodName) prog_6_method_8_code (2 : Nat) (Option.some Jvm.ClassFile.FieldType.int)) ∈ lw_all := lw_g (lw_at lw_m3 120 rfl) rfl
theorem q629 : (Jvm.Cond.instanceMethod ({ cls := "ArrayMakerModel", name := "shapeless", desc := "()I" } : Jvm.MethodName)) ∈ lw_all := lw_g (lw_at lw_m3 122 rfl) rfl
theorem q630 : (Jvm.Cond.selects "ArrayMakerModel" ({ cls := "ArrayMakerModel", name := "shapeless", desc := "()I" } : Jvm.MethodName) ({ cls := "ArrayMakerModel", name := "shapeless", desc := "()I" } : Jvm.MethodName)) ∈ lw_all := lw_g (lw_at lw_m3 123 rfl) rfl
theorem q631 : (Jvm.Cond.code ({ cls := "ArrayMakerModel", name := "shapeless", desc := "()I" } : Jvm.MethodName) prog_6_method_10_code (2 : Nat) (Option.some Jvm.ClassFile.FieldType.int)) ∈ lw_all := lw_g (lw_at lw_m3 124 rfl) rfl
theorem q633 : (Jvm.Cond.instanceMethod ({ cls := "ArrayMakerModel", name := "make", desc := "(I)I" } : Jvm.MethodName)) ∈ lw_all := lw_g (lw_at lw_m3 126 rfl) rfl
theorem q634 : (Jvm.Cond.selects "ArrayMakerModel" ({ cls := "ArrayMakerModel", name := "make", desc := "(I)I" } : Jvm.MethodName) ({ cls := "ArrayMakerModel", name := "make", desc := "(I)I" } : Jvm.MethodName)) ∈ lw_all := lw_g (lw_at lw_m3 127 rfl) rfl
theorem q635 : (Jvm.Cond.code ({ cls := "ArrayMakerModel", name := "make", desc := "(I)I" } : Jvm.MethodName) prog_6_method_19_code (4 : Nat) (Option.some Jvm.ClassFile.FieldType.int)) ∈ lw_all := lw_g (lw_at lw_m3 128 rfl) rfl
theorem q636 : (Jvm.Cond.constantLong "ArrayMakerModel" (114 : Nat) (4 : Int64)) ∈ lw_all := lw_g (lw_at lw_m3 129 rfl) rfl
theorem q637 : (Jvm.Cond.methodLink "ArrayMakerModel" (101 : Nat) ({ cls := "ArrayMakerModel", name := "within", desc := "(JJJ)Z" } : Jvm.MethodName)) ∈ lw_all := lw_g (lw_at lw_m3 130 rfl) rfl
theorem q638 : (Jvm.Cond.static ({ cls := "ArrayMakerModel", name := "within", desc := "(JJJ)Z" } : Jvm.MethodName)) ∈ lw_all := lw_g (lw_at lw_m3 131 rfl) rfl
theorem q639 : (Jvm.Cond.code ({ cls := "ArrayMakerModel", name := "within", desc := "(JJJ)Z" } : Jvm.MethodName) prog_6_method_3_code (6 : Nat) (Option.some Jvm.ClassFile.FieldType.boolean)) ∈ lw_all := lw_g (lw_at lw_m3 132 rfl) rfl
theorem q640 : (Jvm.Cond.constant "ArrayMakerModel" (116 : Nat) (-2000000001 : Int32)) ∈ lw_all := lw_g (lw_at lw_m3 133 rfl) rfl
theorem q641 : (Jvm.Cond.methodLink "ArrayMakerModel" (117 : Nat) ({ cls := "ArrayMakerModel", name := "shapeItems", desc := "()I" } : Jvm.MethodName)) ∈ lw_all := lw_g (lw_at lw_m3 134 rfl) rfl
theorem q642 : (Jvm.Cond.privateMethod ({ cls := "ArrayMakerModel", name := "shapeItems", desc := "()I" } : Jvm.MethodName)) ∈ lw_tbl := lw_at lw_m3 135 rfl
theorem q643 : (Jvm.Cond.instanceMethod ({ cls := "ArrayMakerModel", name := "shapeItems", desc := "()I" } : Jvm.MethodName)) ∈ lw_all := lw_g (lw_at lw_m3 136 rfl) rfl
theorem q644 : (Jvm.Cond.code ({ cls := "ArrayMakerModel", name := "shapeItems", desc := "()I" } : Jvm.MethodName) prog_6_method_12_code (7 : Nat) (Option.some Jvm.ClassFile.FieldType.int)) ∈ lw_all := lw_g (lw_at lw_m3 137 rfl) rfl
theorem q645 : (Jvm.Cond.methodLink "ArrayMakerModel" (78 : Nat) ({ cls := "ArrayMakerModel", name := "length", desc := "(II)J" } : Jvm.MethodName)) ∈ lw_all := lw_g (lw_at lw_m3 138 rfl) rfl
theorem q646 : (Jvm.Cond.static ({ cls := "ArrayMakerModel", name := "length", desc := "(II)J" } : Jvm.MethodName)) ∈ lw_all := lw_g (lw_at lw_m3 139 rfl) rfl
theorem q647 : (Jvm.Cond.code ({ cls := "ArrayMakerModel", name := "length", desc := "(II)J" } : Jvm.MethodName) prog_6_method_11_code (4 : Nat) (Option.some Jvm.ClassFile.FieldType.long)) ∈ lw_all := lw_g (lw_at lw_m3 140 rfl) rfl
theorem q648 : (Jvm.Cond.constantLong "ArrayMakerModel" (82 : Nat) (500 : Int64)) ∈ lw_all := lw_g (lw_at lw_m3 141 rfl) rfl
theorem q649 : (Jvm.Cond.constantLong "ArrayMakerModel" (84 : Nat) (501 : Int64)) ∈ lw_all := lw_g (lw_at lw_m3 142 rfl) rfl
theorem q650 : (Jvm.Cond.methodLink "ArrayMakerModel" (121 : Nat) ({ cls := "ArrayMakerModel", name := "newArray", desc := "(II)I" } : Jvm.MethodName)) ∈ lw_all := lw_g (lw_at lw_m3 143 rfl) rfl
theorem q651 : (Jvm.Cond.privateMethod ({ cls := "ArrayMakerModel", name := "newArray", desc := "(II)I" } : Jvm.MethodName)) ∈ lw_tbl := lw_at lw_m3 144 rfl
theorem q652 : (Jvm.Cond.instanceMethod ({ cls := "ArrayMakerModel", name := "newArray", desc := "(II)I" } : Jvm.MethodName)) ∈ lw_all := lw_g (lw_at lw_m3 145 rfl) rfl
theorem q653 : (Jvm.Cond.code ({ cls := "ArrayMakerModel", name := "newArray", desc := "(II)I" } : Jvm.MethodName) prog_6_method_17_code (4 : Nat) (Option.some Jvm.ClassFile.FieldType.int)) ∈ lw_all := lw_g (lw_at lw_m3 146 rfl) rfl
theorem q654 : (Jvm.Cond.methodLink "ArrayMakerModel" (125 : Nat) ({ cls := "ArrayMakerModel", name := "newTable", desc := "(I)V" } : Jvm.MethodName)) ∈ lw_all := lw_g (lw_at lw_m3 147 rfl) rfl
theorem q655 : (Jvm.Cond.privateMethod ({ cls := "ArrayMakerModel", name := "newTable", desc := "(I)V" } : Jvm.MethodName)) ∈ lw_tbl := lw_at lw_m3 148 rfl
theorem q656 : (Jvm.Cond.instanceMethod ({ cls := "ArrayMakerModel", name := "newTable", desc := "(I)V" } : Jvm.MethodName)) ∈ lw_all := lw_g (lw_at lw_m3 149 rfl) rfl
theorem q657 : (Jvm.Cond.code ({ cls := "ArrayMakerModel", name := "newTable", desc := "(I)V" } : Jvm.MethodName) prog_6_method_18_code (5 : Nat) (Option.none : Option Jvm.ClassFile.FieldType)) ∈ lw_all := lw_g (lw_at lw_m3 150 rfl) rfl
theorem q658 : (Jvm.Cond.methodLink "ArrayMakerModel" (108 : Nat) ({ cls := "ArrayMakerModel", name := "lengthOf", desc := "(II)J" } : Jvm.MethodName)) ∈ lw_all := lw_g (lw_at lw_m3 151 rfl) rfl
theorem q659 : (Jvm.Cond.privateMethod ({ cls := "ArrayMakerModel", name := "lengthOf", desc := "(II)J" } : Jvm.MethodName)) ∈ lw_tbl := lw_at lw_m3 152 rfl
theorem q660 : (Jvm.Cond.instanceMethod ({ cls := "ArrayMakerModel", name := "lengthOf", desc := "(II)J" } : Jvm.MethodName)) ∈ lw_all := lw_g (lw_at lw_m3 153 rfl) rfl
theorem q661 : (Jvm.Cond.code ({ cls := "ArrayMakerModel", name := "lengthOf", desc := "(II)J" } : Jvm.MethodName) prog_6_method_13_code (3 : Nat) (Option.some Jvm.ClassFile.FieldType.long)) ∈ lw_all := lw_g (lw_at lw_m3 154 rfl) rfl
theorem q662 : (Jvm.Cond.methodLink "ArrayMakerModel" (111 : Nat) ({ cls := "ArrayMakerModel", name := "newRow", desc := "(I)I" } : Jvm.MethodName)) ∈ lw_all := lw_g (lw_at lw_m3 155 rfl) rfl
theorem q663 : (Jvm.Cond.privateMethod ({ cls := "ArrayMakerModel", name := "newRow", desc := "(I)I" } : Jvm.MethodName)) ∈ lw_tbl := lw_at lw_m3 156 rfl
theorem q664 : (Jvm.Cond.instanceMethod ({ cls := "ArrayMakerModel", name := "newRow", desc := "(I)I" } : Jvm.MethodName)) ∈ lw_all := lw_g (lw_at lw_m3 157 rfl) rfl
theorem q665 : (Jvm.Cond.code ({ cls := "ArrayMakerModel", name := "newRow", desc := "(I)I" } : Jvm.MethodName) prog_6_method_14_code (3 : Nat) (Option.some Jvm.ClassFile.FieldType.int)) ∈ lw_all := lw_g (lw_at lw_m3 158 rfl) rfl
theorem q667 : (Jvm.Cond.instanceMethod ({ cls := "ArrayMakerModel", name := "raw", desc := "(II)I" } : Jvm.MethodName)) ∈ lw_all := lw_g (lw_at lw_m3 160 rfl) rfl
theorem q668 : (Jvm.Cond.selects "ArrayMakerModel" ({ cls := "ArrayMakerModel", name := "raw", desc := "(II)I" } : Jvm.MethodName) ({ cls := "ArrayMakerModel", name := "raw", desc := "(II)I" } : Jvm.MethodName)) ∈ lw_all := lw_g (lw_at lw_m3 161 rfl) rfl
theorem q669 : (Jvm.Cond.code ({ cls := "ArrayMakerModel", name := "raw", desc := "(II)I" } : Jvm.MethodName) prog_6_method_20_code (3 : Nat) (Option.some Jvm.ClassFile.FieldType.int)) ∈ lw_all := lw_g (lw_at lw_m3 162 rfl) rfl
theorem q670 : (Jvm.Cond.constantLong "ArrayMakerModel" (129 : Nat) (3 : Int64)) ∈ lw_all := lw_g (lw_at lw_m3 163 rfl) rfl
theorem q672 : (Jvm.Cond.instanceMethod ({ cls := "ArrayMakerModel", name := "see", desc := "(I)I" } : Jvm.MethodName)) ∈ lw_all := lw_g (lw_at lw_m3 165 rfl) rfl
theorem q673 : (Jvm.Cond.selects "ArrayMakerModel" ({ cls := "ArrayMakerModel", name := "see", desc := "(I)I" } : Jvm.MethodName) ({ cls := "ArrayMakerModel", name := "see", desc := "(I)I" } : Jvm.MethodName)) ∈ lw_all := lw_g (lw_at lw_m3 166 rfl) rfl
theorem q674 : (Jvm.Cond.code ({ cls := "ArrayMakerModel", name := "see", desc := "(I)I" } : Jvm.MethodName) prog_6_method_22_code (4 : Nat) (Option.some Jvm.ClassFile.FieldType.int)) ∈ lw_all := lw_g (lw_at lw_m3 167 rfl) rfl
theorem q675 : (Jvm.Cond.methodLink "ArrayMakerModel" (135 : Nat) ({ cls := "ArrayMakerModel", name := "wants", desc := "(I)I" } : Jvm.MethodName)) ∈ lw_all := lw_g (lw_at lw_m3 168 rfl) rfl
theorem q676 : (Jvm.Cond.privateMethod ({ cls := "ArrayMakerModel", name := "wants", desc := "(I)I" } : Jvm.MethodName)) ∈ lw_tbl := lw_at lw_m3 169 rfl
theorem q677 : (Jvm.Cond.instanceMethod ({ cls := "ArrayMakerModel", name := "wants", desc := "(I)I" } : Jvm.MethodName)) ∈ lw_all := lw_g (lw_at lw_m3 170 rfl) rfl
theorem q678 : (Jvm.Cond.code ({ cls := "ArrayMakerModel", name := "wants", desc := "(I)I" } : Jvm.MethodName) prog_6_method_21_code (2 : Nat) (Option.some Jvm.ClassFile.FieldType.int)) ∈ lw_all := lw_g (lw_at lw_m3 171 rfl) rfl
theorem q679 : (Jvm.Cond.methodLink "ArrayMakerModel" (131 : Nat) ({ cls := "ArrayMakerModel", name := "isArray", desc := "(I)Z" } : Jvm.MethodName)) ∈ lw_all := lw_g (lw_at lw_m3 172 rfl) rfl
theorem q680 : (Jvm.Cond.privateMethod ({ cls := "ArrayMakerModel", name := "isArray", desc := "(I)Z" } : Jvm.MethodName)) ∈ lw_tbl := lw_at lw_m3 173 rfl
theorem q681 : (Jvm.Cond.instanceMethod ({ cls := "ArrayMakerModel", name := "isArray", desc := "(I)Z" } : Jvm.MethodName)) ∈ lw_all := lw_g (lw_at lw_m3 174 rfl) rfl
theorem q682 : (Jvm.Cond.code ({ cls := "ArrayMakerModel", name := "isArray", desc := "(I)Z" } : Jvm.MethodName) prog_6_method_16_code (2 : Nat) (Option.some Jvm.ClassFile.FieldType.boolean)) ∈ lw_all := lw_g (lw_at lw_m3 175 rfl) rfl
theorem q684 : (Jvm.Cond.instanceMethod ({ cls := "ArrayMakerModel", name := "turn", desc := "(I)I" } : Jvm.MethodName)) ∈ lw_all := lw_g (lw_at lw_m3 177 rfl) rfl
theorem q685 : (Jvm.Cond.selects "ArrayMakerModel" ({ cls := "ArrayMakerModel", name := "turn", desc := "(I)I" } : Jvm.MethodName) ({ cls := "ArrayMakerModel", name := "turn", desc := "(I)I" } : Jvm.MethodName)) ∈ lw_all := lw_g (lw_at lw_m3 178 rfl) rfl
theorem q686 : (Jvm.Cond.code ({ cls := "ArrayMakerModel", name := "turn", desc := "(I)I" } : Jvm.MethodName) prog_6_method_24_code (12 : Nat) (Option.some Jvm.ClassFile.FieldType.int)) ∈ lw_all := lw_g (lw_at lw_m3 179 rfl) rfl
theorem q687 : (Jvm.Cond.methodLink "ArrayMakerModel" (138 : Nat) ({ cls := "ArrayMakerModel", name := "copy", desc := "(II)V" } : Jvm.MethodName)) ∈ lw_all := lw_g (lw_at lw_m3 180 rfl) rfl
theorem q688 : (Jvm.Cond.privateMethod ({ cls := "ArrayMakerModel", name := "copy", desc := "(II)V" } : Jvm.MethodName)) ∈ lw_tbl := lw_at lw_m3 181 rfl
theorem q689 : (Jvm.Cond.instanceMethod ({ cls := "ArrayMakerModel", name := "copy", desc := "(II)V" } : Jvm.MethodName)) ∈ lw_all := lw_g (lw_at lw_m3 182 rfl) rfl
theorem q690 : (Jvm.Cond.code ({ cls := "ArrayMakerModel", name := "copy", desc := "(II)V" } : Jvm.MethodName) prog_6_method_23_code (3 : Nat) (Option.none : Option Jvm.ClassFile.FieldType)) ∈ lw_all := lw_g (lw_at lw_m3 183 rfl) rfl
theorem q692 : (Jvm.Cond.instanceMethod ({ cls := "ArrayMakerModel", name := "cut", desc := "(I)I" } : Jvm.MethodName)) ∈ lw_all := lw_g (lw_at lw_m3 185 rfl) rfl
theorem q693 : (Jvm.Cond.selects "ArrayMakerModel" ({ cls := "ArrayMakerModel", name := "cut", desc := "(I)I" } : Jvm.MethodName) ({ cls := "ArrayMakerModel", name := "cut", desc := "(I)I" } : Jvm.MethodName)) ∈ lw_all := lw_g (lw_at lw_m3 186 rfl) rfl
theorem q694 : (Jvm.Cond.code ({ cls := "ArrayMakerModel", name := "cut", desc := "(I)I" } : Jvm.MethodName) prog_6_method_27_code (9 : Nat) (Option.some Jvm.ClassFile.FieldType.int)) ∈ lw_all := lw_g (lw_at lw_m3 187 rfl) rfl
theorem q695 : (Jvm.Cond.methodLink "ArrayMakerModel" (145 : Nat) ({ cls := "ArrayMakerModel", name := "index", desc := "(II)I" } : Jvm.MethodName)) ∈ lw_all := lw_g (lw_at lw_m3 188 rfl) rfl
theorem q696 : (Jvm.Cond.static ({ cls := "ArrayMakerModel", name := "index", desc := "(II)I" } : Jvm.MethodName)) ∈ lw_all := lw_g (lw_at lw_m3 189 rfl) rfl
theorem q697 : (Jvm.Cond.code ({ cls := "ArrayMakerModel", name := "index", desc := "(II)I" } : Jvm.MethodName) prog_6_method_26_code (2 : Nat) (Option.some Jvm.ClassFile.FieldType.int)) ∈ lw_all := lw_g (lw_at lw_m3 190 rfl) rfl
theorem q698 : (Jvm.Cond.methodLink "ArrayMakerModel" (148 : Nat) ({ cls := "ArrayMakerModel", name := "placeOf", desc := "(IIII)I" } : Jvm.MethodName)) ∈ lw_all := lw_g (lw_at lw_m3 191 rfl) rfl
theorem q699 : (Jvm.Cond.privateMethod ({ cls := "ArrayMakerModel", name := "placeOf", desc := "(IIII)I" } : Jvm.MethodName)) ∈ lw_tbl := lw_at lw_m3 192 rfl
theorem q700 : (Jvm.Cond.instanceMethod ({ cls := "ArrayMakerModel", name := "placeOf", desc := "(IIII)I" } : Jvm.MethodName)) ∈ lw_all := lw_g (lw_at lw_m3 193 rfl) rfl
theorem q701 : (Jvm.Cond.code ({ cls := "ArrayMakerModel", name := "placeOf", desc := "(IIII)I" } : Jvm.MethodName) prog_6_method_25_code (9 : Nat) (Option.some Jvm.ClassFile.FieldType.int)) ∈ lw_all := lw_g (lw_at lw_m3 194 rfl) rfl
theorem q702 : (Jvm.Cond.methodLink "ArrayMakerModel" (152 : Nat) ({ cls := "ArrayMakerModel", name := "noItem", desc := "(I)I" } : Jvm.MethodName)) ∈ lw_all := lw_g (lw_at lw_m3 195 rfl) rfl
theorem q703 : (Jvm.Cond.privateMethod ({ cls := "ArrayMakerModel", name := "noItem", desc := "(I)I" } : Jvm.MethodName)) ∈ lw_tbl := lw_at lw_m3 196 rfl
theorem q704 : (Jvm.Cond.instanceMethod ({ cls := "ArrayMakerModel", name := "noItem", desc := "(I)I" } : Jvm.MethodName)) ∈ lw_all := lw_g (lw_at lw_m3 197 rfl) rfl
theorem q705 : (Jvm.Cond.code ({ cls := "ArrayMakerModel", name := "noItem", desc := "(I)I" } : Jvm.MethodName) prog_6_method_7_code (2 : Nat) (Option.some Jvm.ClassFile.FieldType.int)) ∈ lw_all := lw_g (lw_at lw_m3 198 rfl) rfl
theorem q707 : (Jvm.Cond.instanceMethod ({ cls := "ArrayMakerModel", name := "deep", desc := "(I)I" } : Jvm.MethodName)) ∈ lw_all := lw_g (lw_at lw_m3 200 rfl) rfl
theorem q708 : (Jvm.Cond.selects "ArrayMakerModel" ({ cls := "ArrayMakerModel", name := "deep", desc := "(I)I" } : Jvm.MethodName) ({ cls := "ArrayMakerModel", name := "deep", desc := "(I)I" } : Jvm.MethodName)) ∈ lw_all := lw_g (lw_at lw_m3 201 rfl) rfl
theorem q709 : (Jvm.Cond.code ({ cls := "ArrayMakerModel", name := "deep", desc := "(I)I" } : Jvm.MethodName) prog_6_method_28_code (6 : Nat) (Option.some Jvm.ClassFile.FieldType.int)) ∈ lw_all := lw_g (lw_at lw_m3 202 rfl) rfl
theorem q711 : (Jvm.Cond.instanceMethod ({ cls := "ArrayMakerModel", name := "flat", desc := "(I)I" } : Jvm.MethodName)) ∈ lw_all := lw_g (lw_at lw_m3 204 rfl) rfl
theorem q712 : (Jvm.Cond.selects "ArrayMakerModel" ({ cls := "ArrayMakerModel", name := "flat", desc := "(I)I" } : Jvm.MethodName) ({ cls := "ArrayMakerModel", name := "flat", desc := "(I)I" } : Jvm.MethodName)) ∈ lw_all := lw_g (lw_at lw_m3 205 rfl) rfl
theorem q713 : (Jvm.Cond.code ({ cls := "ArrayMakerModel", name := "flat", desc := "(I)I" } : Jvm.MethodName) prog_6_method_30_code (9 : Nat) (Option.some Jvm.ClassFile.FieldType.int)) ∈ lw_all := lw_g (lw_at lw_m3 206 rfl) rfl
theorem q714 : (Jvm.Cond.methodLink "ArrayMakerModel" (155 : Nat) ({ cls := "ArrayMakerModel", name := "tableRows", desc := "(I)I" } : Jvm.MethodName)) ∈ lw_all := lw_g (lw_at lw_m3 207 rfl) rfl
theorem q715 : (Jvm.Cond.privateMethod ({ cls := "ArrayMakerModel", name := "tableRows", desc := "(I)I" } : Jvm.MethodName)) ∈ lw_tbl := lw_at lw_m3 208 rfl
theorem q716 : (Jvm.Cond.instanceMethod ({ cls := "ArrayMakerModel", name := "tableRows", desc := "(I)I" } : Jvm.MethodName)) ∈ lw_all := lw_g (lw_at lw_m3 209 rfl) rfl
theorem q717 : (Jvm.Cond.code ({ cls := "ArrayMakerModel", name := "tableRows", desc := "(I)I" } : Jvm.MethodName) prog_6_method_29_code (2 : Nat) (Option.some Jvm.ClassFile.FieldType.int)) ∈ lw_all := lw_g (lw_at lw_m3 210 rfl) rfl
theorem q719 : (Jvm.Cond.instanceMethod ({ cls := "ArrayMakerModel", name := "ragged", desc := "(III)I" } : Jvm.MethodName)) ∈ lw_all := lw_g (lw_at lw_m3 212 rfl) rfl
theorem q720 : (Jvm.Cond.selects "ArrayMakerModel" ({ cls := "ArrayMakerModel", name := "ragged", desc := "(III)I" } : Jvm.MethodName) ({ cls := "ArrayMakerModel", name := "ragged", desc := "(III)I" } : Jvm.MethodName)) ∈ lw_all := lw_g (lw_at lw_m3 213 rfl) rfl
theorem q721 : (Jvm.Cond.code ({ cls := "ArrayMakerModel", name := "ragged", desc := "(III)I" } : Jvm.MethodName) prog_6_method_33_code (5 : Nat) (Option.some Jvm.ClassFile.FieldType.int)) ∈ lw_all := lw_g (lw_at lw_m3 214 rfl) rfl
theorem q722 : (Jvm.Cond.methodLink "ArrayMakerModel" (158 : Nat) ({ cls := "ArrayMakerModel", name := "wantsRow", desc := "(II)I" } : Jvm.MethodName)) ∈ lw_all := lw_g (lw_at lw_m3 215 rfl) rfl
theorem q723 : (Jvm.Cond.privateMethod ({ cls := "ArrayMakerModel", name := "wantsRow", desc := "(II)I" } : Jvm.MethodName)) ∈ lw_tbl := lw_at lw_m3 216 rfl
theorem q724 : (Jvm.Cond.instanceMethod ({ cls := "ArrayMakerModel", name := "wantsRow", desc := "(II)I" } : Jvm.MethodName)) ∈ lw_all := lw_g (lw_at lw_m3 217 rfl) rfl
theorem q725 : (Jvm.Cond.code ({ cls := "ArrayMakerModel", name := "wantsRow", desc := "(II)I" } : Jvm.MethodName) prog_6_method_31_code (3 : Nat) (Option.some Jvm.ClassFile.FieldType.int)) ∈ lw_all := lw_g (lw_at lw_m3 218 rfl) rfl
theorem q726 : (Jvm.Cond.methodLink "ArrayMakerModel" (161 : Nat) ({ cls := "ArrayMakerModel", name := "slotOf", desc := "(II)I" } : Jvm.MethodName)) ∈ lw_all := lw_g (lw_at lw_m3 219 rfl) rfl
theorem q727 : (Jvm.Cond.privateMethod ({ cls := "ArrayMakerModel", name := "slotOf", desc := "(II)I" } : Jvm.MethodName)) ∈ lw_tbl := lw_at lw_m3 220 rfl
theorem q728 : (Jvm.Cond.instanceMethod ({ cls := "ArrayMakerModel", name := "slotOf", desc := "(II)I" } : Jvm.MethodName)) ∈ lw_all := lw_g (lw_at lw_m3 221 rfl) rfl
theorem q729 : (Jvm.Cond.code ({ cls := "ArrayMakerModel", name := "slotOf", desc := "(II)I" } : Jvm.MethodName) prog_6_method_32_code (3 : Nat) (Option.some Jvm.ClassFile.FieldType.int)) ∈ lw_all := lw_g (lw_at lw_m3 222 rfl) rfl
theorem q731 : (Jvm.Cond.instanceMethod ({ cls := "ArrayMakerModel", name := "without", desc := "(II)I" } : Jvm.MethodName)) ∈ lw_all := lw_g (lw_at lw_m3 224 rfl) rfl
theorem q732 : (Jvm.Cond.selects "ArrayMakerModel" ({ cls := "ArrayMakerModel", name := "without", desc := "(II)I" } : Jvm.MethodName) ({ cls := "ArrayMakerModel", name := "without", desc := "(II)I" } : Jvm.MethodName)) ∈ lw_all := lw_g (lw_at lw_m3 225 rfl) rfl
theorem q733 : (Jvm.Cond.code ({ cls := "ArrayMakerModel", name := "without", desc := "(II)I" } : Jvm.MethodName) prog_6_method_34_code (4 : Nat) (Option.some Jvm.ClassFile.FieldType.int)) ∈ lw_all := lw_g (lw_at lw_m3 226 rfl) rfl
theorem q735 : (Jvm.Cond.instanceMethod ({ cls := "ArrayMakerModel", name := "tie", desc := "(IIII)I" } : Jvm.MethodName)) ∈ lw_all := lw_g (lw_at lw_m3 228 rfl) rfl
theorem q736 : (Jvm.Cond.selects "ArrayMakerModel" ({ cls := "ArrayMakerModel", name := "tie", desc := "(IIII)I" } : Jvm.MethodName) ({ cls := "ArrayMakerModel", name := "tie", desc := "(IIII)I" } : Jvm.MethodName)) ∈ lw_all := lw_g (lw_at lw_m3 229 rfl) rfl
theorem q737 : (Jvm.Cond.code ({ cls := "ArrayMakerModel", name := "tie", desc := "(IIII)I" } : Jvm.MethodName) prog_6_method_35_code (5 : Nat) (Option.some Jvm.ClassFile.FieldType.int)) ∈ lw_all := lw_g (lw_at lw_m3 230 rfl) rfl
theorem q739 : (Jvm.Cond.instanceMethod ({ cls := "ArrayMakerModel", name := "get", desc := "(IIII)J" } : Jvm.MethodName)) ∈ lw_all := lw_g (lw_at lw_m3 232 rfl) rfl
theorem q740 : (Jvm.Cond.selects "ArrayMakerModel" ({ cls := "ArrayMakerModel", name := "get", desc := "(IIII)J" } : Jvm.MethodName) ({ cls := "ArrayMakerModel", name := "get", desc := "(IIII)J" } : Jvm.MethodName)) ∈ lw_all := lw_g (lw_at lw_m3 233 rfl) rfl
theorem q741 : (Jvm.Cond.code ({ cls := "ArrayMakerModel", name := "get", desc := "(IIII)J" } : Jvm.MethodName) prog_6_method_37_code (6 : Nat) (Option.some Jvm.ClassFile.FieldType.long)) ∈ lw_all := lw_g (lw_at lw_m3 234 rfl) rfl
theorem q742 : (Jvm.Cond.methodLink "ArrayMakerModel" (164 : Nat) ({ cls := "ArrayMakerModel", name := "find", desc := "(IIII)I" } : Jvm.MethodName)) ∈ lw_all := lw_g (lw_at lw_m3 235 rfl) rfl
theorem q743 : (Jvm.Cond.privateMethod ({ cls := "ArrayMakerModel", name := "find", desc := "(IIII)I" } : Jvm.MethodName)) ∈ lw_tbl := lw_at lw_m3 236 rfl
theorem q744 : (Jvm.Cond.instanceMethod ({ cls := "ArrayMakerModel", name := "find", desc := "(IIII)I" } : Jvm.MethodName)) ∈ lw_all := lw_g (lw_at lw_m3 237 rfl) rfl
theorem q745 : (Jvm.Cond.code ({ cls := "ArrayMakerModel", name := "find", desc := "(IIII)I" } : Jvm.MethodName) prog_6_method_36_code (9 : Nat) (Option.some Jvm.ClassFile.FieldType.int)) ∈ lw_all := lw_g (lw_at lw_m3 238 rfl) rfl
theorem q747 : (Jvm.Cond.instanceMethod ({ cls := "ArrayMakerModel", name := "put", desc := "(IIIIJ)I" } : Jvm.MethodName)) ∈ lw_all := lw_g (lw_at lw_m4 0 rfl) rfl
theorem q748 : (Jvm.Cond.selects "ArrayMakerModel" ({ cls := "ArrayMakerModel", name := "put", desc := "(IIIIJ)I" } : Jvm.MethodName) ({ cls := "ArrayMakerModel", name := "put", desc := "(IIIIJ)I" } : Jvm.MethodName)) ∈ lw_all := lw_g (lw_at lw_m4 1 rfl) rfl
theorem q749 : (Jvm.Cond.code ({ cls := "ArrayMakerModel", name := "put", desc := "(IIIIJ)I" } : Jvm.MethodName) prog_6_method_39_code (8 : Nat) (Option.some Jvm.ClassFile.FieldType.int)) ∈ lw_all := lw_g (lw_at lw_m4 2 rfl) rfl
theorem q750 : (Jvm.Cond.methodLink "ArrayMakerModel" (171 : Nat) ({ cls := "ArrayMakerModel", name := "lay", desc := "(IIJ)V" } : Jvm.MethodName)) ∈ lw_all := lw_g (lw_at lw_m4 3 rfl) rfl
theorem q751 : (Jvm.Cond.privateMethod ({ cls := "ArrayMakerModel", name := "lay", desc := "(IIJ)V" } : Jvm.MethodName)) ∈ lw_tbl := lw_at lw_m4 4 rfl
theorem q752 : (Jvm.Cond.instanceMethod ({ cls := "ArrayMakerModel", name := "lay", desc := "(IIJ)V" } : Jvm.MethodName)) ∈ lw_all := lw_g (lw_at lw_m4 5 rfl) rfl
theorem q753 : (Jvm.Cond.code ({ cls := "ArrayMakerModel", name := "lay", desc := "(IIJ)V" } : Jvm.MethodName) prog_6_method_38_code (5 : Nat) (Option.none : Option Jvm.ClassFile.FieldType)) ∈ lw_all := lw_g (lw_at lw_m4 6 rfl) rfl
theorem q754 : (Jvm.Cond.methodLink "ArrayMakerModel" (167 : Nat) ({ cls := "ArrayMakerModel", name := "as", desc := "(IJ)J" } : Jvm.MethodName)) ∈ lw_all := lw_g (lw_at lw_m4 7 rfl) rfl
theorem q755 : (Jvm.Cond.static ({ cls := "ArrayMakerModel", name := "as", desc := "(IJ)J" } : Jvm.MethodName)) ∈ lw_all := lw_g (lw_at lw_m4 8 rfl) rfl
theorem q756 : (Jvm.Cond.code ({ cls := "ArrayMakerModel", name := "as", desc := "(IJ)J" } : Jvm.MethodName) prog_6_method_15_code (5 : Nat) (Option.some Jvm.ClassFile.FieldType.long)) ∈ lw_all := lw_g (lw_at lw_m4 9 rfl) rfl
theorem q757 : (Jvm.Cond.constantLong "ArrayMakerModel" (92 : Nat) (255 : Int64)) ∈ lw_all := lw_g (lw_at lw_m4 10 rfl) rfl
theorem q758 : (Jvm.Cond.constantLong "ArrayMakerModel" (94 : Nat) (127 : Int64)) ∈ lw_all := lw_g (lw_at lw_m4 11 rfl) rfl
theorem q759 : (Jvm.Cond.constantLong "ArrayMakerModel" (96 : Nat) (256 : Int64)) ∈ lw_all := lw_g (lw_at lw_m4 12 rfl) rfl
theorem q761 : (Jvm.Cond.instanceMethod ({ cls := "ArrayMakerModel", name := "empty", desc := "(IIII)I" } : Jvm.MethodName)) ∈ lw_all := lw_g (lw_at lw_m4 14 rfl) rfl
theorem q762 : (Jvm.Cond.selects "ArrayMakerModel" ({ cls := "ArrayMakerModel", name := "empty", desc := "(IIII)I" } : Jvm.MethodName) ({ cls := "ArrayMakerModel", name := "empty", desc := "(IIII)I" } : Jvm.MethodName)) ∈ lw_all := lw_g (lw_at lw_m4 15 rfl) rfl
theorem q763 : (Jvm.Cond.code ({ cls := "ArrayMakerModel", name := "empty", desc := "(IIII)I" } : Jvm.MethodName) prog_6_method_40_code (6 : Nat) (Option.some Jvm.ClassFile.FieldType.int)) ∈ lw_all := lw_g (lw_at lw_m4 16 rfl) rfl
theorem q765 : (Jvm.Cond.instanceMethod ({ cls := "ArrayMakerModel", name := "pair", desc := "(IIIJ)I" } : Jvm.MethodName)) ∈ lw_all := lw_g (lw_at lw_m4 18 rfl) rfl
theorem q766 : (Jvm.Cond.selects "ArrayMakerModel" ({ cls := "ArrayMakerModel", name := "pair", desc := "(IIIJ)I" } : Jvm.MethodName) ({ cls := "ArrayMakerModel", name := "pair", desc := "(IIIJ)I" } : Jvm.MethodName)) ∈ lw_all := lw_g (lw_at lw_m4 19 rfl) rfl
theorem q767 : (Jvm.Cond.code ({ cls := "ArrayMakerModel", name := "pair", desc := "(IIIJ)I" } : Jvm.MethodName) prog_6_method_41_code (6 : Nat) (Option.some Jvm.ClassFile.FieldType.int)) ∈ lw_all := lw_g (lw_at lw_m4 20 rfl) rfl
theorem q769 : (Jvm.Cond.instanceMethod ({ cls := "ArrayMakerModel", name := "gather", desc := "(II)I" } : Jvm.MethodName)) ∈ lw_all := lw_g (lw_at lw_m4 22 rfl) rfl
theorem q770 : (Jvm.Cond.selects "ArrayMakerModel" ({ cls := "ArrayMakerModel", name := "gather", desc := "(II)I" } : Jvm.MethodName) ({ cls := "ArrayMakerModel", name := "gather", desc := "(II)I" } : Jvm.MethodName)) ∈ lw_all := lw_g (lw_at lw_m4 23 rfl) rfl
theorem q771 : (Jvm.Cond.code ({ cls := "ArrayMakerModel", name := "gather", desc := "(II)I" } : Jvm.MethodName) prog_6_method_43_code (6 : Nat) (Option.some Jvm.ClassFile.FieldType.int)) ∈ lw_all := lw_g (lw_at lw_m4 24 rfl) rfl
theorem q772 : (Jvm.Cond.constantLong "ArrayMakerModel" (180 : Nat) (5 : Int64)) ∈ lw_all := lw_g (lw_at lw_m4 25 rfl) rfl
theorem q773 : (Jvm.Cond.methodLink "ArrayMakerModel" (182 : Nat) ({ cls := "ArrayMakerModel", name := "joins", desc := "(IIIJ)Z" } : Jvm.MethodName)) ∈ lw_all := lw_g (lw_at lw_m4 26 rfl) rfl
theorem q774 : (Jvm.Cond.privateMethod ({ cls := "ArrayMakerModel", name := "joins", desc := "(IIIJ)Z" } : Jvm.MethodName)) ∈ lw_tbl := lw_at lw_m4 27 rfl
theorem q775 : (Jvm.Cond.instanceMethod ({ cls := "ArrayMakerModel", name := "joins", desc := "(IIIJ)Z" } : Jvm.MethodName)) ∈ lw_all := lw_g (lw_at lw_m4 28 rfl) rfl
theorem q776 : (Jvm.Cond.code ({ cls := "ArrayMakerModel", name := "joins", desc := "(IIIJ)Z" } : Jvm.MethodName) prog_6_method_42_code (10 : Nat) (Option.some Jvm.ClassFile.FieldType.boolean)) ∈ lw_all := lw_g (lw_at lw_m4 29 rfl) rfl
theorem q777 : (Jvm.Cond.constantLong "ArrayMakerModel" (178 : Nat) (-1 : Int64)) ∈ lw_all := lw_g (lw_at lw_m4 30 rfl) rfl
theorem q779 : (Jvm.Cond.instanceMethod ({ cls := "ArrayMakerModel", name := "join", desc := "(III)I" } : Jvm.MethodName)) ∈ lw_all := lw_g (lw_at lw_m4 32 rfl) rfl
theorem q780 : (Jvm.Cond.selects "ArrayMakerModel" ({ cls := "ArrayMakerModel", name := "join", desc := "(III)I" } : Jvm.MethodName) ({ cls := "ArrayMakerModel", name := "join", desc := "(III)I" } : Jvm.MethodName)) ∈ lw_all := lw_g (lw_at lw_m4 33 rfl) rfl
theorem q781 : (Jvm.Cond.code ({ cls := "ArrayMakerModel", name := "join", desc := "(III)I" } : Jvm.MethodName) prog_6_method_44_code (8 : Nat) (Option.some Jvm.ClassFile.FieldType.int)) ∈ lw_all := lw_g (lw_at lw_m4 34 rfl) rfl
theorem q783 : (Jvm.Cond.instanceMethod ({ cls := "ArrayMakerModel", name := "sum", desc := "(I)J" } : Jvm.MethodName)) ∈ lw_all := lw_g (lw_at lw_m4 36 rfl) rfl
theorem q784 : (Jvm.Cond.selects "ArrayMakerModel" ({ cls := "ArrayMakerModel", name := "sum", desc := "(I)J" } : Jvm.MethodName) ({ cls := "ArrayMakerModel", name := "sum", desc := "(I)J" } : Jvm.MethodName)) ∈ lw_all := lw_g (lw_at lw_m4 37 rfl) rfl
theorem q785 : (Jvm.Cond.code ({ cls := "ArrayMakerModel", name := "sum", desc := "(I)J" } : Jvm.MethodName) prog_6_method_46_code (6 : Nat) (Option.some Jvm.ClassFile.FieldType.long)) ∈ lw_all := lw_g (lw_at lw_m4 38 rfl) rfl
theorem q786 : (Jvm.Cond.methodLink "ArrayMakerModel" (186 : Nat) ({ cls := "ArrayMakerModel", name := "sumOf", desc := "(I)J" } : Jvm.MethodName)) ∈ lw_all := lw_g (lw_at lw_m4 39 rfl) rfl
theorem q787 : (Jvm.Cond.privateMethod ({ cls := "ArrayMakerModel", name := "sumOf", desc := "(I)J" } : Jvm.MethodName)) ∈ lw_tbl := lw_at lw_m4 40 rfl
theorem q788 : (Jvm.Cond.instanceMethod ({ cls := "ArrayMakerModel", name := "sumOf", desc := "(I)J" } : Jvm.MethodName)) ∈ lw_all := lw_g (lw_at lw_m4 41 rfl) rfl
theorem q789 : (Jvm.Cond.code ({ cls := "ArrayMakerModel", name := "sumOf", desc := "(I)J" } : Jvm.MethodName) prog_6_method_45_code (5 : Nat) (Option.some Jvm.ClassFile.FieldType.long)) ∈ lw_all := lw_g (lw_at lw_m4 42 rfl) rfl
theorem q791 : (Jvm.Cond.instanceMethod ({ cls := "ArrayMakerModel", name := "mean", desc := "(I)J" } : Jvm.MethodName)) ∈ lw_all := lw_g (lw_at lw_m4 44 rfl) rfl
theorem q792 : (Jvm.Cond.selects "ArrayMakerModel" ({ cls := "ArrayMakerModel", name := "mean", desc := "(I)J" } : Jvm.MethodName) ({ cls := "ArrayMakerModel", name := "mean", desc := "(I)J" } : Jvm.MethodName)) ∈ lw_all := lw_g (lw_at lw_m4 45 rfl) rfl
theorem q793 : (Jvm.Cond.code ({ cls := "ArrayMakerModel", name := "mean", desc := "(I)J" } : Jvm.MethodName) prog_6_method_47_code (3 : Nat) (Option.some Jvm.ClassFile.FieldType.long)) ∈ lw_all := lw_g (lw_at lw_m4 46 rfl) rfl
theorem q795 : (Jvm.Cond.instanceMethod ({ cls := "ArrayMakerModel", name := "about", desc := "(II)I" } : Jvm.MethodName)) ∈ lw_all := lw_g (lw_at lw_m4 48 rfl) rfl
theorem q796 : (Jvm.Cond.selects "ArrayMakerModel" ({ cls := "ArrayMakerModel", name := "about", desc := "(II)I" } : Jvm.MethodName) ({ cls := "ArrayMakerModel", name := "about", desc := "(II)I" } : Jvm.MethodName)) ∈ lw_all := lw_g (lw_at lw_m4 49 rfl) rfl
theorem q797 : (Jvm.Cond.code ({ cls := "ArrayMakerModel", name := "about", desc := "(II)I" } : Jvm.MethodName) prog_6_method_48_code (6 : Nat) (Option.some Jvm.ClassFile.FieldType.int)) ∈ lw_all := lw_g (lw_at lw_m4 50 rfl) rfl
theorem q798 : (Jvm.Cond.constantLong "ArrayMakerModel" (190 : Nat) (8 : Int64)) ∈ lw_all := lw_g (lw_at lw_m4 51 rfl) rfl
theorem q800 : (Jvm.Cond.instanceMethod ({ cls := "ArrayMakerModel", name := "same", desc := "(II)I" } : Jvm.MethodName)) ∈ lw_all := lw_g (lw_at lw_m4 53 rfl) rfl
theorem q801 : (Jvm.Cond.selects "ArrayMakerModel" ({ cls := "ArrayMakerModel", name := "same", desc := "(II)I" } : Jvm.MethodName) ({ cls := "ArrayMakerModel", name := "same", desc := "(II)I" } : Jvm.MethodName)) ∈ lw_all := lw_g (lw_at lw_m4 54 rfl) rfl
theorem q802 : (Jvm.Cond.code ({ cls := "ArrayMakerModel", name := "same", desc := "(II)I" } : Jvm.MethodName) prog_6_method_49_code (5 : Nat) (Option.some Jvm.ClassFile.FieldType.int)) ∈ lw_all := lw_g (lw_at lw_m4 55 rfl) rfl
theorem q804 : (Jvm.Cond.instanceMethod ({ cls := "ArrayMakerModel", name := "compare", desc := "(II)I" } : Jvm.MethodName)) ∈ lw_all := lw_g (lw_at lw_m4 57 rfl) rfl
theorem q805 : (Jvm.Cond.selects "ArrayMakerModel" ({ cls := "ArrayMakerModel", name := "compare", desc := "(II)I" } : Jvm.MethodName) ({ cls := "ArrayMakerModel", name := "compare", desc := "(II)I" } : Jvm.MethodName)) ∈ lw_all := lw_g (lw_at lw_m4 58 rfl) rfl
theorem q806 : (Jvm.Cond.code ({ cls := "ArrayMakerModel", name := "compare", desc := "(II)I" } : Jvm.MethodName) prog_6_method_50_code (10 : Nat) (Option.some Jvm.ClassFile.FieldType.int)) ∈ lw_all := lw_g (lw_at lw_m4 59 rfl) rfl
theorem q808 : (Jvm.Cond.instanceMethod ({ cls := "ArrayMakerModel", name := "clear", desc := "()I" } : Jvm.MethodName)) ∈ lw_all := lw_g (lw_at lw_m4 61 rfl) rfl
theorem q809 : (Jvm.Cond.selects "ArrayMakerModel" ({ cls := "ArrayMakerModel", name := "clear", desc := "()I" } : Jvm.MethodName) ({ cls := "ArrayMakerModel", name := "clear", desc := "()I" } : Jvm.MethodName)) ∈ lw_all := lw_g (lw_at lw_m4 62 rfl) rfl
theorem q810 : (Jvm.Cond.code ({ cls := "ArrayMakerModel", name := "clear", desc := "()I" } : Jvm.MethodName) prog_6_method_51_code (2 : Nat) (Option.some Jvm.ClassFile.FieldType.int)) ∈ lw_all := lw_g (lw_at lw_m4 63 rfl) rfl
theorem in_X3 : ∀ w ∈ wsX30, w ∈ lw_all := lw_in wsX30 [556, 558, 560, 562, 564, 566, 568, 570, 572, 574, 576, 578, 580, 582, 584, 586, 588, 590, 592, 594, 596, 598, 600, 602, 604] (by decide +kernel) (by decide +kernel)
end
section
/-! ArrayMaker -/
set_option maxRecDepth 100000
def RX0 : String := "ArrayMaker"
def TX0 : u_T := fun k => match k with
  | 0 => ("ArrayMaker", "shape", "LArrayMaker$Shape;", true)
  | 1 => ("ArrayMaker", "arrays", "[LArrayMaker$Seen;", true)
  | 2 => ("ArrayMaker", "made", "I", false)
  | 3 => ("ArrayMaker", "code", "I", false)
  | 4 => ("ArrayMaker", "which", "I", false)
  | 5 => ("ArrayMaker", "lines", "[I", true)
  | 6 => ("ArrayMaker", "numbers", "[J", true)
  | 7 => ("ArrayMaker", "listed", "I", false)
  | 8 => ("ArrayMaker", "index", "[I", true)
  | 9 => ("ArrayMaker", "other", "[I", true)
  | _ => ("ArrayMaker", "turned", "LArrayMaker$Shape;", true)
def tyX0 : Nat → FieldType := fun k => match k with
  | 0 => .object "ArrayMaker$Shape"
  | 1 => .array (.object "ArrayMaker$Seen")
  | 2 => .int
  | 3 => .int
  | 4 => .int
  | 5 => .array .int
  | 6 => .array .long
  | 7 => .int
  | 8 => .array .int
  | 9 => .array .int
  | _ => .object "ArrayMaker$Shape"
abbrev wsX00 : List Cond := u_ws RX0 TX0 11
theorem nmX0 : ∀ a, a < 11 → ∀ b, b < 11 → a ≠ b → (TX0 a).2.1 ≠ (TX0 b).2.1 := by decide +kernel
theorem tyX0_ok : ∀ k, k < 11 → parseFieldDescriptor (TX0 k).2.2.1 = some (tyX0 k) := by decide +kernel
abbrev cX0_init : ByteArray := prog_1_method_1_code
def yX0_init : MethodName := ⟨RX0, "<init>", "()V"⟩
def dkwX0_init_4 : List UInt8 := [167, 255, 234, 177]
abbrev dktX0_init_4 : List UInt8 := dkwX0_init_4 ++ []
def dkwX0_init_3 : List UInt8 := [60, 27, 16, 24, 162, 0, 22, 42, 180, 0, 18, 27, 187, 0, 16, 89, 183, 0, 43, 83, 132, 1, 1]
abbrev dktX0_init_3 : List UInt8 := dkwX0_init_3 ++ dktX0_init_4
def dkwX0_init_2 : List UInt8 := [188, 10, 181, 0, 34, 42, 6, 188, 10, 181, 0, 37, 42, 187, 0, 7, 89, 183, 0, 9, 181, 0, 40, 3]
abbrev dktX0_init_2 : List UInt8 := dkwX0_init_2 ++ dktX0_init_3
def dkwX0_init_1 : List UInt8 := [42, 2, 181, 0, 22, 42, 16, 90, 188, 10, 181, 0, 26, 42, 16, 30, 188, 11, 181, 0, 30, 42, 6]
abbrev dktX0_init_1 : List UInt8 := dkwX0_init_1 ++ dktX0_init_2
def dkwX0_init_0 : List UInt8 := [42, 183, 0, 1, 42, 187, 0, 7, 89, 183, 0, 9, 181, 0, 10, 42, 16, 24, 189, 0, 16, 181, 0, 18]
abbrev dktX0_init_0 : List UInt8 := dkwX0_init_0 ++ dktX0_init_1
theorem dksX0_init_0 : cX0_init.data.toList.drop 0 = dktX0_init_0 := by decide +kernel
theorem dksX0_init_1 : cX0_init.data.toList.drop 24 = dktX0_init_1 := dk_seg dksX0_init_0 24 rfl rfl
theorem dksX0_init_2 : cX0_init.data.toList.drop 47 = dktX0_init_2 := dk_seg dksX0_init_1 23 rfl rfl
theorem dksX0_init_3 : cX0_init.data.toList.drop 71 = dktX0_init_3 := dk_seg dksX0_init_2 24 rfl rfl
theorem dksX0_init_4 : cX0_init.data.toList.drop 94 = dktX0_init_4 := dk_seg dksX0_init_3 23 rfl rfl
theorem dX0_init_0 : decode cX0_init 0 = .ok (.aload_n 0, 1) := dk_42 (dk_at dksX0_init_0 0 rfl rfl)
theorem dX0_init_1 : decode cX0_init 1 = .ok (.invokespecial 1, 3) := dk_183 0 1 (dk_at dksX0_init_0 1 rfl rfl)
theorem dX0_init_4 : decode cX0_init 4 = .ok (.aload_n 0, 1) := dk_42 (dk_at dksX0_init_0 4 rfl rfl)
theorem dX0_init_5 : decode cX0_init 5 = .ok (.new 7, 3) := dk_187 0 7 (dk_at dksX0_init_0 5 rfl rfl)
theorem dX0_init_8 : decode cX0_init 8 = .ok (.dup, 1) := dk_89 (dk_at dksX0_init_0 8 rfl rfl)
theorem dX0_init_9 : decode cX0_init 9 = .ok (.invokespecial 9, 3) := dk_183 0 9 (dk_at dksX0_init_0 9 rfl rfl)
theorem dX0_init_12 : decode cX0_init 12 = .ok (.putfield 10, 3) := dk_181 0 10 (dk_at dksX0_init_0 12 rfl rfl)
theorem dX0_init_15 : decode cX0_init 15 = .ok (.aload_n 0, 1) := dk_42 (dk_at dksX0_init_0 15 rfl rfl)
theorem dX0_init_16 : decode cX0_init 16 = .ok (.bipush 24, 2) := dk_16 24 (dk_at dksX0_init_0 16 rfl rfl)
theorem dX0_init_18 : decode cX0_init 18 = .ok (.anewarray 16, 3) := dk_189 0 16 (dk_at dksX0_init_0 18 rfl rfl)
theorem dX0_init_21 : decode cX0_init 21 = .ok (.putfield 18, 3) := dk_181 0 18 (dk_at dksX0_init_0 21 rfl rfl)
theorem dX0_init_24 : decode cX0_init 24 = .ok (.aload_n 0, 1) := dk_42 (dk_at dksX0_init_1 0 rfl rfl)
theorem dX0_init_25 : decode cX0_init 25 = .ok (.iconst (-1), 1) := dk_2 (dk_at dksX0_init_1 1 rfl rfl)
theorem dX0_init_26 : decode cX0_init 26 = .ok (.putfield 22, 3) := dk_181 0 22 (dk_at dksX0_init_1 2 rfl rfl)
theorem dX0_init_29 : decode cX0_init 29 = .ok (.aload_n 0, 1) := dk_42 (dk_at dksX0_init_1 5 rfl rfl)
theorem dX0_init_30 : decode cX0_init 30 = .ok (.bipush 90, 2) := dk_16 90 (dk_at dksX0_init_1 6 rfl rfl)
theorem dX0_init_32 : decode cX0_init 32 = .ok (.newarray .int, 2) := dk_188_10 (dk_at dksX0_init_1 8 rfl rfl)
theorem dX0_init_34 : decode cX0_init 34 = .ok (.putfield 26, 3) := dk_181 0 26 (dk_at dksX0_init_1 10 rfl rfl)
theorem dX0_init_37 : decode cX0_init 37 = .ok (.aload_n 0, 1) := dk_42 (dk_at dksX0_init_1 13 rfl rfl)
theorem dX0_init_38 : decode cX0_init 38 = .ok (.bipush 30, 2) := dk_16 30 (dk_at dksX0_init_1 14 rfl rfl)
theorem dX0_init_40 : decode cX0_init 40 = .ok (.newarray .long, 2) := dk_188_11 (dk_at dksX0_init_1 16 rfl rfl)
theorem dX0_init_42 : decode cX0_init 42 = .ok (.putfield 30, 3) := dk_181 0 30 (dk_at dksX0_init_1 18 rfl rfl)
theorem dX0_init_45 : decode cX0_init 45 = .ok (.aload_n 0, 1) := dk_42 (dk_at dksX0_init_1 21 rfl rfl)
theorem dX0_init_46 : decode cX0_init 46 = .ok (.iconst 3, 1) := dk_6 (dk_at dksX0_init_1 22 rfl rfl)
theorem dX0_init_47 : decode cX0_init 47 = .ok (.newarray .int, 2) := dk_188_10 (dk_at dksX0_init_2 0 rfl rfl)
theorem dX0_init_49 : decode cX0_init 49 = .ok (.putfield 34, 3) := dk_181 0 34 (dk_at dksX0_init_2 2 rfl rfl)
theorem dX0_init_52 : decode cX0_init 52 = .ok (.aload_n 0, 1) := dk_42 (dk_at dksX0_init_2 5 rfl rfl)
theorem dX0_init_53 : decode cX0_init 53 = .ok (.iconst 3, 1) := dk_6 (dk_at dksX0_init_2 6 rfl rfl)
theorem dX0_init_54 : decode cX0_init 54 = .ok (.newarray .int, 2) := dk_188_10 (dk_at dksX0_init_2 7 rfl rfl)
theorem dX0_init_56 : decode cX0_init 56 = .ok (.putfield 37, 3) := dk_181 0 37 (dk_at dksX0_init_2 9 rfl rfl)
theorem dX0_init_59 : decode cX0_init 59 = .ok (.aload_n 0, 1) := dk_42 (dk_at dksX0_init_2 12 rfl rfl)
theorem dX0_init_60 : decode cX0_init 60 = .ok (.new 7, 3) := dk_187 0 7 (dk_at dksX0_init_2 13 rfl rfl)
theorem dX0_init_63 : decode cX0_init 63 = .ok (.dup, 1) := dk_89 (dk_at dksX0_init_2 16 rfl rfl)
theorem dX0_init_64 : decode cX0_init 64 = .ok (.invokespecial 9, 3) := dk_183 0 9 (dk_at dksX0_init_2 17 rfl rfl)
theorem dX0_init_67 : decode cX0_init 67 = .ok (.putfield 40, 3) := dk_181 0 40 (dk_at dksX0_init_2 20 rfl rfl)
theorem dX0_init_70 : decode cX0_init 70 = .ok (.iconst 0, 1) := dk_3 (dk_at dksX0_init_2 23 rfl rfl)
theorem dX0_init_71 : decode cX0_init 71 = .ok (.istore_n 1, 1) := dk_60 (dk_at dksX0_init_3 0 rfl rfl)
theorem dX0_init_72 : decode cX0_init 72 = .ok (.iload_n 1, 1) := dk_27 (dk_at dksX0_init_3 1 rfl rfl)
theorem dX0_init_73 : decode cX0_init 73 = .ok (.bipush 24, 2) := dk_16 24 (dk_at dksX0_init_3 2 rfl rfl)
theorem dX0_init_75 : decode cX0_init 75 = .ok (.if_icmp .ge 22, 3) := dk_162 0 22 (dk_at dksX0_init_3 4 rfl rfl)
theorem dX0_init_78 : decode cX0_init 78 = .ok (.aload_n 0, 1) := dk_42 (dk_at dksX0_init_3 7 rfl rfl)
theorem dX0_init_79 : decode cX0_init 79 = .ok (.getfield 18, 3) := dk_180 0 18 (dk_at dksX0_init_3 8 rfl rfl)
theorem dX0_init_82 : decode cX0_init 82 = .ok (.iload_n 1, 1) := dk_27 (dk_at dksX0_init_3 11 rfl rfl)
theorem dX0_init_83 : decode cX0_init 83 = .ok (.new 16, 3) := dk_187 0 16 (dk_at dksX0_init_3 12 rfl rfl)
theorem dX0_init_86 : decode cX0_init 86 = .ok (.dup, 1) := dk_89 (dk_at dksX0_init_3 15 rfl rfl)
theorem dX0_init_87 : decode cX0_init 87 = .ok (.invokespecial 43, 3) := dk_183 0 43 (dk_at dksX0_init_3 16 rfl rfl)
theorem dX0_init_90 : decode cX0_init 90 = .ok (.aastore, 1) := dk_83 (dk_at dksX0_init_3 19 rfl rfl)
theorem dX0_init_91 : decode cX0_init 91 = .ok (.iinc 1 1, 3) := dk_132 1 1 (dk_at dksX0_init_3 20 rfl rfl)
theorem dX0_init_94 : decode cX0_init 94 = .ok (.goto (-22), 3) := dk_167 255 234 (dk_at dksX0_init_4 0 rfl rfl)
theorem dX0_init_97 : decode cX0_init 97 = .ok (.return_, 1) := dk_177 (dk_at dksX0_init_4 3 rfl rfl)
abbrev cX0_code : ByteArray := prog_1_method_14_code
def yX0_code : MethodName := ⟨RX0, "code", "()I"⟩
theorem dX0_code_0 : decode cX0_code 0 = .ok (.aload_n 0, 1) := by decide +kernel
theorem dX0_code_1 : decode cX0_code 1 = .ok (.getfield 44, 3) := by decide +kernel
theorem dX0_code_4 : decode cX0_code 4 = .ok (.ireturn, 1) := by decide +kernel
abbrev cX0_which : ByteArray := prog_1_method_15_code
def yX0_which : MethodName := ⟨RX0, "which", "()I"⟩
theorem dX0_which_0 : decode cX0_which 0 = .ok (.aload_n 0, 1) := by decide +kernel
theorem dX0_which_1 : decode cX0_which 1 = .ok (.getfield 22, 3) := by decide +kernel
theorem dX0_which_4 : decode cX0_which 4 = .ok (.ireturn, 1) := by decide +kernel
abbrev cX0_range : ByteArray := prog_1_method_16_code
def yX0_range : MethodName := ⟨RX0, "range", "(II)I"⟩
def dkwX0_range_2 : List UInt8 := [182, 0, 114, 172, 78, 42, 16, 8, 182, 0, 47, 172]
abbrev dktX0_range_2 : List UInt8 := dkwX0_range_2 ++ []
def dkwX0_range_1 : List UInt8 := [180, 0, 10, 180, 0, 108, 28, 79, 42, 42, 180, 0, 10, 89, 180, 0, 108, 4, 96, 90, 181, 0, 108]
abbrev dktX0_range_1 : List UInt8 := dkwX0_range_1 ++ dktX0_range_2
def dkwX0_range_0 : List UInt8 := [42, 180, 0, 10, 180, 0, 105, 42, 180, 0, 10, 180, 0, 108, 27, 79, 42, 180, 0, 10, 180, 0, 111, 42]
abbrev dktX0_range_0 : List UInt8 := dkwX0_range_0 ++ dktX0_range_1
theorem dksX0_range_0 : cX0_range.data.toList.drop 0 = dktX0_range_0 := by decide +kernel
theorem dksX0_range_1 : cX0_range.data.toList.drop 24 = dktX0_range_1 := dk_seg dksX0_range_0 24 rfl rfl
theorem dksX0_range_2 : cX0_range.data.toList.drop 47 = dktX0_range_2 := dk_seg dksX0_range_1 23 rfl rfl
theorem dX0_range_0 : decode cX0_range 0 = .ok (.aload_n 0, 1) := dk_42 (dk_at dksX0_range_0 0 rfl rfl)
theorem dX0_range_1 : decode cX0_range 1 = .ok (.getfield 10, 3) := dk_180 0 10 (dk_at dksX0_range_0 1 rfl rfl)
theorem dX0_range_4 : decode cX0_range 4 = .ok (.getfield 105, 3) := dk_180 0 105 (dk_at dksX0_range_0 4 rfl rfl)
theorem dX0_range_7 : decode cX0_range 7 = .ok (.aload_n 0, 1) := dk_42 (dk_at dksX0_range_0 7 rfl rfl)
theorem dX0_range_8 : decode cX0_range 8 = .ok (.getfield 10, 3) := dk_180 0 10 (dk_at dksX0_range_0 8 rfl rfl)
theorem dX0_range_11 : decode cX0_range 11 = .ok (.getfield 108, 3) := dk_180 0 108 (dk_at dksX0_range_0 11 rfl rfl)
theorem dX0_range_14 : decode cX0_range 14 = .ok (.iload_n 1, 1) := dk_27 (dk_at dksX0_range_0 14 rfl rfl)
theorem dX0_range_15 : decode cX0_range 15 = .ok (.iastore, 1) := dk_79 (dk_at dksX0_range_0 15 rfl rfl)
theorem dX0_range_16 : decode cX0_range 16 = .ok (.aload_n 0, 1) := dk_42 (dk_at dksX0_range_0 16 rfl rfl)
theorem dX0_range_17 : decode cX0_range 17 = .ok (.getfield 10, 3) := dk_180 0 10 (dk_at dksX0_range_0 17 rfl rfl)
theorem dX0_range_20 : decode cX0_range 20 = .ok (.getfield 111, 3) := dk_180 0 111 (dk_at dksX0_range_0 20 rfl rfl)
theorem dX0_range_23 : decode cX0_range 23 = .ok (.aload_n 0, 1) := dk_42 (dk_at dksX0_range_0 23 rfl rfl)
theorem dX0_range_24 : decode cX0_range 24 = .ok (.getfield 10, 3) := dk_180 0 10 (dk_at dksX0_range_1 0 rfl rfl)
theorem dX0_range_27 : decode cX0_range 27 = .ok (.getfield 108, 3) := dk_180 0 108 (dk_at dksX0_range_1 3 rfl rfl)
theorem dX0_range_30 : decode cX0_range 30 = .ok (.iload_n 2, 1) := dk_28 (dk_at dksX0_range_1 6 rfl rfl)
theorem dX0_range_31 : decode cX0_range 31 = .ok (.iastore, 1) := dk_79 (dk_at dksX0_range_1 7 rfl rfl)
theorem dX0_range_32 : decode cX0_range 32 = .ok (.aload_n 0, 1) := dk_42 (dk_at dksX0_range_1 8 rfl rfl)
theorem dX0_range_33 : decode cX0_range 33 = .ok (.aload_n 0, 1) := dk_42 (dk_at dksX0_range_1 9 rfl rfl)
theorem dX0_range_34 : decode cX0_range 34 = .ok (.getfield 10, 3) := dk_180 0 10 (dk_at dksX0_range_1 10 rfl rfl)
theorem dX0_range_37 : decode cX0_range 37 = .ok (.dup, 1) := dk_89 (dk_at dksX0_range_1 13 rfl rfl)
theorem dX0_range_38 : decode cX0_range 38 = .ok (.getfield 108, 3) := dk_180 0 108 (dk_at dksX0_range_1 14 rfl rfl)
theorem dX0_range_41 : decode cX0_range 41 = .ok (.iconst 1, 1) := dk_4 (dk_at dksX0_range_1 17 rfl rfl)
theorem dX0_range_42 : decode cX0_range 42 = .ok (.iadd, 1) := dk_96 (dk_at dksX0_range_1 18 rfl rfl)
theorem dX0_range_43 : decode cX0_range 43 = .ok (.dup_x1, 1) := dk_90 (dk_at dksX0_range_1 19 rfl rfl)
theorem dX0_range_44 : decode cX0_range 44 = .ok (.putfield 108, 3) := dk_181 0 108 (dk_at dksX0_range_1 20 rfl rfl)
theorem dX0_range_47 : decode cX0_range 47 = .ok (.invokevirtual 114, 3) := dk_182 0 114 (dk_at dksX0_range_2 0 rfl rfl)
theorem dX0_range_50 : decode cX0_range 50 = .ok (.ireturn, 1) := dk_172 (dk_at dksX0_range_2 3 rfl rfl)
theorem dX0_range_51 : decode cX0_range 51 = .ok (.astore_n 3, 1) := dk_78 (dk_at dksX0_range_2 4 rfl rfl)
theorem dX0_range_52 : decode cX0_range 52 = .ok (.aload_n 0, 1) := dk_42 (dk_at dksX0_range_2 5 rfl rfl)
theorem dX0_range_53 : decode cX0_range 53 = .ok (.bipush 8, 2) := dk_16 8 (dk_at dksX0_range_2 6 rfl rfl)
theorem dX0_range_55 : decode cX0_range 55 = .ok (.invokevirtual 47, 3) := dk_182 0 47 (dk_at dksX0_range_2 8 rfl rfl)
theorem dX0_range_58 : decode cX0_range 58 = .ok (.ireturn, 1) := dk_172 (dk_at dksX0_range_2 11 rfl rfl)
abbrev cX0_done : ByteArray := prog_1_method_4_code
def yX0_done : MethodName := ⟨RX0, "done", "(I)I"⟩
def dkwX0_done_0 : List UInt8 := [42, 3, 181, 0, 44, 27, 172]
abbrev dktX0_done_0 : List UInt8 := dkwX0_done_0 ++ []
theorem dksX0_done_0 : cX0_done.data.toList.drop 0 = dktX0_done_0 := by decide +kernel
theorem dX0_done_0 : decode cX0_done 0 = .ok (.aload_n 0, 1) := dk_42 (dk_at dksX0_done_0 0 rfl rfl)
theorem dX0_done_1 : decode cX0_done 1 = .ok (.iconst 0, 1) := dk_3 (dk_at dksX0_done_0 1 rfl rfl)
theorem dX0_done_2 : decode cX0_done 2 = .ok (.putfield 44, 3) := dk_181 0 44 (dk_at dksX0_done_0 2 rfl rfl)
theorem dX0_done_5 : decode cX0_done 5 = .ok (.iload_n 1, 1) := dk_27 (dk_at dksX0_done_0 5 rfl rfl)
theorem dX0_done_6 : decode cX0_done 6 = .ok (.ireturn, 1) := dk_172 (dk_at dksX0_done_0 6 rfl rfl)
abbrev cX0_fail : ByteArray := prog_1_method_2_code
def yX0_fail : MethodName := ⟨RX0, "fail", "(I)I"⟩
def dkwX0_fail_0 : List UInt8 := [42, 27, 181, 0, 44, 3, 172]
abbrev dktX0_fail_0 : List UInt8 := dkwX0_fail_0 ++ []
theorem dksX0_fail_0 : cX0_fail.data.toList.drop 0 = dktX0_fail_0 := by decide +kernel
theorem dX0_fail_0 : decode cX0_fail 0 = .ok (.aload_n 0, 1) := dk_42 (dk_at dksX0_fail_0 0 rfl rfl)
theorem dX0_fail_1 : decode cX0_fail 1 = .ok (.iload_n 1, 1) := dk_27 (dk_at dksX0_fail_0 1 rfl rfl)
theorem dX0_fail_2 : decode cX0_fail 2 = .ok (.putfield 44, 3) := dk_181 0 44 (dk_at dksX0_fail_0 2 rfl rfl)
theorem dX0_fail_5 : decode cX0_fail 5 = .ok (.iconst 0, 1) := dk_3 (dk_at dksX0_fail_0 5 rfl rfl)
theorem dX0_fail_6 : decode cX0_fail 6 = .ok (.ireturn, 1) := dk_172 (dk_at dksX0_fail_0 6 rfl rfl)
abbrev cX0_shapeless : ByteArray := prog_1_method_17_code
def yX0_shapeless : MethodName := ⟨RX0, "shapeless", "()I"⟩
def dkwX0_shapeless_0 : List UInt8 := [42, 180, 0, 10, 180, 0, 108, 60, 42, 180, 0, 10, 3, 181, 0, 108, 42, 27, 182, 0, 114, 172]
abbrev dktX0_shapeless_0 : List UInt8 := dkwX0_shapeless_0 ++ []
theorem dksX0_shapeless_0 : cX0_shapeless.data.toList.drop 0 = dktX0_shapeless_0 := by decide +kernel
theorem dX0_shapeless_0 : decode cX0_shapeless 0 = .ok (.aload_n 0, 1) := dk_42 (dk_at dksX0_shapeless_0 0 rfl rfl)
theorem dX0_shapeless_1 : decode cX0_shapeless 1 = .ok (.getfield 10, 3) := dk_180 0 10 (dk_at dksX0_shapeless_0 1 rfl rfl)
theorem dX0_shapeless_4 : decode cX0_shapeless 4 = .ok (.getfield 108, 3) := dk_180 0 108 (dk_at dksX0_shapeless_0 4 rfl rfl)
theorem dX0_shapeless_7 : decode cX0_shapeless 7 = .ok (.istore_n 1, 1) := dk_60 (dk_at dksX0_shapeless_0 7 rfl rfl)
theorem dX0_shapeless_8 : decode cX0_shapeless 8 = .ok (.aload_n 0, 1) := dk_42 (dk_at dksX0_shapeless_0 8 rfl rfl)
theorem dX0_shapeless_9 : decode cX0_shapeless 9 = .ok (.getfield 10, 3) := dk_180 0 10 (dk_at dksX0_shapeless_0 9 rfl rfl)
theorem dX0_shapeless_12 : decode cX0_shapeless 12 = .ok (.iconst 0, 1) := dk_3 (dk_at dksX0_shapeless_0 12 rfl rfl)
theorem dX0_shapeless_13 : decode cX0_shapeless 13 = .ok (.putfield 108, 3) := dk_181 0 108 (dk_at dksX0_shapeless_0 13 rfl rfl)
theorem dX0_shapeless_16 : decode cX0_shapeless 16 = .ok (.aload_n 0, 1) := dk_42 (dk_at dksX0_shapeless_0 16 rfl rfl)
theorem dX0_shapeless_17 : decode cX0_shapeless 17 = .ok (.iload_n 1, 1) := dk_27 (dk_at dksX0_shapeless_0 17 rfl rfl)
theorem dX0_shapeless_18 : decode cX0_shapeless 18 = .ok (.invokevirtual 114, 3) := dk_182 0 114 (dk_at dksX0_shapeless_0 18 rfl rfl)
theorem dX0_shapeless_21 : decode cX0_shapeless 21 = .ok (.ireturn, 1) := dk_172 (dk_at dksX0_shapeless_0 21 rfl rfl)
abbrev cX0_make : ByteArray := prog_1_method_19_code
def yX0_make : MethodName := ⟨RX0, "make", "(I)I"⟩
def dkwX0_make_7 : List UInt8 := [181, 0, 108, 21, 4, 172]
abbrev dktX0_make_7 : List UInt8 := dkwX0_make_7 ++ []
def dkwX0_make_6 : List UInt8 := [28, 29, 108, 184, 0, 130, 167, 0, 8, 27, 28, 184, 0, 134, 182, 0, 137, 54, 4, 42, 180, 0, 10, 3]
abbrev dktX0_make_6 : List UInt8 := dkwX0_make_6 ++ dktX0_make_7
def dkwX0_make_5 : List UInt8 := [167, 0, 4, 3, 62, 42, 42, 180, 0, 10, 27, 7, 160, 0, 21, 29, 29, 154, 0, 7, 3, 167, 0, 6]
abbrev dktX0_make_5 : List UInt8 := dkwX0_make_5 ++ dktX0_make_6
def dkwX0_make_4 : List UInt8 := [160, 0, 10, 42, 16, 8, 182, 0, 47, 172, 27, 7, 160, 0, 15, 42, 180, 0, 10, 3, 182, 0, 124, 136]
abbrev dktX0_make_4 : List UInt8 := dkwX0_make_4 ++ dktX0_make_5
def dkwX0_make_3 : List UInt8 := [182, 0, 124, 20, 0, 128, 148, 158, 0, 9, 42, 8, 182, 0, 47, 172, 42, 180, 0, 51, 16, 24]
abbrev dktX0_make_3 : List UInt8 := dkwX0_make_3 ++ dktX0_make_4
def dkwX0_make_2 : List UInt8 := [180, 0, 10, 182, 0, 120, 61, 28, 17, 1, 244, 163, 0, 23, 27, 7, 160, 0, 24, 42, 180, 0, 10, 3]
abbrev dktX0_make_2 : List UInt8 := dkwX0_make_2 ++ dktX0_make_3
def dkwX0_make_1 : List UInt8 := [160, 0, 21, 42, 180, 0, 10, 180, 0, 108, 5, 159, 0, 10, 42, 16, 9, 182, 0, 47, 172, 42]
abbrev dktX0_make_1 : List UInt8 := dkwX0_make_1 ++ dktX0_make_2
def dkwX0_make_0 : List UInt8 := [27, 155, 0, 8, 27, 7, 164, 0, 6, 18, 119, 172, 42, 180, 0, 10, 180, 0, 108, 153, 0, 19, 27, 7]
abbrev dktX0_make_0 : List UInt8 := dkwX0_make_0 ++ dktX0_make_1
theorem dksX0_make_0 : cX0_make.data.toList.drop 0 = dktX0_make_0 := by decide +kernel
theorem dksX0_make_1 : cX0_make.data.toList.drop 24 = dktX0_make_1 := dk_seg dksX0_make_0 24 rfl rfl
theorem dksX0_make_2 : cX0_make.data.toList.drop 46 = dktX0_make_2 := dk_seg dksX0_make_1 22 rfl rfl
theorem dksX0_make_3 : cX0_make.data.toList.drop 70 = dktX0_make_3 := dk_seg dksX0_make_2 24 rfl rfl
theorem dksX0_make_4 : cX0_make.data.toList.drop 92 = dktX0_make_4 := dk_seg dksX0_make_3 22 rfl rfl
theorem dksX0_make_5 : cX0_make.data.toList.drop 116 = dktX0_make_5 := dk_seg dksX0_make_4 24 rfl rfl
theorem dksX0_make_6 : cX0_make.data.toList.drop 140 = dktX0_make_6 := dk_seg dksX0_make_5 24 rfl rfl
theorem dksX0_make_7 : cX0_make.data.toList.drop 164 = dktX0_make_7 := dk_seg dksX0_make_6 24 rfl rfl
theorem dX0_make_0 : decode cX0_make 0 = .ok (.iload_n 1, 1) := dk_27 (dk_at dksX0_make_0 0 rfl rfl)
theorem dX0_make_1 : decode cX0_make 1 = .ok (.ifCond .lt 8, 3) := dk_155 0 8 (dk_at dksX0_make_0 1 rfl rfl)
theorem dX0_make_4 : decode cX0_make 4 = .ok (.iload_n 1, 1) := dk_27 (dk_at dksX0_make_0 4 rfl rfl)
theorem dX0_make_5 : decode cX0_make 5 = .ok (.iconst 4, 1) := dk_7 (dk_at dksX0_make_0 5 rfl rfl)
theorem dX0_make_6 : decode cX0_make 6 = .ok (.if_icmp .le 6, 3) := dk_164 0 6 (dk_at dksX0_make_0 6 rfl rfl)
theorem dX0_make_9 : decode cX0_make 9 = .ok (.ldc 119, 2) := dk_18 119 (dk_at dksX0_make_0 9 rfl rfl)
theorem dX0_make_11 : decode cX0_make 11 = .ok (.ireturn, 1) := dk_172 (dk_at dksX0_make_0 11 rfl rfl)
theorem dX0_make_12 : decode cX0_make 12 = .ok (.aload_n 0, 1) := dk_42 (dk_at dksX0_make_0 12 rfl rfl)
theorem dX0_make_13 : decode cX0_make 13 = .ok (.getfield 10, 3) := dk_180 0 10 (dk_at dksX0_make_0 13 rfl rfl)
theorem dX0_make_16 : decode cX0_make 16 = .ok (.getfield 108, 3) := dk_180 0 108 (dk_at dksX0_make_0 16 rfl rfl)
theorem dX0_make_19 : decode cX0_make 19 = .ok (.ifCond .eq 19, 3) := dk_153 0 19 (dk_at dksX0_make_0 19 rfl rfl)
theorem dX0_make_22 : decode cX0_make 22 = .ok (.iload_n 1, 1) := dk_27 (dk_at dksX0_make_0 22 rfl rfl)
theorem dX0_make_23 : decode cX0_make 23 = .ok (.iconst 4, 1) := dk_7 (dk_at dksX0_make_0 23 rfl rfl)
theorem dX0_make_24 : decode cX0_make 24 = .ok (.if_icmp .ne 21, 3) := dk_160 0 21 (dk_at dksX0_make_1 0 rfl rfl)
theorem dX0_make_27 : decode cX0_make 27 = .ok (.aload_n 0, 1) := dk_42 (dk_at dksX0_make_1 3 rfl rfl)
theorem dX0_make_28 : decode cX0_make 28 = .ok (.getfield 10, 3) := dk_180 0 10 (dk_at dksX0_make_1 4 rfl rfl)
theorem dX0_make_31 : decode cX0_make 31 = .ok (.getfield 108, 3) := dk_180 0 108 (dk_at dksX0_make_1 7 rfl rfl)
theorem dX0_make_34 : decode cX0_make 34 = .ok (.iconst 2, 1) := dk_5 (dk_at dksX0_make_1 10 rfl rfl)
theorem dX0_make_35 : decode cX0_make 35 = .ok (.if_icmp .eq 10, 3) := dk_159 0 10 (dk_at dksX0_make_1 11 rfl rfl)
theorem dX0_make_38 : decode cX0_make 38 = .ok (.aload_n 0, 1) := dk_42 (dk_at dksX0_make_1 14 rfl rfl)
theorem dX0_make_39 : decode cX0_make 39 = .ok (.bipush 9, 2) := dk_16 9 (dk_at dksX0_make_1 15 rfl rfl)
theorem dX0_make_41 : decode cX0_make 41 = .ok (.invokevirtual 47, 3) := dk_182 0 47 (dk_at dksX0_make_1 17 rfl rfl)
theorem dX0_make_44 : decode cX0_make 44 = .ok (.ireturn, 1) := dk_172 (dk_at dksX0_make_1 20 rfl rfl)
theorem dX0_make_45 : decode cX0_make 45 = .ok (.aload_n 0, 1) := dk_42 (dk_at dksX0_make_1 21 rfl rfl)
theorem dX0_make_46 : decode cX0_make 46 = .ok (.getfield 10, 3) := dk_180 0 10 (dk_at dksX0_make_2 0 rfl rfl)
theorem dX0_make_49 : decode cX0_make 49 = .ok (.invokevirtual 120, 3) := dk_182 0 120 (dk_at dksX0_make_2 3 rfl rfl)
theorem dX0_make_52 : decode cX0_make 52 = .ok (.istore_n 2, 1) := dk_61 (dk_at dksX0_make_2 6 rfl rfl)
theorem dX0_make_53 : decode cX0_make 53 = .ok (.iload_n 2, 1) := dk_28 (dk_at dksX0_make_2 7 rfl rfl)
theorem dX0_make_54 : decode cX0_make 54 = .ok (.sipush 500, 3) := dk_17 1 244 (dk_at dksX0_make_2 8 rfl rfl)
theorem dX0_make_57 : decode cX0_make 57 = .ok (.if_icmp .gt 23, 3) := dk_163 0 23 (dk_at dksX0_make_2 11 rfl rfl)
theorem dX0_make_60 : decode cX0_make 60 = .ok (.iload_n 1, 1) := dk_27 (dk_at dksX0_make_2 14 rfl rfl)
theorem dX0_make_61 : decode cX0_make 61 = .ok (.iconst 4, 1) := dk_7 (dk_at dksX0_make_2 15 rfl rfl)
theorem dX0_make_62 : decode cX0_make 62 = .ok (.if_icmp .ne 24, 3) := dk_160 0 24 (dk_at dksX0_make_2 16 rfl rfl)
theorem dX0_make_65 : decode cX0_make 65 = .ok (.aload_n 0, 1) := dk_42 (dk_at dksX0_make_2 19 rfl rfl)
theorem dX0_make_66 : decode cX0_make 66 = .ok (.getfield 10, 3) := dk_180 0 10 (dk_at dksX0_make_2 20 rfl rfl)
theorem dX0_make_69 : decode cX0_make 69 = .ok (.iconst 0, 1) := dk_3 (dk_at dksX0_make_2 23 rfl rfl)
theorem dX0_make_70 : decode cX0_make 70 = .ok (.invokevirtual 124, 3) := dk_182 0 124 (dk_at dksX0_make_3 0 rfl rfl)
theorem dX0_make_73 : decode cX0_make 73 = .ok (.ldc2_w 128, 3) := dk_20 0 128 (dk_at dksX0_make_3 3 rfl rfl)
theorem dX0_make_76 : decode cX0_make 76 = .ok (.lcmp, 1) := dk_148 (dk_at dksX0_make_3 6 rfl rfl)
theorem dX0_make_77 : decode cX0_make 77 = .ok (.ifCond .le 9, 3) := dk_158 0 9 (dk_at dksX0_make_3 7 rfl rfl)
theorem dX0_make_80 : decode cX0_make 80 = .ok (.aload_n 0, 1) := dk_42 (dk_at dksX0_make_3 10 rfl rfl)
theorem dX0_make_81 : decode cX0_make 81 = .ok (.iconst 5, 1) := dk_8 (dk_at dksX0_make_3 11 rfl rfl)
theorem dX0_make_82 : decode cX0_make 82 = .ok (.invokevirtual 47, 3) := dk_182 0 47 (dk_at dksX0_make_3 12 rfl rfl)
theorem dX0_make_85 : decode cX0_make 85 = .ok (.ireturn, 1) := dk_172 (dk_at dksX0_make_3 15 rfl rfl)
theorem dX0_make_86 : decode cX0_make 86 = .ok (.aload_n 0, 1) := dk_42 (dk_at dksX0_make_3 16 rfl rfl)
theorem dX0_make_87 : decode cX0_make 87 = .ok (.getfield 51, 3) := dk_180 0 51 (dk_at dksX0_make_3 17 rfl rfl)
theorem dX0_make_90 : decode cX0_make 90 = .ok (.bipush 24, 2) := dk_16 24 (dk_at dksX0_make_3 20 rfl rfl)
theorem dX0_make_92 : decode cX0_make 92 = .ok (.if_icmp .ne 10, 3) := dk_160 0 10 (dk_at dksX0_make_4 0 rfl rfl)
theorem dX0_make_95 : decode cX0_make 95 = .ok (.aload_n 0, 1) := dk_42 (dk_at dksX0_make_4 3 rfl rfl)
theorem dX0_make_96 : decode cX0_make 96 = .ok (.bipush 8, 2) := dk_16 8 (dk_at dksX0_make_4 4 rfl rfl)
theorem dX0_make_98 : decode cX0_make 98 = .ok (.invokevirtual 47, 3) := dk_182 0 47 (dk_at dksX0_make_4 6 rfl rfl)
theorem dX0_make_101 : decode cX0_make 101 = .ok (.ireturn, 1) := dk_172 (dk_at dksX0_make_4 9 rfl rfl)
theorem dX0_make_102 : decode cX0_make 102 = .ok (.iload_n 1, 1) := dk_27 (dk_at dksX0_make_4 10 rfl rfl)
theorem dX0_make_103 : decode cX0_make 103 = .ok (.iconst 4, 1) := dk_7 (dk_at dksX0_make_4 11 rfl rfl)
theorem dX0_make_104 : decode cX0_make 104 = .ok (.if_icmp .ne 15, 3) := dk_160 0 15 (dk_at dksX0_make_4 12 rfl rfl)
theorem dX0_make_107 : decode cX0_make 107 = .ok (.aload_n 0, 1) := dk_42 (dk_at dksX0_make_4 15 rfl rfl)
theorem dX0_make_108 : decode cX0_make 108 = .ok (.getfield 10, 3) := dk_180 0 10 (dk_at dksX0_make_4 16 rfl rfl)
theorem dX0_make_111 : decode cX0_make 111 = .ok (.iconst 0, 1) := dk_3 (dk_at dksX0_make_4 19 rfl rfl)
theorem dX0_make_112 : decode cX0_make 112 = .ok (.invokevirtual 124, 3) := dk_182 0 124 (dk_at dksX0_make_4 20 rfl rfl)
theorem dX0_make_115 : decode cX0_make 115 = .ok (.l2i, 1) := dk_136 (dk_at dksX0_make_4 23 rfl rfl)
theorem dX0_make_116 : decode cX0_make 116 = .ok (.goto 4, 3) := dk_167 0 4 (dk_at dksX0_make_5 0 rfl rfl)
theorem dX0_make_119 : decode cX0_make 119 = .ok (.iconst 0, 1) := dk_3 (dk_at dksX0_make_5 3 rfl rfl)
theorem dX0_make_120 : decode cX0_make 120 = .ok (.istore_n 3, 1) := dk_62 (dk_at dksX0_make_5 4 rfl rfl)
theorem dX0_make_121 : decode cX0_make 121 = .ok (.aload_n 0, 1) := dk_42 (dk_at dksX0_make_5 5 rfl rfl)
theorem dX0_make_122 : decode cX0_make 122 = .ok (.aload_n 0, 1) := dk_42 (dk_at dksX0_make_5 6 rfl rfl)
theorem dX0_make_123 : decode cX0_make 123 = .ok (.getfield 10, 3) := dk_180 0 10 (dk_at dksX0_make_5 7 rfl rfl)
theorem dX0_make_126 : decode cX0_make 126 = .ok (.iload_n 1, 1) := dk_27 (dk_at dksX0_make_5 10 rfl rfl)
theorem dX0_make_127 : decode cX0_make 127 = .ok (.iconst 4, 1) := dk_7 (dk_at dksX0_make_5 11 rfl rfl)
theorem dX0_make_128 : decode cX0_make 128 = .ok (.if_icmp .ne 21, 3) := dk_160 0 21 (dk_at dksX0_make_5 12 rfl rfl)
theorem dX0_make_131 : decode cX0_make 131 = .ok (.iload_n 3, 1) := dk_29 (dk_at dksX0_make_5 15 rfl rfl)
theorem dX0_make_132 : decode cX0_make 132 = .ok (.iload_n 3, 1) := dk_29 (dk_at dksX0_make_5 16 rfl rfl)
theorem dX0_make_133 : decode cX0_make 133 = .ok (.ifCond .ne 7, 3) := dk_154 0 7 (dk_at dksX0_make_5 17 rfl rfl)
theorem dX0_make_136 : decode cX0_make 136 = .ok (.iconst 0, 1) := dk_3 (dk_at dksX0_make_5 20 rfl rfl)
theorem dX0_make_137 : decode cX0_make 137 = .ok (.goto 6, 3) := dk_167 0 6 (dk_at dksX0_make_5 21 rfl rfl)
theorem dX0_make_140 : decode cX0_make 140 = .ok (.iload_n 2, 1) := dk_28 (dk_at dksX0_make_6 0 rfl rfl)
theorem dX0_make_141 : decode cX0_make 141 = .ok (.iload_n 3, 1) := dk_29 (dk_at dksX0_make_6 1 rfl rfl)
theorem dX0_make_142 : decode cX0_make 142 = .ok (.idiv, 1) := dk_108 (dk_at dksX0_make_6 2 rfl rfl)
theorem dX0_make_143 : decode cX0_make 143 = .ok (.invokestatic 130, 3) := dk_184 0 130 (dk_at dksX0_make_6 3 rfl rfl)
theorem dX0_make_146 : decode cX0_make 146 = .ok (.goto 8, 3) := dk_167 0 8 (dk_at dksX0_make_6 6 rfl rfl)
theorem dX0_make_149 : decode cX0_make 149 = .ok (.iload_n 1, 1) := dk_27 (dk_at dksX0_make_6 9 rfl rfl)
theorem dX0_make_150 : decode cX0_make 150 = .ok (.iload_n 2, 1) := dk_28 (dk_at dksX0_make_6 10 rfl rfl)
theorem dX0_make_151 : decode cX0_make 151 = .ok (.invokestatic 134, 3) := dk_184 0 134 (dk_at dksX0_make_6 11 rfl rfl)
theorem dX0_make_154 : decode cX0_make 154 = .ok (.invokevirtual 137, 3) := dk_182 0 137 (dk_at dksX0_make_6 14 rfl rfl)
theorem dX0_make_157 : decode cX0_make 157 = .ok (.istore 4, 2) := dk_54 4 (dk_at dksX0_make_6 17 rfl rfl)
theorem dX0_make_159 : decode cX0_make 159 = .ok (.aload_n 0, 1) := dk_42 (dk_at dksX0_make_6 19 rfl rfl)
theorem dX0_make_160 : decode cX0_make 160 = .ok (.getfield 10, 3) := dk_180 0 10 (dk_at dksX0_make_6 20 rfl rfl)
theorem dX0_make_163 : decode cX0_make 163 = .ok (.iconst 0, 1) := dk_3 (dk_at dksX0_make_6 23 rfl rfl)
theorem dX0_make_164 : decode cX0_make 164 = .ok (.putfield 108, 3) := dk_181 0 108 (dk_at dksX0_make_7 0 rfl rfl)
theorem dX0_make_167 : decode cX0_make 167 = .ok (.iload 4, 2) := dk_21 4 (dk_at dksX0_make_7 3 rfl rfl)
theorem dX0_make_169 : decode cX0_make 169 = .ok (.ireturn, 1) := dk_172 (dk_at dksX0_make_7 5 rfl rfl)
abbrev cX0_freshTable : ByteArray := prog_1_method_18_code
def yX0_freshTable : MethodName := ⟨RX0, "freshTable", "(II)Ljava/lang/Object;"⟩
def dkwX0_freshTable_1 : List UInt8 := [44, 176]
abbrev dktX0_freshTable_1 : List UInt8 := dkwX0_freshTable_1 ++ []
def dkwX0_freshTable_0 : List UInt8 := [26, 189, 0, 56, 77, 3, 62, 29, 26, 162, 0, 15, 44, 29, 27, 188, 10, 83, 132, 3, 1, 167, 255, 242]
abbrev dktX0_freshTable_0 : List UInt8 := dkwX0_freshTable_0 ++ dktX0_freshTable_1
theorem dksX0_freshTable_0 : cX0_freshTable.data.toList.drop 0 = dktX0_freshTable_0 := by decide +kernel
theorem dksX0_freshTable_1 : cX0_freshTable.data.toList.drop 24 = dktX0_freshTable_1 := dk_seg dksX0_freshTable_0 24 rfl rfl
theorem dX0_freshTable_0 : decode cX0_freshTable 0 = .ok (.iload_n 0, 1) := dk_26 (dk_at dksX0_freshTable_0 0 rfl rfl)
theorem dX0_freshTable_1 : decode cX0_freshTable 1 = .ok (.anewarray 56, 3) := dk_189 0 56 (dk_at dksX0_freshTable_0 1 rfl rfl)
theorem dX0_freshTable_4 : decode cX0_freshTable 4 = .ok (.astore_n 2, 1) := dk_77 (dk_at dksX0_freshTable_0 4 rfl rfl)
theorem dX0_freshTable_5 : decode cX0_freshTable 5 = .ok (.iconst 0, 1) := dk_3 (dk_at dksX0_freshTable_0 5 rfl rfl)
theorem dX0_freshTable_6 : decode cX0_freshTable 6 = .ok (.istore_n 3, 1) := dk_62 (dk_at dksX0_freshTable_0 6 rfl rfl)
theorem dX0_freshTable_7 : decode cX0_freshTable 7 = .ok (.iload_n 3, 1) := dk_29 (dk_at dksX0_freshTable_0 7 rfl rfl)
theorem dX0_freshTable_8 : decode cX0_freshTable 8 = .ok (.iload_n 0, 1) := dk_26 (dk_at dksX0_freshTable_0 8 rfl rfl)
theorem dX0_freshTable_9 : decode cX0_freshTable 9 = .ok (.if_icmp .ge 15, 3) := dk_162 0 15 (dk_at dksX0_freshTable_0 9 rfl rfl)
theorem dX0_freshTable_12 : decode cX0_freshTable 12 = .ok (.aload_n 2, 1) := dk_44 (dk_at dksX0_freshTable_0 12 rfl rfl)
theorem dX0_freshTable_13 : decode cX0_freshTable 13 = .ok (.iload_n 3, 1) := dk_29 (dk_at dksX0_freshTable_0 13 rfl rfl)
theorem dX0_freshTable_14 : decode cX0_freshTable 14 = .ok (.iload_n 1, 1) := dk_27 (dk_at dksX0_freshTable_0 14 rfl rfl)
theorem dX0_freshTable_15 : decode cX0_freshTable 15 = .ok (.newarray .int, 2) := dk_188_10 (dk_at dksX0_freshTable_0 15 rfl rfl)
theorem dX0_freshTable_17 : decode cX0_freshTable 17 = .ok (.aastore, 1) := dk_83 (dk_at dksX0_freshTable_0 17 rfl rfl)
theorem dX0_freshTable_18 : decode cX0_freshTable 18 = .ok (.iinc 3 1, 3) := dk_132 3 1 (dk_at dksX0_freshTable_0 18 rfl rfl)
theorem dX0_freshTable_21 : decode cX0_freshTable 21 = .ok (.goto (-14), 3) := dk_167 255 242 (dk_at dksX0_freshTable_0 21 rfl rfl)
theorem dX0_freshTable_24 : decode cX0_freshTable 24 = .ok (.aload_n 2, 1) := dk_44 (dk_at dksX0_freshTable_1 0 rfl rfl)
theorem dX0_freshTable_25 : decode cX0_freshTable 25 = .ok (.areturn, 1) := dk_176 (dk_at dksX0_freshTable_1 1 rfl rfl)
abbrev cX0_fresh : ByteArray := prog_1_method_7_code
def yX0_fresh : MethodName := ⟨RX0, "fresh", "(II)Ljava/lang/Object;"⟩
def dkwX0_fresh_2 : List UInt8 := [27, 188, 8, 176, 27, 188, 10, 176, 27, 188, 11, 176, 27, 189, 0, 56, 176, 27, 189, 0, 60, 176]
abbrev dktX0_fresh_2 : List UInt8 := dkwX0_fresh_2 ++ []
def dkwX0_fresh_1 : List UInt8 := [170, 0, 0, 0, 0, 0, 52, 0, 0, 0, 0, 0, 0, 0, 4, 0, 0, 0, 35, 0, 0, 0, 39, 0, 0, 0, 43, 0, 0, 0, 52, 0, 0, 0, 47]
abbrev dktX0_fresh_1 : List UInt8 := dkwX0_fresh_1 ++ dktX0_fresh_2
def dkwX0_fresh_0 : List UInt8 := [26]
abbrev dktX0_fresh_0 : List UInt8 := dkwX0_fresh_0 ++ dktX0_fresh_1
theorem dksX0_fresh_0 : cX0_fresh.data.toList.drop 0 = dktX0_fresh_0 := by decide +kernel
theorem dksX0_fresh_1 : cX0_fresh.data.toList.drop 1 = dktX0_fresh_1 := dk_seg dksX0_fresh_0 1 rfl rfl
theorem dksX0_fresh_2 : cX0_fresh.data.toList.drop 36 = dktX0_fresh_2 := dk_seg dksX0_fresh_1 35 rfl rfl
theorem dX0_fresh_0 : decode cX0_fresh 0 = .ok (.iload_n 0, 1) := dk_26 (dk_at dksX0_fresh_0 0 rfl rfl)
theorem dX0_fresh_1 : decode cX0_fresh 1 = .ok (.tableswitch 52 0 4 #[35, 39, 43, 52, 47], 35) := by decide +kernel
theorem dX0_fresh_36 : decode cX0_fresh 36 = .ok (.iload_n 1, 1) := dk_27 (dk_at dksX0_fresh_2 0 rfl rfl)
theorem dX0_fresh_37 : decode cX0_fresh 37 = .ok (.newarray .byte, 2) := dk_188_8 (dk_at dksX0_fresh_2 1 rfl rfl)
theorem dX0_fresh_39 : decode cX0_fresh 39 = .ok (.areturn, 1) := dk_176 (dk_at dksX0_fresh_2 3 rfl rfl)
theorem dX0_fresh_40 : decode cX0_fresh 40 = .ok (.iload_n 1, 1) := dk_27 (dk_at dksX0_fresh_2 4 rfl rfl)
theorem dX0_fresh_41 : decode cX0_fresh 41 = .ok (.newarray .int, 2) := dk_188_10 (dk_at dksX0_fresh_2 5 rfl rfl)
theorem dX0_fresh_43 : decode cX0_fresh 43 = .ok (.areturn, 1) := dk_176 (dk_at dksX0_fresh_2 7 rfl rfl)
theorem dX0_fresh_44 : decode cX0_fresh 44 = .ok (.iload_n 1, 1) := dk_27 (dk_at dksX0_fresh_2 8 rfl rfl)
theorem dX0_fresh_45 : decode cX0_fresh 45 = .ok (.newarray .long, 2) := dk_188_11 (dk_at dksX0_fresh_2 9 rfl rfl)
theorem dX0_fresh_47 : decode cX0_fresh 47 = .ok (.areturn, 1) := dk_176 (dk_at dksX0_fresh_2 11 rfl rfl)
theorem dX0_fresh_48 : decode cX0_fresh 48 = .ok (.iload_n 1, 1) := dk_27 (dk_at dksX0_fresh_2 12 rfl rfl)
theorem dX0_fresh_49 : decode cX0_fresh 49 = .ok (.anewarray 56, 3) := dk_189 0 56 (dk_at dksX0_fresh_2 13 rfl rfl)
theorem dX0_fresh_52 : decode cX0_fresh 52 = .ok (.areturn, 1) := dk_176 (dk_at dksX0_fresh_2 16 rfl rfl)
theorem dX0_fresh_53 : decode cX0_fresh 53 = .ok (.iload_n 1, 1) := dk_27 (dk_at dksX0_fresh_2 17 rfl rfl)
theorem dX0_fresh_54 : decode cX0_fresh 54 = .ok (.anewarray 60, 3) := dk_189 0 60 (dk_at dksX0_fresh_2 18 rfl rfl)
theorem dX0_fresh_57 : decode cX0_fresh 57 = .ok (.areturn, 1) := dk_176 (dk_at dksX0_fresh_2 21 rfl rfl)
abbrev cX0_keep : ByteArray := prog_1_method_13_code
def yX0_keep : MethodName := ⟨RX0, "keep", "(LArrayMaker$Shape;Ljava/lang/Object;)I"⟩
def dkwX0_keep_1 : List UInt8 := [50, 44, 181, 0, 101, 42, 3, 181, 0, 44, 42, 89, 180, 0, 51, 90, 4, 96, 181, 0, 51, 172]
abbrev dktX0_keep_1 : List UInt8 := dkwX0_keep_1 ++ []
def dkwX0_keep_0 : List UInt8 := [42, 180, 0, 18, 42, 180, 0, 51, 50, 180, 0, 96, 43, 182, 0, 97, 42, 180, 0, 18, 42, 180, 0, 51]
abbrev dktX0_keep_0 : List UInt8 := dkwX0_keep_0 ++ dktX0_keep_1
theorem dksX0_keep_0 : cX0_keep.data.toList.drop 0 = dktX0_keep_0 := by decide +kernel
theorem dksX0_keep_1 : cX0_keep.data.toList.drop 24 = dktX0_keep_1 := dk_seg dksX0_keep_0 24 rfl rfl
theorem dX0_keep_0 : decode cX0_keep 0 = .ok (.aload_n 0, 1) := dk_42 (dk_at dksX0_keep_0 0 rfl rfl)
theorem dX0_keep_1 : decode cX0_keep 1 = .ok (.getfield 18, 3) := dk_180 0 18 (dk_at dksX0_keep_0 1 rfl rfl)
theorem dX0_keep_4 : decode cX0_keep 4 = .ok (.aload_n 0, 1) := dk_42 (dk_at dksX0_keep_0 4 rfl rfl)
theorem dX0_keep_5 : decode cX0_keep 5 = .ok (.getfield 51, 3) := dk_180 0 51 (dk_at dksX0_keep_0 5 rfl rfl)
theorem dX0_keep_8 : decode cX0_keep 8 = .ok (.aaload, 1) := dk_50 (dk_at dksX0_keep_0 8 rfl rfl)
theorem dX0_keep_9 : decode cX0_keep 9 = .ok (.getfield 96, 3) := dk_180 0 96 (dk_at dksX0_keep_0 9 rfl rfl)
theorem dX0_keep_12 : decode cX0_keep 12 = .ok (.aload_n 1, 1) := dk_43 (dk_at dksX0_keep_0 12 rfl rfl)
theorem dX0_keep_13 : decode cX0_keep 13 = .ok (.invokevirtual 97, 3) := dk_182 0 97 (dk_at dksX0_keep_0 13 rfl rfl)
theorem dX0_keep_16 : decode cX0_keep 16 = .ok (.aload_n 0, 1) := dk_42 (dk_at dksX0_keep_0 16 rfl rfl)
theorem dX0_keep_17 : decode cX0_keep 17 = .ok (.getfield 18, 3) := dk_180 0 18 (dk_at dksX0_keep_0 17 rfl rfl)
theorem dX0_keep_20 : decode cX0_keep 20 = .ok (.aload_n 0, 1) := dk_42 (dk_at dksX0_keep_0 20 rfl rfl)
theorem dX0_keep_21 : decode cX0_keep 21 = .ok (.getfield 51, 3) := dk_180 0 51 (dk_at dksX0_keep_0 21 rfl rfl)
theorem dX0_keep_24 : decode cX0_keep 24 = .ok (.aaload, 1) := dk_50 (dk_at dksX0_keep_1 0 rfl rfl)
theorem dX0_keep_25 : decode cX0_keep 25 = .ok (.aload_n 2, 1) := dk_44 (dk_at dksX0_keep_1 1 rfl rfl)
theorem dX0_keep_26 : decode cX0_keep 26 = .ok (.putfield 101, 3) := dk_181 0 101 (dk_at dksX0_keep_1 2 rfl rfl)
theorem dX0_keep_29 : decode cX0_keep 29 = .ok (.aload_n 0, 1) := dk_42 (dk_at dksX0_keep_1 5 rfl rfl)
theorem dX0_keep_30 : decode cX0_keep 30 = .ok (.iconst 0, 1) := dk_3 (dk_at dksX0_keep_1 6 rfl rfl)
theorem dX0_keep_31 : decode cX0_keep 31 = .ok (.putfield 44, 3) := dk_181 0 44 (dk_at dksX0_keep_1 7 rfl rfl)
theorem dX0_keep_34 : decode cX0_keep 34 = .ok (.aload_n 0, 1) := dk_42 (dk_at dksX0_keep_1 10 rfl rfl)
theorem dX0_keep_35 : decode cX0_keep 35 = .ok (.dup, 1) := dk_89 (dk_at dksX0_keep_1 11 rfl rfl)
theorem dX0_keep_36 : decode cX0_keep 36 = .ok (.getfield 51, 3) := dk_180 0 51 (dk_at dksX0_keep_1 12 rfl rfl)
theorem dX0_keep_39 : decode cX0_keep 39 = .ok (.dup_x1, 1) := dk_90 (dk_at dksX0_keep_1 15 rfl rfl)
theorem dX0_keep_40 : decode cX0_keep 40 = .ok (.iconst 1, 1) := dk_4 (dk_at dksX0_keep_1 16 rfl rfl)
theorem dX0_keep_41 : decode cX0_keep 41 = .ok (.iadd, 1) := dk_96 (dk_at dksX0_keep_1 17 rfl rfl)
theorem dX0_keep_42 : decode cX0_keep 42 = .ok (.putfield 51, 3) := dk_181 0 51 (dk_at dksX0_keep_1 18 rfl rfl)
theorem dX0_keep_45 : decode cX0_keep 45 = .ok (.ireturn, 1) := dk_172 (dk_at dksX0_keep_1 21 rfl rfl)
abbrev cX0_raw : ByteArray := prog_1_method_20_code
def yX0_raw : MethodName := ⟨RX0, "raw", "(II)I"⟩
def dkwX0_raw_5 : List UInt8 := [182, 0, 47, 172]
abbrev dktX0_raw_5 : List UInt8 := dkwX0_raw_5 ++ []
def dkwX0_raw_4 : List UInt8 := [181, 0, 101, 42, 42, 89, 180, 0, 51, 90, 4, 96, 181, 0, 51, 182, 0, 114, 172, 78, 42, 7]
abbrev dktX0_raw_4 : List UInt8 := dkwX0_raw_4 ++ dktX0_raw_5
def dkwX0_raw_3 : List UInt8 := [3, 3, 79, 25, 4, 180, 0, 111, 3, 28, 4, 100, 79, 42, 180, 0, 18, 42, 180, 0, 51, 50, 45]
abbrev dktX0_raw_3 : List UInt8 := dkwX0_raw_3 ++ dktX0_raw_4
def dkwX0_raw_2 : List UInt8 := [180, 0, 18, 42, 180, 0, 51, 50, 180, 0, 96, 58, 4, 25, 4, 4, 181, 0, 108, 25, 4, 180, 0, 105]
abbrev dktX0_raw_2 : List UInt8 := dkwX0_raw_2 ++ dktX0_raw_3
def dkwX0_raw_1 : List UInt8 := [172, 27, 28, 184, 0, 134, 78, 42, 180, 0, 51, 16, 24, 160, 0, 10, 42, 16, 8, 182, 0, 47, 172, 42]
abbrev dktX0_raw_1 : List UInt8 := dkwX0_raw_1 ++ dktX0_raw_2
def dkwX0_raw_0 : List UInt8 := [27, 155, 0, 8, 27, 6, 164, 0, 6, 18, 119, 172, 28, 17, 1, 244, 164, 0, 9, 42, 8, 182, 0, 47]
abbrev dktX0_raw_0 : List UInt8 := dkwX0_raw_0 ++ dktX0_raw_1
theorem dksX0_raw_0 : cX0_raw.data.toList.drop 0 = dktX0_raw_0 := by decide +kernel
theorem dksX0_raw_1 : cX0_raw.data.toList.drop 24 = dktX0_raw_1 := dk_seg dksX0_raw_0 24 rfl rfl
theorem dksX0_raw_2 : cX0_raw.data.toList.drop 48 = dktX0_raw_2 := dk_seg dksX0_raw_1 24 rfl rfl
theorem dksX0_raw_3 : cX0_raw.data.toList.drop 72 = dktX0_raw_3 := dk_seg dksX0_raw_2 24 rfl rfl
theorem dksX0_raw_4 : cX0_raw.data.toList.drop 95 = dktX0_raw_4 := dk_seg dksX0_raw_3 23 rfl rfl
theorem dksX0_raw_5 : cX0_raw.data.toList.drop 117 = dktX0_raw_5 := dk_seg dksX0_raw_4 22 rfl rfl
theorem dX0_raw_0 : decode cX0_raw 0 = .ok (.iload_n 1, 1) := dk_27 (dk_at dksX0_raw_0 0 rfl rfl)
theorem dX0_raw_1 : decode cX0_raw 1 = .ok (.ifCond .lt 8, 3) := dk_155 0 8 (dk_at dksX0_raw_0 1 rfl rfl)
theorem dX0_raw_4 : decode cX0_raw 4 = .ok (.iload_n 1, 1) := dk_27 (dk_at dksX0_raw_0 4 rfl rfl)
theorem dX0_raw_5 : decode cX0_raw 5 = .ok (.iconst 3, 1) := dk_6 (dk_at dksX0_raw_0 5 rfl rfl)
theorem dX0_raw_6 : decode cX0_raw 6 = .ok (.if_icmp .le 6, 3) := dk_164 0 6 (dk_at dksX0_raw_0 6 rfl rfl)
theorem dX0_raw_9 : decode cX0_raw 9 = .ok (.ldc 119, 2) := dk_18 119 (dk_at dksX0_raw_0 9 rfl rfl)
theorem dX0_raw_11 : decode cX0_raw 11 = .ok (.ireturn, 1) := dk_172 (dk_at dksX0_raw_0 11 rfl rfl)
theorem dX0_raw_12 : decode cX0_raw 12 = .ok (.iload_n 2, 1) := dk_28 (dk_at dksX0_raw_0 12 rfl rfl)
theorem dX0_raw_13 : decode cX0_raw 13 = .ok (.sipush 500, 3) := dk_17 1 244 (dk_at dksX0_raw_0 13 rfl rfl)
theorem dX0_raw_16 : decode cX0_raw 16 = .ok (.if_icmp .le 9, 3) := dk_164 0 9 (dk_at dksX0_raw_0 16 rfl rfl)
theorem dX0_raw_19 : decode cX0_raw 19 = .ok (.aload_n 0, 1) := dk_42 (dk_at dksX0_raw_0 19 rfl rfl)
theorem dX0_raw_20 : decode cX0_raw 20 = .ok (.iconst 5, 1) := dk_8 (dk_at dksX0_raw_0 20 rfl rfl)
theorem dX0_raw_21 : decode cX0_raw 21 = .ok (.invokevirtual 47, 3) := dk_182 0 47 (dk_at dksX0_raw_0 21 rfl rfl)
theorem dX0_raw_24 : decode cX0_raw 24 = .ok (.ireturn, 1) := dk_172 (dk_at dksX0_raw_1 0 rfl rfl)
theorem dX0_raw_25 : decode cX0_raw 25 = .ok (.iload_n 1, 1) := dk_27 (dk_at dksX0_raw_1 1 rfl rfl)
theorem dX0_raw_26 : decode cX0_raw 26 = .ok (.iload_n 2, 1) := dk_28 (dk_at dksX0_raw_1 2 rfl rfl)
theorem dX0_raw_27 : decode cX0_raw 27 = .ok (.invokestatic 134, 3) := dk_184 0 134 (dk_at dksX0_raw_1 3 rfl rfl)
theorem dX0_raw_30 : decode cX0_raw 30 = .ok (.astore_n 3, 1) := dk_78 (dk_at dksX0_raw_1 6 rfl rfl)
theorem dX0_raw_31 : decode cX0_raw 31 = .ok (.aload_n 0, 1) := dk_42 (dk_at dksX0_raw_1 7 rfl rfl)
theorem dX0_raw_32 : decode cX0_raw 32 = .ok (.getfield 51, 3) := dk_180 0 51 (dk_at dksX0_raw_1 8 rfl rfl)
theorem dX0_raw_35 : decode cX0_raw 35 = .ok (.bipush 24, 2) := dk_16 24 (dk_at dksX0_raw_1 11 rfl rfl)
theorem dX0_raw_37 : decode cX0_raw 37 = .ok (.if_icmp .ne 10, 3) := dk_160 0 10 (dk_at dksX0_raw_1 13 rfl rfl)
theorem dX0_raw_40 : decode cX0_raw 40 = .ok (.aload_n 0, 1) := dk_42 (dk_at dksX0_raw_1 16 rfl rfl)
theorem dX0_raw_41 : decode cX0_raw 41 = .ok (.bipush 8, 2) := dk_16 8 (dk_at dksX0_raw_1 17 rfl rfl)
theorem dX0_raw_43 : decode cX0_raw 43 = .ok (.invokevirtual 47, 3) := dk_182 0 47 (dk_at dksX0_raw_1 19 rfl rfl)
theorem dX0_raw_46 : decode cX0_raw 46 = .ok (.ireturn, 1) := dk_172 (dk_at dksX0_raw_1 22 rfl rfl)
theorem dX0_raw_47 : decode cX0_raw 47 = .ok (.aload_n 0, 1) := dk_42 (dk_at dksX0_raw_1 23 rfl rfl)
theorem dX0_raw_48 : decode cX0_raw 48 = .ok (.getfield 18, 3) := dk_180 0 18 (dk_at dksX0_raw_2 0 rfl rfl)
theorem dX0_raw_51 : decode cX0_raw 51 = .ok (.aload_n 0, 1) := dk_42 (dk_at dksX0_raw_2 3 rfl rfl)
theorem dX0_raw_52 : decode cX0_raw 52 = .ok (.getfield 51, 3) := dk_180 0 51 (dk_at dksX0_raw_2 4 rfl rfl)
theorem dX0_raw_55 : decode cX0_raw 55 = .ok (.aaload, 1) := dk_50 (dk_at dksX0_raw_2 7 rfl rfl)
theorem dX0_raw_56 : decode cX0_raw 56 = .ok (.getfield 96, 3) := dk_180 0 96 (dk_at dksX0_raw_2 8 rfl rfl)
theorem dX0_raw_59 : decode cX0_raw 59 = .ok (.astore 4, 2) := dk_58 4 (dk_at dksX0_raw_2 11 rfl rfl)
theorem dX0_raw_61 : decode cX0_raw 61 = .ok (.aload 4, 2) := dk_25 4 (dk_at dksX0_raw_2 13 rfl rfl)
theorem dX0_raw_63 : decode cX0_raw 63 = .ok (.iconst 1, 1) := dk_4 (dk_at dksX0_raw_2 15 rfl rfl)
theorem dX0_raw_64 : decode cX0_raw 64 = .ok (.putfield 108, 3) := dk_181 0 108 (dk_at dksX0_raw_2 16 rfl rfl)
theorem dX0_raw_67 : decode cX0_raw 67 = .ok (.aload 4, 2) := dk_25 4 (dk_at dksX0_raw_2 19 rfl rfl)
theorem dX0_raw_69 : decode cX0_raw 69 = .ok (.getfield 105, 3) := dk_180 0 105 (dk_at dksX0_raw_2 21 rfl rfl)
theorem dX0_raw_72 : decode cX0_raw 72 = .ok (.iconst 0, 1) := dk_3 (dk_at dksX0_raw_3 0 rfl rfl)
theorem dX0_raw_73 : decode cX0_raw 73 = .ok (.iconst 0, 1) := dk_3 (dk_at dksX0_raw_3 1 rfl rfl)
theorem dX0_raw_74 : decode cX0_raw 74 = .ok (.iastore, 1) := dk_79 (dk_at dksX0_raw_3 2 rfl rfl)
theorem dX0_raw_75 : decode cX0_raw 75 = .ok (.aload 4, 2) := dk_25 4 (dk_at dksX0_raw_3 3 rfl rfl)
theorem dX0_raw_77 : decode cX0_raw 77 = .ok (.getfield 111, 3) := dk_180 0 111 (dk_at dksX0_raw_3 5 rfl rfl)
theorem dX0_raw_80 : decode cX0_raw 80 = .ok (.iconst 0, 1) := dk_3 (dk_at dksX0_raw_3 8 rfl rfl)
theorem dX0_raw_81 : decode cX0_raw 81 = .ok (.iload_n 2, 1) := dk_28 (dk_at dksX0_raw_3 9 rfl rfl)
theorem dX0_raw_82 : decode cX0_raw 82 = .ok (.iconst 1, 1) := dk_4 (dk_at dksX0_raw_3 10 rfl rfl)
theorem dX0_raw_83 : decode cX0_raw 83 = .ok (.isub, 1) := dk_100 (dk_at dksX0_raw_3 11 rfl rfl)
theorem dX0_raw_84 : decode cX0_raw 84 = .ok (.iastore, 1) := dk_79 (dk_at dksX0_raw_3 12 rfl rfl)
theorem dX0_raw_85 : decode cX0_raw 85 = .ok (.aload_n 0, 1) := dk_42 (dk_at dksX0_raw_3 13 rfl rfl)
theorem dX0_raw_86 : decode cX0_raw 86 = .ok (.getfield 18, 3) := dk_180 0 18 (dk_at dksX0_raw_3 14 rfl rfl)
theorem dX0_raw_89 : decode cX0_raw 89 = .ok (.aload_n 0, 1) := dk_42 (dk_at dksX0_raw_3 17 rfl rfl)
theorem dX0_raw_90 : decode cX0_raw 90 = .ok (.getfield 51, 3) := dk_180 0 51 (dk_at dksX0_raw_3 18 rfl rfl)
theorem dX0_raw_93 : decode cX0_raw 93 = .ok (.aaload, 1) := dk_50 (dk_at dksX0_raw_3 21 rfl rfl)
theorem dX0_raw_94 : decode cX0_raw 94 = .ok (.aload_n 3, 1) := dk_45 (dk_at dksX0_raw_3 22 rfl rfl)
theorem dX0_raw_95 : decode cX0_raw 95 = .ok (.putfield 101, 3) := dk_181 0 101 (dk_at dksX0_raw_4 0 rfl rfl)
theorem dX0_raw_98 : decode cX0_raw 98 = .ok (.aload_n 0, 1) := dk_42 (dk_at dksX0_raw_4 3 rfl rfl)
theorem dX0_raw_99 : decode cX0_raw 99 = .ok (.aload_n 0, 1) := dk_42 (dk_at dksX0_raw_4 4 rfl rfl)
theorem dX0_raw_100 : decode cX0_raw 100 = .ok (.dup, 1) := dk_89 (dk_at dksX0_raw_4 5 rfl rfl)
theorem dX0_raw_101 : decode cX0_raw 101 = .ok (.getfield 51, 3) := dk_180 0 51 (dk_at dksX0_raw_4 6 rfl rfl)
theorem dX0_raw_104 : decode cX0_raw 104 = .ok (.dup_x1, 1) := dk_90 (dk_at dksX0_raw_4 9 rfl rfl)
theorem dX0_raw_105 : decode cX0_raw 105 = .ok (.iconst 1, 1) := dk_4 (dk_at dksX0_raw_4 10 rfl rfl)
theorem dX0_raw_106 : decode cX0_raw 106 = .ok (.iadd, 1) := dk_96 (dk_at dksX0_raw_4 11 rfl rfl)
theorem dX0_raw_107 : decode cX0_raw 107 = .ok (.putfield 51, 3) := dk_181 0 51 (dk_at dksX0_raw_4 12 rfl rfl)
theorem dX0_raw_110 : decode cX0_raw 110 = .ok (.invokevirtual 114, 3) := dk_182 0 114 (dk_at dksX0_raw_4 15 rfl rfl)
theorem dX0_raw_113 : decode cX0_raw 113 = .ok (.ireturn, 1) := dk_172 (dk_at dksX0_raw_4 18 rfl rfl)
theorem dX0_raw_114 : decode cX0_raw 114 = .ok (.astore_n 3, 1) := dk_78 (dk_at dksX0_raw_4 19 rfl rfl)
theorem dX0_raw_115 : decode cX0_raw 115 = .ok (.aload_n 0, 1) := dk_42 (dk_at dksX0_raw_4 20 rfl rfl)
theorem dX0_raw_116 : decode cX0_raw 116 = .ok (.iconst 4, 1) := dk_7 (dk_at dksX0_raw_4 21 rfl rfl)
theorem dX0_raw_117 : decode cX0_raw 117 = .ok (.invokevirtual 47, 3) := dk_182 0 47 (dk_at dksX0_raw_5 0 rfl rfl)
theorem dX0_raw_120 : decode cX0_raw 120 = .ok (.ireturn, 1) := dk_172 (dk_at dksX0_raw_5 3 rfl rfl)
abbrev cX0_see : ByteArray := prog_1_method_21_code
def yX0_see : MethodName := ⟨RX0, "see", "(I)I"⟩
def dkwX0_see_4 : List UInt8 := [180, 0, 10, 44, 182, 0, 137, 62, 42, 180, 0, 10, 3, 181, 0, 108, 29, 172]
abbrev dktX0_see_4 : List UInt8 := dkwX0_see_4 ++ []
def dkwX0_see_3 : List UInt8 := [182, 0, 47, 172, 42, 180, 0, 51, 16, 24, 160, 0, 10, 42, 16, 8, 182, 0, 47, 172, 42, 42]
abbrev dktX0_see_3 : List UInt8 := dkwX0_see_3 ++ dktX0_see_4
def dkwX0_see_2 : List UInt8 := [42, 16, 9, 182, 0, 47, 172, 42, 180, 0, 10, 182, 0, 120, 44, 184, 0, 147, 159, 0, 10, 42, 16, 10]
abbrev dktX0_see_2 : List UInt8 := dkwX0_see_2 ++ dktX0_see_3
def dkwX0_see_1 : List UInt8 := [77, 44, 193, 0, 58, 153, 0, 9, 42, 5, 182, 0, 47, 172, 42, 180, 0, 10, 180, 0, 108, 154, 0, 10]
abbrev dktX0_see_1 : List UInt8 := dkwX0_see_1 ++ dktX0_see_2
def dkwX0_see_0 : List UInt8 := [42, 27, 182, 0, 143, 154, 0, 10, 42, 16, 7, 182, 0, 47, 172, 42, 180, 0, 18, 27, 50, 180, 0, 101]
abbrev dktX0_see_0 : List UInt8 := dkwX0_see_0 ++ dktX0_see_1
theorem dksX0_see_0 : cX0_see.data.toList.drop 0 = dktX0_see_0 := by decide +kernel
theorem dksX0_see_1 : cX0_see.data.toList.drop 24 = dktX0_see_1 := dk_seg dksX0_see_0 24 rfl rfl
theorem dksX0_see_2 : cX0_see.data.toList.drop 48 = dktX0_see_2 := dk_seg dksX0_see_1 24 rfl rfl
theorem dksX0_see_3 : cX0_see.data.toList.drop 72 = dktX0_see_3 := dk_seg dksX0_see_2 24 rfl rfl
theorem dksX0_see_4 : cX0_see.data.toList.drop 94 = dktX0_see_4 := dk_seg dksX0_see_3 22 rfl rfl
theorem dX0_see_0 : decode cX0_see 0 = .ok (.aload_n 0, 1) := dk_42 (dk_at dksX0_see_0 0 rfl rfl)
theorem dX0_see_1 : decode cX0_see 1 = .ok (.iload_n 1, 1) := dk_27 (dk_at dksX0_see_0 1 rfl rfl)
theorem dX0_see_2 : decode cX0_see 2 = .ok (.invokevirtual 143, 3) := dk_182 0 143 (dk_at dksX0_see_0 2 rfl rfl)
theorem dX0_see_5 : decode cX0_see 5 = .ok (.ifCond .ne 10, 3) := dk_154 0 10 (dk_at dksX0_see_0 5 rfl rfl)
theorem dX0_see_8 : decode cX0_see 8 = .ok (.aload_n 0, 1) := dk_42 (dk_at dksX0_see_0 8 rfl rfl)
theorem dX0_see_9 : decode cX0_see 9 = .ok (.bipush 7, 2) := dk_16 7 (dk_at dksX0_see_0 9 rfl rfl)
theorem dX0_see_11 : decode cX0_see 11 = .ok (.invokevirtual 47, 3) := dk_182 0 47 (dk_at dksX0_see_0 11 rfl rfl)
theorem dX0_see_14 : decode cX0_see 14 = .ok (.ireturn, 1) := dk_172 (dk_at dksX0_see_0 14 rfl rfl)
theorem dX0_see_15 : decode cX0_see 15 = .ok (.aload_n 0, 1) := dk_42 (dk_at dksX0_see_0 15 rfl rfl)
theorem dX0_see_16 : decode cX0_see 16 = .ok (.getfield 18, 3) := dk_180 0 18 (dk_at dksX0_see_0 16 rfl rfl)
theorem dX0_see_19 : decode cX0_see 19 = .ok (.iload_n 1, 1) := dk_27 (dk_at dksX0_see_0 19 rfl rfl)
theorem dX0_see_20 : decode cX0_see 20 = .ok (.aaload, 1) := dk_50 (dk_at dksX0_see_0 20 rfl rfl)
theorem dX0_see_21 : decode cX0_see 21 = .ok (.getfield 101, 3) := dk_180 0 101 (dk_at dksX0_see_0 21 rfl rfl)
theorem dX0_see_24 : decode cX0_see 24 = .ok (.astore_n 2, 1) := dk_77 (dk_at dksX0_see_1 0 rfl rfl)
theorem dX0_see_25 : decode cX0_see 25 = .ok (.aload_n 2, 1) := dk_44 (dk_at dksX0_see_1 1 rfl rfl)
theorem dX0_see_26 : decode cX0_see 26 = .ok (.instanceof 58, 3) := dk_193 0 58 (dk_at dksX0_see_1 2 rfl rfl)
theorem dX0_see_29 : decode cX0_see 29 = .ok (.ifCond .eq 9, 3) := dk_153 0 9 (dk_at dksX0_see_1 5 rfl rfl)
theorem dX0_see_32 : decode cX0_see 32 = .ok (.aload_n 0, 1) := dk_42 (dk_at dksX0_see_1 8 rfl rfl)
theorem dX0_see_33 : decode cX0_see 33 = .ok (.iconst 2, 1) := dk_5 (dk_at dksX0_see_1 9 rfl rfl)
theorem dX0_see_34 : decode cX0_see 34 = .ok (.invokevirtual 47, 3) := dk_182 0 47 (dk_at dksX0_see_1 10 rfl rfl)
theorem dX0_see_37 : decode cX0_see 37 = .ok (.ireturn, 1) := dk_172 (dk_at dksX0_see_1 13 rfl rfl)
theorem dX0_see_38 : decode cX0_see 38 = .ok (.aload_n 0, 1) := dk_42 (dk_at dksX0_see_1 14 rfl rfl)
theorem dX0_see_39 : decode cX0_see 39 = .ok (.getfield 10, 3) := dk_180 0 10 (dk_at dksX0_see_1 15 rfl rfl)
theorem dX0_see_42 : decode cX0_see 42 = .ok (.getfield 108, 3) := dk_180 0 108 (dk_at dksX0_see_1 18 rfl rfl)
theorem dX0_see_45 : decode cX0_see 45 = .ok (.ifCond .ne 10, 3) := dk_154 0 10 (dk_at dksX0_see_1 21 rfl rfl)
theorem dX0_see_48 : decode cX0_see 48 = .ok (.aload_n 0, 1) := dk_42 (dk_at dksX0_see_2 0 rfl rfl)
theorem dX0_see_49 : decode cX0_see 49 = .ok (.bipush 9, 2) := dk_16 9 (dk_at dksX0_see_2 1 rfl rfl)
theorem dX0_see_51 : decode cX0_see 51 = .ok (.invokevirtual 47, 3) := dk_182 0 47 (dk_at dksX0_see_2 3 rfl rfl)
theorem dX0_see_54 : decode cX0_see 54 = .ok (.ireturn, 1) := dk_172 (dk_at dksX0_see_2 6 rfl rfl)
theorem dX0_see_55 : decode cX0_see 55 = .ok (.aload_n 0, 1) := dk_42 (dk_at dksX0_see_2 7 rfl rfl)
theorem dX0_see_56 : decode cX0_see 56 = .ok (.getfield 10, 3) := dk_180 0 10 (dk_at dksX0_see_2 8 rfl rfl)
theorem dX0_see_59 : decode cX0_see 59 = .ok (.invokevirtual 120, 3) := dk_182 0 120 (dk_at dksX0_see_2 11 rfl rfl)
theorem dX0_see_62 : decode cX0_see 62 = .ok (.aload_n 2, 1) := dk_44 (dk_at dksX0_see_2 14 rfl rfl)
theorem dX0_see_63 : decode cX0_see 63 = .ok (.invokestatic 147, 3) := dk_184 0 147 (dk_at dksX0_see_2 15 rfl rfl)
theorem dX0_see_66 : decode cX0_see 66 = .ok (.if_icmp .eq 10, 3) := dk_159 0 10 (dk_at dksX0_see_2 18 rfl rfl)
theorem dX0_see_69 : decode cX0_see 69 = .ok (.aload_n 0, 1) := dk_42 (dk_at dksX0_see_2 21 rfl rfl)
theorem dX0_see_70 : decode cX0_see 70 = .ok (.bipush 10, 2) := dk_16 10 (dk_at dksX0_see_2 22 rfl rfl)
theorem dX0_see_72 : decode cX0_see 72 = .ok (.invokevirtual 47, 3) := dk_182 0 47 (dk_at dksX0_see_3 0 rfl rfl)
theorem dX0_see_75 : decode cX0_see 75 = .ok (.ireturn, 1) := dk_172 (dk_at dksX0_see_3 3 rfl rfl)
theorem dX0_see_76 : decode cX0_see 76 = .ok (.aload_n 0, 1) := dk_42 (dk_at dksX0_see_3 4 rfl rfl)
theorem dX0_see_77 : decode cX0_see 77 = .ok (.getfield 51, 3) := dk_180 0 51 (dk_at dksX0_see_3 5 rfl rfl)
theorem dX0_see_80 : decode cX0_see 80 = .ok (.bipush 24, 2) := dk_16 24 (dk_at dksX0_see_3 8 rfl rfl)
theorem dX0_see_82 : decode cX0_see 82 = .ok (.if_icmp .ne 10, 3) := dk_160 0 10 (dk_at dksX0_see_3 10 rfl rfl)
theorem dX0_see_85 : decode cX0_see 85 = .ok (.aload_n 0, 1) := dk_42 (dk_at dksX0_see_3 13 rfl rfl)
theorem dX0_see_86 : decode cX0_see 86 = .ok (.bipush 8, 2) := dk_16 8 (dk_at dksX0_see_3 14 rfl rfl)
theorem dX0_see_88 : decode cX0_see 88 = .ok (.invokevirtual 47, 3) := dk_182 0 47 (dk_at dksX0_see_3 16 rfl rfl)
theorem dX0_see_91 : decode cX0_see 91 = .ok (.ireturn, 1) := dk_172 (dk_at dksX0_see_3 19 rfl rfl)
theorem dX0_see_92 : decode cX0_see 92 = .ok (.aload_n 0, 1) := dk_42 (dk_at dksX0_see_3 20 rfl rfl)
theorem dX0_see_93 : decode cX0_see 93 = .ok (.aload_n 0, 1) := dk_42 (dk_at dksX0_see_3 21 rfl rfl)
theorem dX0_see_94 : decode cX0_see 94 = .ok (.getfield 10, 3) := dk_180 0 10 (dk_at dksX0_see_4 0 rfl rfl)
theorem dX0_see_97 : decode cX0_see 97 = .ok (.aload_n 2, 1) := dk_44 (dk_at dksX0_see_4 3 rfl rfl)
theorem dX0_see_98 : decode cX0_see 98 = .ok (.invokevirtual 137, 3) := dk_182 0 137 (dk_at dksX0_see_4 4 rfl rfl)
theorem dX0_see_101 : decode cX0_see 101 = .ok (.istore_n 3, 1) := dk_62 (dk_at dksX0_see_4 7 rfl rfl)
theorem dX0_see_102 : decode cX0_see 102 = .ok (.aload_n 0, 1) := dk_42 (dk_at dksX0_see_4 8 rfl rfl)
theorem dX0_see_103 : decode cX0_see 103 = .ok (.getfield 10, 3) := dk_180 0 10 (dk_at dksX0_see_4 9 rfl rfl)
theorem dX0_see_106 : decode cX0_see 106 = .ok (.iconst 0, 1) := dk_3 (dk_at dksX0_see_4 12 rfl rfl)
theorem dX0_see_107 : decode cX0_see 107 = .ok (.putfield 108, 3) := dk_181 0 108 (dk_at dksX0_see_4 13 rfl rfl)
theorem dX0_see_110 : decode cX0_see 110 = .ok (.iload_n 3, 1) := dk_29 (dk_at dksX0_see_4 16 rfl rfl)
theorem dX0_see_111 : decode cX0_see 111 = .ok (.ireturn, 1) := dk_172 (dk_at dksX0_see_4 17 rfl rfl)
abbrev cX0_isArray : ByteArray := prog_1_method_5_code
def yX0_isArray : MethodName := ⟨RX0, "isArray", "(I)Z"⟩
def dkwX0_isArray_0 : List UInt8 := [27, 155, 0, 15, 27, 42, 180, 0, 51, 162, 0, 7, 4, 167, 0, 4, 3, 172]
abbrev dktX0_isArray_0 : List UInt8 := dkwX0_isArray_0 ++ []
theorem dksX0_isArray_0 : cX0_isArray.data.toList.drop 0 = dktX0_isArray_0 := by decide +kernel
theorem dX0_isArray_0 : decode cX0_isArray 0 = .ok (.iload_n 1, 1) := dk_27 (dk_at dksX0_isArray_0 0 rfl rfl)
theorem dX0_isArray_1 : decode cX0_isArray 1 = .ok (.ifCond .lt 15, 3) := dk_155 0 15 (dk_at dksX0_isArray_0 1 rfl rfl)
theorem dX0_isArray_4 : decode cX0_isArray 4 = .ok (.iload_n 1, 1) := dk_27 (dk_at dksX0_isArray_0 4 rfl rfl)
theorem dX0_isArray_5 : decode cX0_isArray 5 = .ok (.aload_n 0, 1) := dk_42 (dk_at dksX0_isArray_0 5 rfl rfl)
theorem dX0_isArray_6 : decode cX0_isArray 6 = .ok (.getfield 51, 3) := dk_180 0 51 (dk_at dksX0_isArray_0 6 rfl rfl)
theorem dX0_isArray_9 : decode cX0_isArray 9 = .ok (.if_icmp .ge 7, 3) := dk_162 0 7 (dk_at dksX0_isArray_0 9 rfl rfl)
theorem dX0_isArray_12 : decode cX0_isArray 12 = .ok (.iconst 1, 1) := dk_4 (dk_at dksX0_isArray_0 12 rfl rfl)
theorem dX0_isArray_13 : decode cX0_isArray 13 = .ok (.goto 4, 3) := dk_167 0 4 (dk_at dksX0_isArray_0 13 rfl rfl)
theorem dX0_isArray_16 : decode cX0_isArray 16 = .ok (.iconst 0, 1) := dk_3 (dk_at dksX0_isArray_0 16 rfl rfl)
theorem dX0_isArray_17 : decode cX0_isArray 17 = .ok (.ireturn, 1) := dk_172 (dk_at dksX0_isArray_0 17 rfl rfl)
abbrev cX0_sizeOf : ByteArray := prog_1_method_8_code
def yX0_sizeOf : MethodName := ⟨RX0, "sizeOf", "(Ljava/lang/Object;)I"⟩
def dkwX0_sizeOf_3 : List UInt8 := [42, 192, 0, 66, 190, 172]
abbrev dktX0_sizeOf_3 : List UInt8 := dkwX0_sizeOf_3 ++ []
def dkwX0_sizeOf_2 : List UInt8 := [42, 192, 0, 54, 190, 172, 42, 192, 0, 56, 190, 172, 42, 192, 0, 57, 190, 172, 42, 192, 0, 58, 190, 172]
abbrev dktX0_sizeOf_2 : List UInt8 := dkwX0_sizeOf_2 ++ dktX0_sizeOf_3
def dkwX0_sizeOf_1 : List UInt8 := [170, 0, 0, 0, 0, 0, 0, 60, 0, 0, 0, 0, 0, 0, 0, 4, 0, 0, 0, 36, 0, 0, 0, 42, 0, 0, 0, 48, 0, 0, 0, 60, 0, 0, 0, 54]
abbrev dktX0_sizeOf_1 : List UInt8 := dkwX0_sizeOf_1 ++ dktX0_sizeOf_2
def dkwX0_sizeOf_0 : List UInt8 := [42, 184, 0, 62]
abbrev dktX0_sizeOf_0 : List UInt8 := dkwX0_sizeOf_0 ++ dktX0_sizeOf_1
theorem dksX0_sizeOf_0 : cX0_sizeOf.data.toList.drop 0 = dktX0_sizeOf_0 := by decide +kernel
theorem dksX0_sizeOf_1 : cX0_sizeOf.data.toList.drop 4 = dktX0_sizeOf_1 := dk_seg dksX0_sizeOf_0 4 rfl rfl
theorem dksX0_sizeOf_2 : cX0_sizeOf.data.toList.drop 40 = dktX0_sizeOf_2 := dk_seg dksX0_sizeOf_1 36 rfl rfl
theorem dksX0_sizeOf_3 : cX0_sizeOf.data.toList.drop 64 = dktX0_sizeOf_3 := dk_seg dksX0_sizeOf_2 24 rfl rfl
theorem dX0_sizeOf_0 : decode cX0_sizeOf 0 = .ok (.aload_n 0, 1) := dk_42 (dk_at dksX0_sizeOf_0 0 rfl rfl)
theorem dX0_sizeOf_1 : decode cX0_sizeOf 1 = .ok (.invokestatic 62, 3) := dk_184 0 62 (dk_at dksX0_sizeOf_0 1 rfl rfl)
theorem dX0_sizeOf_4 : decode cX0_sizeOf 4 = .ok (.tableswitch 60 0 4 #[36, 42, 48, 60, 54], 36) := by decide +kernel
theorem dX0_sizeOf_40 : decode cX0_sizeOf 40 = .ok (.aload_n 0, 1) := dk_42 (dk_at dksX0_sizeOf_2 0 rfl rfl)
theorem dX0_sizeOf_41 : decode cX0_sizeOf 41 = .ok (.checkcast 54, 3) := dk_192 0 54 (dk_at dksX0_sizeOf_2 1 rfl rfl)
theorem dX0_sizeOf_44 : decode cX0_sizeOf 44 = .ok (.arraylength, 1) := dk_190 (dk_at dksX0_sizeOf_2 4 rfl rfl)
theorem dX0_sizeOf_45 : decode cX0_sizeOf 45 = .ok (.ireturn, 1) := dk_172 (dk_at dksX0_sizeOf_2 5 rfl rfl)
theorem dX0_sizeOf_46 : decode cX0_sizeOf 46 = .ok (.aload_n 0, 1) := dk_42 (dk_at dksX0_sizeOf_2 6 rfl rfl)
theorem dX0_sizeOf_47 : decode cX0_sizeOf 47 = .ok (.checkcast 56, 3) := dk_192 0 56 (dk_at dksX0_sizeOf_2 7 rfl rfl)
theorem dX0_sizeOf_50 : decode cX0_sizeOf 50 = .ok (.arraylength, 1) := dk_190 (dk_at dksX0_sizeOf_2 10 rfl rfl)
theorem dX0_sizeOf_51 : decode cX0_sizeOf 51 = .ok (.ireturn, 1) := dk_172 (dk_at dksX0_sizeOf_2 11 rfl rfl)
theorem dX0_sizeOf_52 : decode cX0_sizeOf 52 = .ok (.aload_n 0, 1) := dk_42 (dk_at dksX0_sizeOf_2 12 rfl rfl)
theorem dX0_sizeOf_53 : decode cX0_sizeOf 53 = .ok (.checkcast 57, 3) := dk_192 0 57 (dk_at dksX0_sizeOf_2 13 rfl rfl)
theorem dX0_sizeOf_56 : decode cX0_sizeOf 56 = .ok (.arraylength, 1) := dk_190 (dk_at dksX0_sizeOf_2 16 rfl rfl)
theorem dX0_sizeOf_57 : decode cX0_sizeOf 57 = .ok (.ireturn, 1) := dk_172 (dk_at dksX0_sizeOf_2 17 rfl rfl)
theorem dX0_sizeOf_58 : decode cX0_sizeOf 58 = .ok (.aload_n 0, 1) := dk_42 (dk_at dksX0_sizeOf_2 18 rfl rfl)
theorem dX0_sizeOf_59 : decode cX0_sizeOf 59 = .ok (.checkcast 58, 3) := dk_192 0 58 (dk_at dksX0_sizeOf_2 19 rfl rfl)
theorem dX0_sizeOf_62 : decode cX0_sizeOf 62 = .ok (.arraylength, 1) := dk_190 (dk_at dksX0_sizeOf_2 22 rfl rfl)
theorem dX0_sizeOf_63 : decode cX0_sizeOf 63 = .ok (.ireturn, 1) := dk_172 (dk_at dksX0_sizeOf_2 23 rfl rfl)
theorem dX0_sizeOf_64 : decode cX0_sizeOf 64 = .ok (.aload_n 0, 1) := dk_42 (dk_at dksX0_sizeOf_3 0 rfl rfl)
theorem dX0_sizeOf_65 : decode cX0_sizeOf 65 = .ok (.checkcast 66, 3) := dk_192 0 66 (dk_at dksX0_sizeOf_3 1 rfl rfl)
theorem dX0_sizeOf_68 : decode cX0_sizeOf 68 = .ok (.arraylength, 1) := dk_190 (dk_at dksX0_sizeOf_3 4 rfl rfl)
theorem dX0_sizeOf_69 : decode cX0_sizeOf 69 = .ok (.ireturn, 1) := dk_172 (dk_at dksX0_sizeOf_3 5 rfl rfl)
abbrev cX0_kindOf : ByteArray := prog_1_method_6_code
def yX0_kindOf : MethodName := ⟨RX0, "kindOf", "(Ljava/lang/Object;)I"⟩
def dkwX0_kindOf_1 : List UInt8 := [193, 0, 57, 153, 0, 7, 5, 167, 0, 15, 42, 193, 0, 58, 153, 0, 7, 7, 167, 0, 4, 6, 172]
abbrev dktX0_kindOf_1 : List UInt8 := dkwX0_kindOf_1 ++ []
def dkwX0_kindOf_0 : List UInt8 := [42, 193, 0, 54, 153, 0, 7, 3, 167, 0, 37, 42, 193, 0, 56, 153, 0, 7, 4, 167, 0, 26, 42]
abbrev dktX0_kindOf_0 : List UInt8 := dkwX0_kindOf_0 ++ dktX0_kindOf_1
theorem dksX0_kindOf_0 : cX0_kindOf.data.toList.drop 0 = dktX0_kindOf_0 := by decide +kernel
theorem dksX0_kindOf_1 : cX0_kindOf.data.toList.drop 23 = dktX0_kindOf_1 := dk_seg dksX0_kindOf_0 23 rfl rfl
theorem dX0_kindOf_0 : decode cX0_kindOf 0 = .ok (.aload_n 0, 1) := dk_42 (dk_at dksX0_kindOf_0 0 rfl rfl)
theorem dX0_kindOf_1 : decode cX0_kindOf 1 = .ok (.instanceof 54, 3) := dk_193 0 54 (dk_at dksX0_kindOf_0 1 rfl rfl)
theorem dX0_kindOf_4 : decode cX0_kindOf 4 = .ok (.ifCond .eq 7, 3) := dk_153 0 7 (dk_at dksX0_kindOf_0 4 rfl rfl)
theorem dX0_kindOf_7 : decode cX0_kindOf 7 = .ok (.iconst 0, 1) := dk_3 (dk_at dksX0_kindOf_0 7 rfl rfl)
theorem dX0_kindOf_8 : decode cX0_kindOf 8 = .ok (.goto 37, 3) := dk_167 0 37 (dk_at dksX0_kindOf_0 8 rfl rfl)
theorem dX0_kindOf_11 : decode cX0_kindOf 11 = .ok (.aload_n 0, 1) := dk_42 (dk_at dksX0_kindOf_0 11 rfl rfl)
theorem dX0_kindOf_12 : decode cX0_kindOf 12 = .ok (.instanceof 56, 3) := dk_193 0 56 (dk_at dksX0_kindOf_0 12 rfl rfl)
theorem dX0_kindOf_15 : decode cX0_kindOf 15 = .ok (.ifCond .eq 7, 3) := dk_153 0 7 (dk_at dksX0_kindOf_0 15 rfl rfl)
theorem dX0_kindOf_18 : decode cX0_kindOf 18 = .ok (.iconst 1, 1) := dk_4 (dk_at dksX0_kindOf_0 18 rfl rfl)
theorem dX0_kindOf_19 : decode cX0_kindOf 19 = .ok (.goto 26, 3) := dk_167 0 26 (dk_at dksX0_kindOf_0 19 rfl rfl)
theorem dX0_kindOf_22 : decode cX0_kindOf 22 = .ok (.aload_n 0, 1) := dk_42 (dk_at dksX0_kindOf_0 22 rfl rfl)
theorem dX0_kindOf_23 : decode cX0_kindOf 23 = .ok (.instanceof 57, 3) := dk_193 0 57 (dk_at dksX0_kindOf_1 0 rfl rfl)
theorem dX0_kindOf_26 : decode cX0_kindOf 26 = .ok (.ifCond .eq 7, 3) := dk_153 0 7 (dk_at dksX0_kindOf_1 3 rfl rfl)
theorem dX0_kindOf_29 : decode cX0_kindOf 29 = .ok (.iconst 2, 1) := dk_5 (dk_at dksX0_kindOf_1 6 rfl rfl)
theorem dX0_kindOf_30 : decode cX0_kindOf 30 = .ok (.goto 15, 3) := dk_167 0 15 (dk_at dksX0_kindOf_1 7 rfl rfl)
theorem dX0_kindOf_33 : decode cX0_kindOf 33 = .ok (.aload_n 0, 1) := dk_42 (dk_at dksX0_kindOf_1 10 rfl rfl)
theorem dX0_kindOf_34 : decode cX0_kindOf 34 = .ok (.instanceof 58, 3) := dk_193 0 58 (dk_at dksX0_kindOf_1 11 rfl rfl)
theorem dX0_kindOf_37 : decode cX0_kindOf 37 = .ok (.ifCond .eq 7, 3) := dk_153 0 7 (dk_at dksX0_kindOf_1 14 rfl rfl)
theorem dX0_kindOf_40 : decode cX0_kindOf 40 = .ok (.iconst 4, 1) := dk_7 (dk_at dksX0_kindOf_1 17 rfl rfl)
theorem dX0_kindOf_41 : decode cX0_kindOf 41 = .ok (.goto 4, 3) := dk_167 0 4 (dk_at dksX0_kindOf_1 18 rfl rfl)
theorem dX0_kindOf_44 : decode cX0_kindOf 44 = .ok (.iconst 3, 1) := dk_6 (dk_at dksX0_kindOf_1 21 rfl rfl)
theorem dX0_kindOf_45 : decode cX0_kindOf 45 = .ok (.ireturn, 1) := dk_172 (dk_at dksX0_kindOf_1 22 rfl rfl)
abbrev cX0_turn : ByteArray := prog_1_method_23_code
def yX0_turn : MethodName := ⟨RX0, "turn", "(I)I"⟩
def dkwX0_turn_11 : List UInt8 := [182, 0, 137, 172]
abbrev dktX0_turn_11 : List UInt8 := dkwX0_turn_11 ++ []
def dkwX0_turn_10 : List UInt8 := [184, 0, 164, 45, 42, 180, 0, 34, 182, 0, 168, 132, 6, 1, 167, 255, 183, 42, 42, 180, 0, 40, 25, 5]
abbrev dktX0_turn_10 : List UInt8 := dkwX0_turn_10 ++ dktX0_turn_11
def dkwX0_turn_9 : List UInt8 := [180, 0, 34, 5, 46, 79, 44, 21, 6, 25, 5, 42, 180, 0, 40, 42, 180, 0, 37, 182, 0, 160]
abbrev dktX0_turn_9 : List UInt8 := dkwX0_turn_9 ++ dktX0_turn_10
def dkwX0_turn_8 : List UInt8 := [180, 0, 34, 4, 46, 79, 42, 180, 0, 37, 4, 42, 180, 0, 34, 3, 46, 79, 42, 180, 0, 37, 5, 42]
abbrev dktX0_turn_8 : List UInt8 := dkwX0_turn_8 ++ dktX0_turn_9
def dkwX0_turn_7 : List UInt8 := [42, 180, 0, 34, 182, 0, 156, 3, 54, 6, 21, 6, 21, 4, 162, 0, 72, 42, 180, 0, 37, 3, 42]
abbrev dktX0_turn_7 : List UInt8 := dkwX0_turn_7 ++ dktX0_turn_8
def dkwX0_turn_6 : List UInt8 := [180, 0, 111, 3, 46, 79, 44, 184, 0, 147, 54, 4, 44, 184, 0, 62, 21, 4, 184, 0, 134, 58, 5, 45]
abbrev dktX0_turn_6 : List UInt8 := dkwX0_turn_6 ++ dktX0_turn_7
def dkwX0_turn_5 : List UInt8 := [180, 0, 40, 180, 0, 105, 4, 45, 180, 0, 105, 3, 46, 79, 42, 180, 0, 40, 180, 0, 111, 4, 45]
abbrev dktX0_turn_5 : List UInt8 := dkwX0_turn_5 ++ dktX0_turn_6
def dkwX0_turn_4 : List UInt8 := [180, 0, 105, 4, 46, 79, 42, 180, 0, 40, 180, 0, 111, 3, 45, 180, 0, 111, 4, 46, 79, 42]
abbrev dktX0_turn_4 : List UInt8 := dkwX0_turn_4 ++ dktX0_turn_5
def dkwX0_turn_3 : List UInt8 := [42, 16, 8, 182, 0, 47, 172, 42, 180, 0, 40, 45, 182, 0, 97, 42, 180, 0, 40, 180, 0, 105, 3, 45]
abbrev dktX0_turn_3 : List UInt8 := dkwX0_turn_3 ++ dktX0_turn_4
def dkwX0_turn_2 : List UInt8 := [45, 180, 0, 108, 4, 160, 0, 10, 42, 16, 9, 182, 0, 47, 172, 42, 180, 0, 51, 16, 24, 160, 0, 10]
abbrev dktX0_turn_2 : List UInt8 := dkwX0_turn_2 ++ dktX0_turn_3
def dkwX0_turn_1 : List UInt8 := [77, 42, 180, 0, 18, 27, 50, 180, 0, 96, 78, 44, 193, 0, 58, 153, 0, 9, 42, 5, 182, 0, 47, 172]
abbrev dktX0_turn_1 : List UInt8 := dkwX0_turn_1 ++ dktX0_turn_2
def dkwX0_turn_0 : List UInt8 := [42, 27, 182, 0, 143, 154, 0, 10, 42, 16, 7, 182, 0, 47, 172, 42, 180, 0, 18, 27, 50, 180, 0, 101]
abbrev dktX0_turn_0 : List UInt8 := dkwX0_turn_0 ++ dktX0_turn_1
theorem dksX0_turn_0 : cX0_turn.data.toList.drop 0 = dktX0_turn_0 := by decide +kernel
theorem dksX0_turn_1 : cX0_turn.data.toList.drop 24 = dktX0_turn_1 := dk_seg dksX0_turn_0 24 rfl rfl
theorem dksX0_turn_2 : cX0_turn.data.toList.drop 48 = dktX0_turn_2 := dk_seg dksX0_turn_1 24 rfl rfl
theorem dksX0_turn_3 : cX0_turn.data.toList.drop 72 = dktX0_turn_3 := dk_seg dksX0_turn_2 24 rfl rfl
theorem dksX0_turn_4 : cX0_turn.data.toList.drop 96 = dktX0_turn_4 := dk_seg dksX0_turn_3 24 rfl rfl
theorem dksX0_turn_5 : cX0_turn.data.toList.drop 118 = dktX0_turn_5 := dk_seg dksX0_turn_4 22 rfl rfl
theorem dksX0_turn_6 : cX0_turn.data.toList.drop 141 = dktX0_turn_6 := dk_seg dksX0_turn_5 23 rfl rfl
theorem dksX0_turn_7 : cX0_turn.data.toList.drop 165 = dktX0_turn_7 := dk_seg dksX0_turn_6 24 rfl rfl
theorem dksX0_turn_8 : cX0_turn.data.toList.drop 188 = dktX0_turn_8 := dk_seg dksX0_turn_7 23 rfl rfl
theorem dksX0_turn_9 : cX0_turn.data.toList.drop 212 = dktX0_turn_9 := dk_seg dksX0_turn_8 24 rfl rfl
theorem dksX0_turn_10 : cX0_turn.data.toList.drop 234 = dktX0_turn_10 := dk_seg dksX0_turn_9 22 rfl rfl
theorem dksX0_turn_11 : cX0_turn.data.toList.drop 258 = dktX0_turn_11 := dk_seg dksX0_turn_10 24 rfl rfl
theorem dX0_turn_0 : decode cX0_turn 0 = .ok (.aload_n 0, 1) := dk_42 (dk_at dksX0_turn_0 0 rfl rfl)
theorem dX0_turn_1 : decode cX0_turn 1 = .ok (.iload_n 1, 1) := dk_27 (dk_at dksX0_turn_0 1 rfl rfl)
theorem dX0_turn_2 : decode cX0_turn 2 = .ok (.invokevirtual 143, 3) := dk_182 0 143 (dk_at dksX0_turn_0 2 rfl rfl)
theorem dX0_turn_5 : decode cX0_turn 5 = .ok (.ifCond .ne 10, 3) := dk_154 0 10 (dk_at dksX0_turn_0 5 rfl rfl)
theorem dX0_turn_8 : decode cX0_turn 8 = .ok (.aload_n 0, 1) := dk_42 (dk_at dksX0_turn_0 8 rfl rfl)
theorem dX0_turn_9 : decode cX0_turn 9 = .ok (.bipush 7, 2) := dk_16 7 (dk_at dksX0_turn_0 9 rfl rfl)
theorem dX0_turn_11 : decode cX0_turn 11 = .ok (.invokevirtual 47, 3) := dk_182 0 47 (dk_at dksX0_turn_0 11 rfl rfl)
theorem dX0_turn_14 : decode cX0_turn 14 = .ok (.ireturn, 1) := dk_172 (dk_at dksX0_turn_0 14 rfl rfl)
theorem dX0_turn_15 : decode cX0_turn 15 = .ok (.aload_n 0, 1) := dk_42 (dk_at dksX0_turn_0 15 rfl rfl)
theorem dX0_turn_16 : decode cX0_turn 16 = .ok (.getfield 18, 3) := dk_180 0 18 (dk_at dksX0_turn_0 16 rfl rfl)
theorem dX0_turn_19 : decode cX0_turn 19 = .ok (.iload_n 1, 1) := dk_27 (dk_at dksX0_turn_0 19 rfl rfl)
theorem dX0_turn_20 : decode cX0_turn 20 = .ok (.aaload, 1) := dk_50 (dk_at dksX0_turn_0 20 rfl rfl)
theorem dX0_turn_21 : decode cX0_turn 21 = .ok (.getfield 101, 3) := dk_180 0 101 (dk_at dksX0_turn_0 21 rfl rfl)
theorem dX0_turn_24 : decode cX0_turn 24 = .ok (.astore_n 2, 1) := dk_77 (dk_at dksX0_turn_1 0 rfl rfl)
theorem dX0_turn_25 : decode cX0_turn 25 = .ok (.aload_n 0, 1) := dk_42 (dk_at dksX0_turn_1 1 rfl rfl)
theorem dX0_turn_26 : decode cX0_turn 26 = .ok (.getfield 18, 3) := dk_180 0 18 (dk_at dksX0_turn_1 2 rfl rfl)
theorem dX0_turn_29 : decode cX0_turn 29 = .ok (.iload_n 1, 1) := dk_27 (dk_at dksX0_turn_1 5 rfl rfl)
theorem dX0_turn_30 : decode cX0_turn 30 = .ok (.aaload, 1) := dk_50 (dk_at dksX0_turn_1 6 rfl rfl)
theorem dX0_turn_31 : decode cX0_turn 31 = .ok (.getfield 96, 3) := dk_180 0 96 (dk_at dksX0_turn_1 7 rfl rfl)
theorem dX0_turn_34 : decode cX0_turn 34 = .ok (.astore_n 3, 1) := dk_78 (dk_at dksX0_turn_1 10 rfl rfl)
theorem dX0_turn_35 : decode cX0_turn 35 = .ok (.aload_n 2, 1) := dk_44 (dk_at dksX0_turn_1 11 rfl rfl)
theorem dX0_turn_36 : decode cX0_turn 36 = .ok (.instanceof 58, 3) := dk_193 0 58 (dk_at dksX0_turn_1 12 rfl rfl)
theorem dX0_turn_39 : decode cX0_turn 39 = .ok (.ifCond .eq 9, 3) := dk_153 0 9 (dk_at dksX0_turn_1 15 rfl rfl)
theorem dX0_turn_42 : decode cX0_turn 42 = .ok (.aload_n 0, 1) := dk_42 (dk_at dksX0_turn_1 18 rfl rfl)
theorem dX0_turn_43 : decode cX0_turn 43 = .ok (.iconst 2, 1) := dk_5 (dk_at dksX0_turn_1 19 rfl rfl)
theorem dX0_turn_44 : decode cX0_turn 44 = .ok (.invokevirtual 47, 3) := dk_182 0 47 (dk_at dksX0_turn_1 20 rfl rfl)
theorem dX0_turn_47 : decode cX0_turn 47 = .ok (.ireturn, 1) := dk_172 (dk_at dksX0_turn_1 23 rfl rfl)
theorem dX0_turn_48 : decode cX0_turn 48 = .ok (.aload_n 3, 1) := dk_45 (dk_at dksX0_turn_2 0 rfl rfl)
theorem dX0_turn_49 : decode cX0_turn 49 = .ok (.getfield 108, 3) := dk_180 0 108 (dk_at dksX0_turn_2 1 rfl rfl)
theorem dX0_turn_52 : decode cX0_turn 52 = .ok (.iconst 1, 1) := dk_4 (dk_at dksX0_turn_2 4 rfl rfl)
theorem dX0_turn_53 : decode cX0_turn 53 = .ok (.if_icmp .ne 10, 3) := dk_160 0 10 (dk_at dksX0_turn_2 5 rfl rfl)
theorem dX0_turn_56 : decode cX0_turn 56 = .ok (.aload_n 0, 1) := dk_42 (dk_at dksX0_turn_2 8 rfl rfl)
theorem dX0_turn_57 : decode cX0_turn 57 = .ok (.bipush 9, 2) := dk_16 9 (dk_at dksX0_turn_2 9 rfl rfl)
theorem dX0_turn_59 : decode cX0_turn 59 = .ok (.invokevirtual 47, 3) := dk_182 0 47 (dk_at dksX0_turn_2 11 rfl rfl)
theorem dX0_turn_62 : decode cX0_turn 62 = .ok (.ireturn, 1) := dk_172 (dk_at dksX0_turn_2 14 rfl rfl)
theorem dX0_turn_63 : decode cX0_turn 63 = .ok (.aload_n 0, 1) := dk_42 (dk_at dksX0_turn_2 15 rfl rfl)
theorem dX0_turn_64 : decode cX0_turn 64 = .ok (.getfield 51, 3) := dk_180 0 51 (dk_at dksX0_turn_2 16 rfl rfl)
theorem dX0_turn_67 : decode cX0_turn 67 = .ok (.bipush 24, 2) := dk_16 24 (dk_at dksX0_turn_2 19 rfl rfl)
theorem dX0_turn_69 : decode cX0_turn 69 = .ok (.if_icmp .ne 10, 3) := dk_160 0 10 (dk_at dksX0_turn_2 21 rfl rfl)
theorem dX0_turn_72 : decode cX0_turn 72 = .ok (.aload_n 0, 1) := dk_42 (dk_at dksX0_turn_3 0 rfl rfl)
theorem dX0_turn_73 : decode cX0_turn 73 = .ok (.bipush 8, 2) := dk_16 8 (dk_at dksX0_turn_3 1 rfl rfl)
theorem dX0_turn_75 : decode cX0_turn 75 = .ok (.invokevirtual 47, 3) := dk_182 0 47 (dk_at dksX0_turn_3 3 rfl rfl)
theorem dX0_turn_78 : decode cX0_turn 78 = .ok (.ireturn, 1) := dk_172 (dk_at dksX0_turn_3 6 rfl rfl)
theorem dX0_turn_79 : decode cX0_turn 79 = .ok (.aload_n 0, 1) := dk_42 (dk_at dksX0_turn_3 7 rfl rfl)
theorem dX0_turn_80 : decode cX0_turn 80 = .ok (.getfield 40, 3) := dk_180 0 40 (dk_at dksX0_turn_3 8 rfl rfl)
theorem dX0_turn_83 : decode cX0_turn 83 = .ok (.aload_n 3, 1) := dk_45 (dk_at dksX0_turn_3 11 rfl rfl)
theorem dX0_turn_84 : decode cX0_turn 84 = .ok (.invokevirtual 97, 3) := dk_182 0 97 (dk_at dksX0_turn_3 12 rfl rfl)
theorem dX0_turn_87 : decode cX0_turn 87 = .ok (.aload_n 0, 1) := dk_42 (dk_at dksX0_turn_3 15 rfl rfl)
theorem dX0_turn_88 : decode cX0_turn 88 = .ok (.getfield 40, 3) := dk_180 0 40 (dk_at dksX0_turn_3 16 rfl rfl)
theorem dX0_turn_91 : decode cX0_turn 91 = .ok (.getfield 105, 3) := dk_180 0 105 (dk_at dksX0_turn_3 19 rfl rfl)
theorem dX0_turn_94 : decode cX0_turn 94 = .ok (.iconst 0, 1) := dk_3 (dk_at dksX0_turn_3 22 rfl rfl)
theorem dX0_turn_95 : decode cX0_turn 95 = .ok (.aload_n 3, 1) := dk_45 (dk_at dksX0_turn_3 23 rfl rfl)
theorem dX0_turn_96 : decode cX0_turn 96 = .ok (.getfield 105, 3) := dk_180 0 105 (dk_at dksX0_turn_4 0 rfl rfl)
theorem dX0_turn_99 : decode cX0_turn 99 = .ok (.iconst 1, 1) := dk_4 (dk_at dksX0_turn_4 3 rfl rfl)
theorem dX0_turn_100 : decode cX0_turn 100 = .ok (.iaload, 1) := dk_46 (dk_at dksX0_turn_4 4 rfl rfl)
theorem dX0_turn_101 : decode cX0_turn 101 = .ok (.iastore, 1) := dk_79 (dk_at dksX0_turn_4 5 rfl rfl)
theorem dX0_turn_102 : decode cX0_turn 102 = .ok (.aload_n 0, 1) := dk_42 (dk_at dksX0_turn_4 6 rfl rfl)
theorem dX0_turn_103 : decode cX0_turn 103 = .ok (.getfield 40, 3) := dk_180 0 40 (dk_at dksX0_turn_4 7 rfl rfl)
theorem dX0_turn_106 : decode cX0_turn 106 = .ok (.getfield 111, 3) := dk_180 0 111 (dk_at dksX0_turn_4 10 rfl rfl)
theorem dX0_turn_109 : decode cX0_turn 109 = .ok (.iconst 0, 1) := dk_3 (dk_at dksX0_turn_4 13 rfl rfl)
theorem dX0_turn_110 : decode cX0_turn 110 = .ok (.aload_n 3, 1) := dk_45 (dk_at dksX0_turn_4 14 rfl rfl)
theorem dX0_turn_111 : decode cX0_turn 111 = .ok (.getfield 111, 3) := dk_180 0 111 (dk_at dksX0_turn_4 15 rfl rfl)
theorem dX0_turn_114 : decode cX0_turn 114 = .ok (.iconst 1, 1) := dk_4 (dk_at dksX0_turn_4 18 rfl rfl)
theorem dX0_turn_115 : decode cX0_turn 115 = .ok (.iaload, 1) := dk_46 (dk_at dksX0_turn_4 19 rfl rfl)
theorem dX0_turn_116 : decode cX0_turn 116 = .ok (.iastore, 1) := dk_79 (dk_at dksX0_turn_4 20 rfl rfl)
theorem dX0_turn_117 : decode cX0_turn 117 = .ok (.aload_n 0, 1) := dk_42 (dk_at dksX0_turn_4 21 rfl rfl)
theorem dX0_turn_118 : decode cX0_turn 118 = .ok (.getfield 40, 3) := dk_180 0 40 (dk_at dksX0_turn_5 0 rfl rfl)
theorem dX0_turn_121 : decode cX0_turn 121 = .ok (.getfield 105, 3) := dk_180 0 105 (dk_at dksX0_turn_5 3 rfl rfl)
theorem dX0_turn_124 : decode cX0_turn 124 = .ok (.iconst 1, 1) := dk_4 (dk_at dksX0_turn_5 6 rfl rfl)
theorem dX0_turn_125 : decode cX0_turn 125 = .ok (.aload_n 3, 1) := dk_45 (dk_at dksX0_turn_5 7 rfl rfl)
theorem dX0_turn_126 : decode cX0_turn 126 = .ok (.getfield 105, 3) := dk_180 0 105 (dk_at dksX0_turn_5 8 rfl rfl)
theorem dX0_turn_129 : decode cX0_turn 129 = .ok (.iconst 0, 1) := dk_3 (dk_at dksX0_turn_5 11 rfl rfl)
theorem dX0_turn_130 : decode cX0_turn 130 = .ok (.iaload, 1) := dk_46 (dk_at dksX0_turn_5 12 rfl rfl)
theorem dX0_turn_131 : decode cX0_turn 131 = .ok (.iastore, 1) := dk_79 (dk_at dksX0_turn_5 13 rfl rfl)
theorem dX0_turn_132 : decode cX0_turn 132 = .ok (.aload_n 0, 1) := dk_42 (dk_at dksX0_turn_5 14 rfl rfl)
theorem dX0_turn_133 : decode cX0_turn 133 = .ok (.getfield 40, 3) := dk_180 0 40 (dk_at dksX0_turn_5 15 rfl rfl)
theorem dX0_turn_136 : decode cX0_turn 136 = .ok (.getfield 111, 3) := dk_180 0 111 (dk_at dksX0_turn_5 18 rfl rfl)
theorem dX0_turn_139 : decode cX0_turn 139 = .ok (.iconst 1, 1) := dk_4 (dk_at dksX0_turn_5 21 rfl rfl)
theorem dX0_turn_140 : decode cX0_turn 140 = .ok (.aload_n 3, 1) := dk_45 (dk_at dksX0_turn_5 22 rfl rfl)
theorem dX0_turn_141 : decode cX0_turn 141 = .ok (.getfield 111, 3) := dk_180 0 111 (dk_at dksX0_turn_6 0 rfl rfl)
theorem dX0_turn_144 : decode cX0_turn 144 = .ok (.iconst 0, 1) := dk_3 (dk_at dksX0_turn_6 3 rfl rfl)
theorem dX0_turn_145 : decode cX0_turn 145 = .ok (.iaload, 1) := dk_46 (dk_at dksX0_turn_6 4 rfl rfl)
theorem dX0_turn_146 : decode cX0_turn 146 = .ok (.iastore, 1) := dk_79 (dk_at dksX0_turn_6 5 rfl rfl)
theorem dX0_turn_147 : decode cX0_turn 147 = .ok (.aload_n 2, 1) := dk_44 (dk_at dksX0_turn_6 6 rfl rfl)
theorem dX0_turn_148 : decode cX0_turn 148 = .ok (.invokestatic 147, 3) := dk_184 0 147 (dk_at dksX0_turn_6 7 rfl rfl)
theorem dX0_turn_151 : decode cX0_turn 151 = .ok (.istore 4, 2) := dk_54 4 (dk_at dksX0_turn_6 10 rfl rfl)
theorem dX0_turn_153 : decode cX0_turn 153 = .ok (.aload_n 2, 1) := dk_44 (dk_at dksX0_turn_6 12 rfl rfl)
theorem dX0_turn_154 : decode cX0_turn 154 = .ok (.invokestatic 62, 3) := dk_184 0 62 (dk_at dksX0_turn_6 13 rfl rfl)
theorem dX0_turn_157 : decode cX0_turn 157 = .ok (.iload 4, 2) := dk_21 4 (dk_at dksX0_turn_6 16 rfl rfl)
theorem dX0_turn_159 : decode cX0_turn 159 = .ok (.invokestatic 134, 3) := dk_184 0 134 (dk_at dksX0_turn_6 18 rfl rfl)
theorem dX0_turn_162 : decode cX0_turn 162 = .ok (.astore 5, 2) := dk_58 5 (dk_at dksX0_turn_6 21 rfl rfl)
theorem dX0_turn_164 : decode cX0_turn 164 = .ok (.aload_n 3, 1) := dk_45 (dk_at dksX0_turn_6 23 rfl rfl)
theorem dX0_turn_165 : decode cX0_turn 165 = .ok (.aload_n 0, 1) := dk_42 (dk_at dksX0_turn_7 0 rfl rfl)
theorem dX0_turn_166 : decode cX0_turn 166 = .ok (.getfield 34, 3) := dk_180 0 34 (dk_at dksX0_turn_7 1 rfl rfl)
theorem dX0_turn_169 : decode cX0_turn 169 = .ok (.invokevirtual 156, 3) := dk_182 0 156 (dk_at dksX0_turn_7 4 rfl rfl)
theorem dX0_turn_172 : decode cX0_turn 172 = .ok (.iconst 0, 1) := dk_3 (dk_at dksX0_turn_7 7 rfl rfl)
theorem dX0_turn_173 : decode cX0_turn 173 = .ok (.istore 6, 2) := dk_54 6 (dk_at dksX0_turn_7 8 rfl rfl)
theorem dX0_turn_175 : decode cX0_turn 175 = .ok (.iload 6, 2) := dk_21 6 (dk_at dksX0_turn_7 10 rfl rfl)
theorem dX0_turn_177 : decode cX0_turn 177 = .ok (.iload 4, 2) := dk_21 4 (dk_at dksX0_turn_7 12 rfl rfl)
theorem dX0_turn_179 : decode cX0_turn 179 = .ok (.if_icmp .ge 72, 3) := dk_162 0 72 (dk_at dksX0_turn_7 14 rfl rfl)
theorem dX0_turn_182 : decode cX0_turn 182 = .ok (.aload_n 0, 1) := dk_42 (dk_at dksX0_turn_7 17 rfl rfl)
theorem dX0_turn_183 : decode cX0_turn 183 = .ok (.getfield 37, 3) := dk_180 0 37 (dk_at dksX0_turn_7 18 rfl rfl)
theorem dX0_turn_186 : decode cX0_turn 186 = .ok (.iconst 0, 1) := dk_3 (dk_at dksX0_turn_7 21 rfl rfl)
theorem dX0_turn_187 : decode cX0_turn 187 = .ok (.aload_n 0, 1) := dk_42 (dk_at dksX0_turn_7 22 rfl rfl)
theorem dX0_turn_188 : decode cX0_turn 188 = .ok (.getfield 34, 3) := dk_180 0 34 (dk_at dksX0_turn_8 0 rfl rfl)
theorem dX0_turn_191 : decode cX0_turn 191 = .ok (.iconst 1, 1) := dk_4 (dk_at dksX0_turn_8 3 rfl rfl)
theorem dX0_turn_192 : decode cX0_turn 192 = .ok (.iaload, 1) := dk_46 (dk_at dksX0_turn_8 4 rfl rfl)
theorem dX0_turn_193 : decode cX0_turn 193 = .ok (.iastore, 1) := dk_79 (dk_at dksX0_turn_8 5 rfl rfl)
theorem dX0_turn_194 : decode cX0_turn 194 = .ok (.aload_n 0, 1) := dk_42 (dk_at dksX0_turn_8 6 rfl rfl)
theorem dX0_turn_195 : decode cX0_turn 195 = .ok (.getfield 37, 3) := dk_180 0 37 (dk_at dksX0_turn_8 7 rfl rfl)
theorem dX0_turn_198 : decode cX0_turn 198 = .ok (.iconst 1, 1) := dk_4 (dk_at dksX0_turn_8 10 rfl rfl)
theorem dX0_turn_199 : decode cX0_turn 199 = .ok (.aload_n 0, 1) := dk_42 (dk_at dksX0_turn_8 11 rfl rfl)
theorem dX0_turn_200 : decode cX0_turn 200 = .ok (.getfield 34, 3) := dk_180 0 34 (dk_at dksX0_turn_8 12 rfl rfl)
theorem dX0_turn_203 : decode cX0_turn 203 = .ok (.iconst 0, 1) := dk_3 (dk_at dksX0_turn_8 15 rfl rfl)
theorem dX0_turn_204 : decode cX0_turn 204 = .ok (.iaload, 1) := dk_46 (dk_at dksX0_turn_8 16 rfl rfl)
theorem dX0_turn_205 : decode cX0_turn 205 = .ok (.iastore, 1) := dk_79 (dk_at dksX0_turn_8 17 rfl rfl)
theorem dX0_turn_206 : decode cX0_turn 206 = .ok (.aload_n 0, 1) := dk_42 (dk_at dksX0_turn_8 18 rfl rfl)
theorem dX0_turn_207 : decode cX0_turn 207 = .ok (.getfield 37, 3) := dk_180 0 37 (dk_at dksX0_turn_8 19 rfl rfl)
theorem dX0_turn_210 : decode cX0_turn 210 = .ok (.iconst 2, 1) := dk_5 (dk_at dksX0_turn_8 22 rfl rfl)
theorem dX0_turn_211 : decode cX0_turn 211 = .ok (.aload_n 0, 1) := dk_42 (dk_at dksX0_turn_8 23 rfl rfl)
theorem dX0_turn_212 : decode cX0_turn 212 = .ok (.getfield 34, 3) := dk_180 0 34 (dk_at dksX0_turn_9 0 rfl rfl)
theorem dX0_turn_215 : decode cX0_turn 215 = .ok (.iconst 2, 1) := dk_5 (dk_at dksX0_turn_9 3 rfl rfl)
theorem dX0_turn_216 : decode cX0_turn 216 = .ok (.iaload, 1) := dk_46 (dk_at dksX0_turn_9 4 rfl rfl)
theorem dX0_turn_217 : decode cX0_turn 217 = .ok (.iastore, 1) := dk_79 (dk_at dksX0_turn_9 5 rfl rfl)
theorem dX0_turn_218 : decode cX0_turn 218 = .ok (.aload_n 2, 1) := dk_44 (dk_at dksX0_turn_9 6 rfl rfl)
theorem dX0_turn_219 : decode cX0_turn 219 = .ok (.iload 6, 2) := dk_21 6 (dk_at dksX0_turn_9 7 rfl rfl)
theorem dX0_turn_221 : decode cX0_turn 221 = .ok (.aload 5, 2) := dk_25 5 (dk_at dksX0_turn_9 9 rfl rfl)
theorem dX0_turn_223 : decode cX0_turn 223 = .ok (.aload_n 0, 1) := dk_42 (dk_at dksX0_turn_9 11 rfl rfl)
theorem dX0_turn_224 : decode cX0_turn 224 = .ok (.getfield 40, 3) := dk_180 0 40 (dk_at dksX0_turn_9 12 rfl rfl)
theorem dX0_turn_227 : decode cX0_turn 227 = .ok (.aload_n 0, 1) := dk_42 (dk_at dksX0_turn_9 15 rfl rfl)
theorem dX0_turn_228 : decode cX0_turn 228 = .ok (.getfield 37, 3) := dk_180 0 37 (dk_at dksX0_turn_9 16 rfl rfl)
theorem dX0_turn_231 : decode cX0_turn 231 = .ok (.invokevirtual 160, 3) := dk_182 0 160 (dk_at dksX0_turn_9 19 rfl rfl)
theorem dX0_turn_234 : decode cX0_turn 234 = .ok (.invokestatic 164, 3) := dk_184 0 164 (dk_at dksX0_turn_10 0 rfl rfl)
theorem dX0_turn_237 : decode cX0_turn 237 = .ok (.aload_n 3, 1) := dk_45 (dk_at dksX0_turn_10 3 rfl rfl)
theorem dX0_turn_238 : decode cX0_turn 238 = .ok (.aload_n 0, 1) := dk_42 (dk_at dksX0_turn_10 4 rfl rfl)
theorem dX0_turn_239 : decode cX0_turn 239 = .ok (.getfield 34, 3) := dk_180 0 34 (dk_at dksX0_turn_10 5 rfl rfl)
theorem dX0_turn_242 : decode cX0_turn 242 = .ok (.invokevirtual 168, 3) := dk_182 0 168 (dk_at dksX0_turn_10 8 rfl rfl)
theorem dX0_turn_245 : decode cX0_turn 245 = .ok (.iinc 6 1, 3) := dk_132 6 1 (dk_at dksX0_turn_10 11 rfl rfl)
theorem dX0_turn_248 : decode cX0_turn 248 = .ok (.goto (-73), 3) := dk_167 255 183 (dk_at dksX0_turn_10 14 rfl rfl)
theorem dX0_turn_251 : decode cX0_turn 251 = .ok (.aload_n 0, 1) := dk_42 (dk_at dksX0_turn_10 17 rfl rfl)
theorem dX0_turn_252 : decode cX0_turn 252 = .ok (.aload_n 0, 1) := dk_42 (dk_at dksX0_turn_10 18 rfl rfl)
theorem dX0_turn_253 : decode cX0_turn 253 = .ok (.getfield 40, 3) := dk_180 0 40 (dk_at dksX0_turn_10 19 rfl rfl)
theorem dX0_turn_256 : decode cX0_turn 256 = .ok (.aload 5, 2) := dk_25 5 (dk_at dksX0_turn_10 22 rfl rfl)
theorem dX0_turn_258 : decode cX0_turn 258 = .ok (.invokevirtual 137, 3) := dk_182 0 137 (dk_at dksX0_turn_11 0 rfl rfl)
theorem dX0_turn_261 : decode cX0_turn 261 = .ok (.ireturn, 1) := dk_172 (dk_at dksX0_turn_11 3 rfl rfl)
abbrev cX0_copy : ByteArray := prog_1_method_22_code
def yX0_copy : MethodName := ⟨RX0, "copy", "(Ljava/lang/Object;ILjava/lang/Object;I)V"⟩
def dkwX0_copy_0 : List UInt8 := [42, 27, 44, 29, 4, 184, 0, 150, 177]
abbrev dktX0_copy_0 : List UInt8 := dkwX0_copy_0 ++ []
theorem dksX0_copy_0 : cX0_copy.data.toList.drop 0 = dktX0_copy_0 := by decide +kernel
theorem dX0_copy_0 : decode cX0_copy 0 = .ok (.aload_n 0, 1) := dk_42 (dk_at dksX0_copy_0 0 rfl rfl)
theorem dX0_copy_1 : decode cX0_copy 1 = .ok (.iload_n 1, 1) := dk_27 (dk_at dksX0_copy_0 1 rfl rfl)
theorem dX0_copy_2 : decode cX0_copy 2 = .ok (.aload_n 2, 1) := dk_44 (dk_at dksX0_copy_0 2 rfl rfl)
theorem dX0_copy_3 : decode cX0_copy 3 = .ok (.iload_n 3, 1) := dk_29 (dk_at dksX0_copy_0 3 rfl rfl)
theorem dX0_copy_4 : decode cX0_copy 4 = .ok (.iconst 1, 1) := dk_4 (dk_at dksX0_copy_0 4 rfl rfl)
theorem dX0_copy_5 : decode cX0_copy 5 = .ok (.invokestatic 150, 3) := dk_184 0 150 (dk_at dksX0_copy_0 5 rfl rfl)
theorem dX0_copy_8 : decode cX0_copy 8 = .ok (.return_, 1) := dk_177 (dk_at dksX0_copy_0 8 rfl rfl)
abbrev cX0_cut : ByteArray := prog_1_method_24_code
def yX0_cut : MethodName := ⟨RX0, "cut", "(I)I"⟩
def dkwX0_cut_9 : List UInt8 := [180, 0, 10, 3, 181, 0, 108, 21, 6, 172]
abbrev dktX0_cut_9 : List UInt8 := dkwX0_cut_9 ++ []
def dkwX0_cut_8 : List UInt8 := [160, 0, 10, 42, 16, 8, 182, 0, 47, 172, 42, 42, 180, 0, 10, 25, 5, 182, 0, 137, 54, 6, 42]
abbrev dktX0_cut_8 : List UInt8 := dkwX0_cut_8 ++ dktX0_cut_9
def dkwX0_cut_7 : List UInt8 := [180, 0, 10, 42, 180, 0, 34, 182, 0, 168, 132, 6, 1, 167, 255, 196, 42, 180, 0, 51, 16, 24]
abbrev dktX0_cut_7 : List UInt8 := dkwX0_cut_7 ++ dktX0_cut_8
def dkwX0_cut_6 : List UInt8 := [21, 7, 182, 0, 174, 172, 44, 45, 42, 180, 0, 34, 182, 0, 160, 25, 5, 21, 6, 184, 0, 164, 42]
abbrev dktX0_cut_6 : List UInt8 := dkwX0_cut_6 ++ dktX0_cut_7
def dkwX0_cut_5 : List UInt8 := [21, 6, 21, 4, 162, 0, 59, 45, 42, 180, 0, 34, 182, 0, 171, 54, 7, 21, 7, 2, 159, 0, 10, 42]
abbrev dktX0_cut_5 : List UInt8 := dkwX0_cut_5 ++ dktX0_cut_6
def dkwX0_cut_4 : List UInt8 := [184, 0, 62, 21, 4, 184, 0, 134, 58, 5, 42, 180, 0, 10, 42, 180, 0, 34, 182, 0, 156, 3, 54, 6]
abbrev dktX0_cut_4 : List UInt8 := dkwX0_cut_4 ++ dktX0_cut_5
def dkwX0_cut_3 : List UInt8 := [180, 0, 10, 182, 0, 120, 54, 4, 21, 4, 17, 1, 244, 164, 0, 9, 42, 8, 182, 0, 47, 172, 44]
abbrev dktX0_cut_3 : List UInt8 := dkwX0_cut_3 ++ dktX0_cut_4
def dkwX0_cut_2 : List UInt8 := [42, 180, 0, 10, 180, 0, 108, 45, 180, 0, 108, 159, 0, 10, 42, 16, 9, 182, 0, 47, 172, 42]
abbrev dktX0_cut_2 : List UInt8 := dkwX0_cut_2 ++ dktX0_cut_3
def dkwX0_cut_1 : List UInt8 := [77, 42, 180, 0, 18, 27, 50, 180, 0, 96, 78, 44, 193, 0, 58, 153, 0, 9, 42, 5, 182, 0, 47, 172]
abbrev dktX0_cut_1 : List UInt8 := dkwX0_cut_1 ++ dktX0_cut_2
def dkwX0_cut_0 : List UInt8 := [42, 27, 182, 0, 143, 154, 0, 10, 42, 16, 7, 182, 0, 47, 172, 42, 180, 0, 18, 27, 50, 180, 0, 101]
abbrev dktX0_cut_0 : List UInt8 := dkwX0_cut_0 ++ dktX0_cut_1
theorem dksX0_cut_0 : cX0_cut.data.toList.drop 0 = dktX0_cut_0 := by decide +kernel
theorem dksX0_cut_1 : cX0_cut.data.toList.drop 24 = dktX0_cut_1 := dk_seg dksX0_cut_0 24 rfl rfl
theorem dksX0_cut_2 : cX0_cut.data.toList.drop 48 = dktX0_cut_2 := dk_seg dksX0_cut_1 24 rfl rfl
theorem dksX0_cut_3 : cX0_cut.data.toList.drop 70 = dktX0_cut_3 := dk_seg dksX0_cut_2 22 rfl rfl
theorem dksX0_cut_4 : cX0_cut.data.toList.drop 93 = dktX0_cut_4 := dk_seg dksX0_cut_3 23 rfl rfl
theorem dksX0_cut_5 : cX0_cut.data.toList.drop 117 = dktX0_cut_5 := dk_seg dksX0_cut_4 24 rfl rfl
theorem dksX0_cut_6 : cX0_cut.data.toList.drop 141 = dktX0_cut_6 := dk_seg dksX0_cut_5 24 rfl rfl
theorem dksX0_cut_7 : cX0_cut.data.toList.drop 164 = dktX0_cut_7 := dk_seg dksX0_cut_6 23 rfl rfl
theorem dksX0_cut_8 : cX0_cut.data.toList.drop 186 = dktX0_cut_8 := dk_seg dksX0_cut_7 22 rfl rfl
theorem dksX0_cut_9 : cX0_cut.data.toList.drop 209 = dktX0_cut_9 := dk_seg dksX0_cut_8 23 rfl rfl
theorem dX0_cut_0 : decode cX0_cut 0 = .ok (.aload_n 0, 1) := dk_42 (dk_at dksX0_cut_0 0 rfl rfl)
theorem dX0_cut_1 : decode cX0_cut 1 = .ok (.iload_n 1, 1) := dk_27 (dk_at dksX0_cut_0 1 rfl rfl)
theorem dX0_cut_2 : decode cX0_cut 2 = .ok (.invokevirtual 143, 3) := dk_182 0 143 (dk_at dksX0_cut_0 2 rfl rfl)
theorem dX0_cut_5 : decode cX0_cut 5 = .ok (.ifCond .ne 10, 3) := dk_154 0 10 (dk_at dksX0_cut_0 5 rfl rfl)
theorem dX0_cut_8 : decode cX0_cut 8 = .ok (.aload_n 0, 1) := dk_42 (dk_at dksX0_cut_0 8 rfl rfl)
theorem dX0_cut_9 : decode cX0_cut 9 = .ok (.bipush 7, 2) := dk_16 7 (dk_at dksX0_cut_0 9 rfl rfl)
theorem dX0_cut_11 : decode cX0_cut 11 = .ok (.invokevirtual 47, 3) := dk_182 0 47 (dk_at dksX0_cut_0 11 rfl rfl)
theorem dX0_cut_14 : decode cX0_cut 14 = .ok (.ireturn, 1) := dk_172 (dk_at dksX0_cut_0 14 rfl rfl)
theorem dX0_cut_15 : decode cX0_cut 15 = .ok (.aload_n 0, 1) := dk_42 (dk_at dksX0_cut_0 15 rfl rfl)
theorem dX0_cut_16 : decode cX0_cut 16 = .ok (.getfield 18, 3) := dk_180 0 18 (dk_at dksX0_cut_0 16 rfl rfl)
theorem dX0_cut_19 : decode cX0_cut 19 = .ok (.iload_n 1, 1) := dk_27 (dk_at dksX0_cut_0 19 rfl rfl)
theorem dX0_cut_20 : decode cX0_cut 20 = .ok (.aaload, 1) := dk_50 (dk_at dksX0_cut_0 20 rfl rfl)
theorem dX0_cut_21 : decode cX0_cut 21 = .ok (.getfield 101, 3) := dk_180 0 101 (dk_at dksX0_cut_0 21 rfl rfl)
theorem dX0_cut_24 : decode cX0_cut 24 = .ok (.astore_n 2, 1) := dk_77 (dk_at dksX0_cut_1 0 rfl rfl)
theorem dX0_cut_25 : decode cX0_cut 25 = .ok (.aload_n 0, 1) := dk_42 (dk_at dksX0_cut_1 1 rfl rfl)
theorem dX0_cut_26 : decode cX0_cut 26 = .ok (.getfield 18, 3) := dk_180 0 18 (dk_at dksX0_cut_1 2 rfl rfl)
theorem dX0_cut_29 : decode cX0_cut 29 = .ok (.iload_n 1, 1) := dk_27 (dk_at dksX0_cut_1 5 rfl rfl)
theorem dX0_cut_30 : decode cX0_cut 30 = .ok (.aaload, 1) := dk_50 (dk_at dksX0_cut_1 6 rfl rfl)
theorem dX0_cut_31 : decode cX0_cut 31 = .ok (.getfield 96, 3) := dk_180 0 96 (dk_at dksX0_cut_1 7 rfl rfl)
theorem dX0_cut_34 : decode cX0_cut 34 = .ok (.astore_n 3, 1) := dk_78 (dk_at dksX0_cut_1 10 rfl rfl)
theorem dX0_cut_35 : decode cX0_cut 35 = .ok (.aload_n 2, 1) := dk_44 (dk_at dksX0_cut_1 11 rfl rfl)
theorem dX0_cut_36 : decode cX0_cut 36 = .ok (.instanceof 58, 3) := dk_193 0 58 (dk_at dksX0_cut_1 12 rfl rfl)
theorem dX0_cut_39 : decode cX0_cut 39 = .ok (.ifCond .eq 9, 3) := dk_153 0 9 (dk_at dksX0_cut_1 15 rfl rfl)
theorem dX0_cut_42 : decode cX0_cut 42 = .ok (.aload_n 0, 1) := dk_42 (dk_at dksX0_cut_1 18 rfl rfl)
theorem dX0_cut_43 : decode cX0_cut 43 = .ok (.iconst 2, 1) := dk_5 (dk_at dksX0_cut_1 19 rfl rfl)
theorem dX0_cut_44 : decode cX0_cut 44 = .ok (.invokevirtual 47, 3) := dk_182 0 47 (dk_at dksX0_cut_1 20 rfl rfl)
theorem dX0_cut_47 : decode cX0_cut 47 = .ok (.ireturn, 1) := dk_172 (dk_at dksX0_cut_1 23 rfl rfl)
theorem dX0_cut_48 : decode cX0_cut 48 = .ok (.aload_n 0, 1) := dk_42 (dk_at dksX0_cut_2 0 rfl rfl)
theorem dX0_cut_49 : decode cX0_cut 49 = .ok (.getfield 10, 3) := dk_180 0 10 (dk_at dksX0_cut_2 1 rfl rfl)
theorem dX0_cut_52 : decode cX0_cut 52 = .ok (.getfield 108, 3) := dk_180 0 108 (dk_at dksX0_cut_2 4 rfl rfl)
theorem dX0_cut_55 : decode cX0_cut 55 = .ok (.aload_n 3, 1) := dk_45 (dk_at dksX0_cut_2 7 rfl rfl)
theorem dX0_cut_56 : decode cX0_cut 56 = .ok (.getfield 108, 3) := dk_180 0 108 (dk_at dksX0_cut_2 8 rfl rfl)
theorem dX0_cut_59 : decode cX0_cut 59 = .ok (.if_icmp .eq 10, 3) := dk_159 0 10 (dk_at dksX0_cut_2 11 rfl rfl)
theorem dX0_cut_62 : decode cX0_cut 62 = .ok (.aload_n 0, 1) := dk_42 (dk_at dksX0_cut_2 14 rfl rfl)
theorem dX0_cut_63 : decode cX0_cut 63 = .ok (.bipush 9, 2) := dk_16 9 (dk_at dksX0_cut_2 15 rfl rfl)
theorem dX0_cut_65 : decode cX0_cut 65 = .ok (.invokevirtual 47, 3) := dk_182 0 47 (dk_at dksX0_cut_2 17 rfl rfl)
theorem dX0_cut_68 : decode cX0_cut 68 = .ok (.ireturn, 1) := dk_172 (dk_at dksX0_cut_2 20 rfl rfl)
theorem dX0_cut_69 : decode cX0_cut 69 = .ok (.aload_n 0, 1) := dk_42 (dk_at dksX0_cut_2 21 rfl rfl)
theorem dX0_cut_70 : decode cX0_cut 70 = .ok (.getfield 10, 3) := dk_180 0 10 (dk_at dksX0_cut_3 0 rfl rfl)
theorem dX0_cut_73 : decode cX0_cut 73 = .ok (.invokevirtual 120, 3) := dk_182 0 120 (dk_at dksX0_cut_3 3 rfl rfl)
theorem dX0_cut_76 : decode cX0_cut 76 = .ok (.istore 4, 2) := dk_54 4 (dk_at dksX0_cut_3 6 rfl rfl)
theorem dX0_cut_78 : decode cX0_cut 78 = .ok (.iload 4, 2) := dk_21 4 (dk_at dksX0_cut_3 8 rfl rfl)
theorem dX0_cut_80 : decode cX0_cut 80 = .ok (.sipush 500, 3) := dk_17 1 244 (dk_at dksX0_cut_3 10 rfl rfl)
theorem dX0_cut_83 : decode cX0_cut 83 = .ok (.if_icmp .le 9, 3) := dk_164 0 9 (dk_at dksX0_cut_3 13 rfl rfl)
theorem dX0_cut_86 : decode cX0_cut 86 = .ok (.aload_n 0, 1) := dk_42 (dk_at dksX0_cut_3 16 rfl rfl)
theorem dX0_cut_87 : decode cX0_cut 87 = .ok (.iconst 5, 1) := dk_8 (dk_at dksX0_cut_3 17 rfl rfl)
theorem dX0_cut_88 : decode cX0_cut 88 = .ok (.invokevirtual 47, 3) := dk_182 0 47 (dk_at dksX0_cut_3 18 rfl rfl)
theorem dX0_cut_91 : decode cX0_cut 91 = .ok (.ireturn, 1) := dk_172 (dk_at dksX0_cut_3 21 rfl rfl)
theorem dX0_cut_92 : decode cX0_cut 92 = .ok (.aload_n 2, 1) := dk_44 (dk_at dksX0_cut_3 22 rfl rfl)
theorem dX0_cut_93 : decode cX0_cut 93 = .ok (.invokestatic 62, 3) := dk_184 0 62 (dk_at dksX0_cut_4 0 rfl rfl)
theorem dX0_cut_96 : decode cX0_cut 96 = .ok (.iload 4, 2) := dk_21 4 (dk_at dksX0_cut_4 3 rfl rfl)
theorem dX0_cut_98 : decode cX0_cut 98 = .ok (.invokestatic 134, 3) := dk_184 0 134 (dk_at dksX0_cut_4 5 rfl rfl)
theorem dX0_cut_101 : decode cX0_cut 101 = .ok (.astore 5, 2) := dk_58 5 (dk_at dksX0_cut_4 8 rfl rfl)
theorem dX0_cut_103 : decode cX0_cut 103 = .ok (.aload_n 0, 1) := dk_42 (dk_at dksX0_cut_4 10 rfl rfl)
theorem dX0_cut_104 : decode cX0_cut 104 = .ok (.getfield 10, 3) := dk_180 0 10 (dk_at dksX0_cut_4 11 rfl rfl)
theorem dX0_cut_107 : decode cX0_cut 107 = .ok (.aload_n 0, 1) := dk_42 (dk_at dksX0_cut_4 14 rfl rfl)
theorem dX0_cut_108 : decode cX0_cut 108 = .ok (.getfield 34, 3) := dk_180 0 34 (dk_at dksX0_cut_4 15 rfl rfl)
theorem dX0_cut_111 : decode cX0_cut 111 = .ok (.invokevirtual 156, 3) := dk_182 0 156 (dk_at dksX0_cut_4 18 rfl rfl)
theorem dX0_cut_114 : decode cX0_cut 114 = .ok (.iconst 0, 1) := dk_3 (dk_at dksX0_cut_4 21 rfl rfl)
theorem dX0_cut_115 : decode cX0_cut 115 = .ok (.istore 6, 2) := dk_54 6 (dk_at dksX0_cut_4 22 rfl rfl)
theorem dX0_cut_117 : decode cX0_cut 117 = .ok (.iload 6, 2) := dk_21 6 (dk_at dksX0_cut_5 0 rfl rfl)
theorem dX0_cut_119 : decode cX0_cut 119 = .ok (.iload 4, 2) := dk_21 4 (dk_at dksX0_cut_5 2 rfl rfl)
theorem dX0_cut_121 : decode cX0_cut 121 = .ok (.if_icmp .ge 59, 3) := dk_162 0 59 (dk_at dksX0_cut_5 4 rfl rfl)
theorem dX0_cut_124 : decode cX0_cut 124 = .ok (.aload_n 3, 1) := dk_45 (dk_at dksX0_cut_5 7 rfl rfl)
theorem dX0_cut_125 : decode cX0_cut 125 = .ok (.aload_n 0, 1) := dk_42 (dk_at dksX0_cut_5 8 rfl rfl)
theorem dX0_cut_126 : decode cX0_cut 126 = .ok (.getfield 34, 3) := dk_180 0 34 (dk_at dksX0_cut_5 9 rfl rfl)
theorem dX0_cut_129 : decode cX0_cut 129 = .ok (.invokevirtual 171, 3) := dk_182 0 171 (dk_at dksX0_cut_5 12 rfl rfl)
theorem dX0_cut_132 : decode cX0_cut 132 = .ok (.istore 7, 2) := dk_54 7 (dk_at dksX0_cut_5 15 rfl rfl)
theorem dX0_cut_134 : decode cX0_cut 134 = .ok (.iload 7, 2) := dk_21 7 (dk_at dksX0_cut_5 17 rfl rfl)
theorem dX0_cut_136 : decode cX0_cut 136 = .ok (.iconst (-1), 1) := dk_2 (dk_at dksX0_cut_5 19 rfl rfl)
theorem dX0_cut_137 : decode cX0_cut 137 = .ok (.if_icmp .eq 10, 3) := dk_159 0 10 (dk_at dksX0_cut_5 20 rfl rfl)
theorem dX0_cut_140 : decode cX0_cut 140 = .ok (.aload_n 0, 1) := dk_42 (dk_at dksX0_cut_5 23 rfl rfl)
theorem dX0_cut_141 : decode cX0_cut 141 = .ok (.iload 7, 2) := dk_21 7 (dk_at dksX0_cut_6 0 rfl rfl)
theorem dX0_cut_143 : decode cX0_cut 143 = .ok (.invokevirtual 174, 3) := dk_182 0 174 (dk_at dksX0_cut_6 2 rfl rfl)
theorem dX0_cut_146 : decode cX0_cut 146 = .ok (.ireturn, 1) := dk_172 (dk_at dksX0_cut_6 5 rfl rfl)
theorem dX0_cut_147 : decode cX0_cut 147 = .ok (.aload_n 2, 1) := dk_44 (dk_at dksX0_cut_6 6 rfl rfl)
theorem dX0_cut_148 : decode cX0_cut 148 = .ok (.aload_n 3, 1) := dk_45 (dk_at dksX0_cut_6 7 rfl rfl)
theorem dX0_cut_149 : decode cX0_cut 149 = .ok (.aload_n 0, 1) := dk_42 (dk_at dksX0_cut_6 8 rfl rfl)
theorem dX0_cut_150 : decode cX0_cut 150 = .ok (.getfield 34, 3) := dk_180 0 34 (dk_at dksX0_cut_6 9 rfl rfl)
theorem dX0_cut_153 : decode cX0_cut 153 = .ok (.invokevirtual 160, 3) := dk_182 0 160 (dk_at dksX0_cut_6 12 rfl rfl)
theorem dX0_cut_156 : decode cX0_cut 156 = .ok (.aload 5, 2) := dk_25 5 (dk_at dksX0_cut_6 15 rfl rfl)
theorem dX0_cut_158 : decode cX0_cut 158 = .ok (.iload 6, 2) := dk_21 6 (dk_at dksX0_cut_6 17 rfl rfl)
theorem dX0_cut_160 : decode cX0_cut 160 = .ok (.invokestatic 164, 3) := dk_184 0 164 (dk_at dksX0_cut_6 19 rfl rfl)
theorem dX0_cut_163 : decode cX0_cut 163 = .ok (.aload_n 0, 1) := dk_42 (dk_at dksX0_cut_6 22 rfl rfl)
theorem dX0_cut_164 : decode cX0_cut 164 = .ok (.getfield 10, 3) := dk_180 0 10 (dk_at dksX0_cut_7 0 rfl rfl)
theorem dX0_cut_167 : decode cX0_cut 167 = .ok (.aload_n 0, 1) := dk_42 (dk_at dksX0_cut_7 3 rfl rfl)
theorem dX0_cut_168 : decode cX0_cut 168 = .ok (.getfield 34, 3) := dk_180 0 34 (dk_at dksX0_cut_7 4 rfl rfl)
theorem dX0_cut_171 : decode cX0_cut 171 = .ok (.invokevirtual 168, 3) := dk_182 0 168 (dk_at dksX0_cut_7 7 rfl rfl)
theorem dX0_cut_174 : decode cX0_cut 174 = .ok (.iinc 6 1, 3) := dk_132 6 1 (dk_at dksX0_cut_7 10 rfl rfl)
theorem dX0_cut_177 : decode cX0_cut 177 = .ok (.goto (-60), 3) := dk_167 255 196 (dk_at dksX0_cut_7 13 rfl rfl)
theorem dX0_cut_180 : decode cX0_cut 180 = .ok (.aload_n 0, 1) := dk_42 (dk_at dksX0_cut_7 16 rfl rfl)
theorem dX0_cut_181 : decode cX0_cut 181 = .ok (.getfield 51, 3) := dk_180 0 51 (dk_at dksX0_cut_7 17 rfl rfl)
theorem dX0_cut_184 : decode cX0_cut 184 = .ok (.bipush 24, 2) := dk_16 24 (dk_at dksX0_cut_7 20 rfl rfl)
theorem dX0_cut_186 : decode cX0_cut 186 = .ok (.if_icmp .ne 10, 3) := dk_160 0 10 (dk_at dksX0_cut_8 0 rfl rfl)
theorem dX0_cut_189 : decode cX0_cut 189 = .ok (.aload_n 0, 1) := dk_42 (dk_at dksX0_cut_8 3 rfl rfl)
theorem dX0_cut_190 : decode cX0_cut 190 = .ok (.bipush 8, 2) := dk_16 8 (dk_at dksX0_cut_8 4 rfl rfl)
theorem dX0_cut_192 : decode cX0_cut 192 = .ok (.invokevirtual 47, 3) := dk_182 0 47 (dk_at dksX0_cut_8 6 rfl rfl)
theorem dX0_cut_195 : decode cX0_cut 195 = .ok (.ireturn, 1) := dk_172 (dk_at dksX0_cut_8 9 rfl rfl)
theorem dX0_cut_196 : decode cX0_cut 196 = .ok (.aload_n 0, 1) := dk_42 (dk_at dksX0_cut_8 10 rfl rfl)
theorem dX0_cut_197 : decode cX0_cut 197 = .ok (.aload_n 0, 1) := dk_42 (dk_at dksX0_cut_8 11 rfl rfl)
theorem dX0_cut_198 : decode cX0_cut 198 = .ok (.getfield 10, 3) := dk_180 0 10 (dk_at dksX0_cut_8 12 rfl rfl)
theorem dX0_cut_201 : decode cX0_cut 201 = .ok (.aload 5, 2) := dk_25 5 (dk_at dksX0_cut_8 15 rfl rfl)
theorem dX0_cut_203 : decode cX0_cut 203 = .ok (.invokevirtual 137, 3) := dk_182 0 137 (dk_at dksX0_cut_8 17 rfl rfl)
theorem dX0_cut_206 : decode cX0_cut 206 = .ok (.istore 6, 2) := dk_54 6 (dk_at dksX0_cut_8 20 rfl rfl)
theorem dX0_cut_208 : decode cX0_cut 208 = .ok (.aload_n 0, 1) := dk_42 (dk_at dksX0_cut_8 22 rfl rfl)
theorem dX0_cut_209 : decode cX0_cut 209 = .ok (.getfield 10, 3) := dk_180 0 10 (dk_at dksX0_cut_9 0 rfl rfl)
theorem dX0_cut_212 : decode cX0_cut 212 = .ok (.iconst 0, 1) := dk_3 (dk_at dksX0_cut_9 3 rfl rfl)
theorem dX0_cut_213 : decode cX0_cut 213 = .ok (.putfield 108, 3) := dk_181 0 108 (dk_at dksX0_cut_9 4 rfl rfl)
theorem dX0_cut_216 : decode cX0_cut 216 = .ok (.iload 6, 2) := dk_21 6 (dk_at dksX0_cut_9 7 rfl rfl)
theorem dX0_cut_218 : decode cX0_cut 218 = .ok (.ireturn, 1) := dk_172 (dk_at dksX0_cut_9 9 rfl rfl)
abbrev cX0_beyond : ByteArray := prog_1_method_3_code
def yX0_beyond : MethodName := ⟨RX0, "beyond", "(I)I"⟩
def dkwX0_beyond_0 : List UInt8 := [42, 27, 181, 0, 22, 42, 6, 182, 0, 47, 172]
abbrev dktX0_beyond_0 : List UInt8 := dkwX0_beyond_0 ++ []
theorem dksX0_beyond_0 : cX0_beyond.data.toList.drop 0 = dktX0_beyond_0 := by decide +kernel
theorem dX0_beyond_0 : decode cX0_beyond 0 = .ok (.aload_n 0, 1) := dk_42 (dk_at dksX0_beyond_0 0 rfl rfl)
theorem dX0_beyond_1 : decode cX0_beyond 1 = .ok (.iload_n 1, 1) := dk_27 (dk_at dksX0_beyond_0 1 rfl rfl)
theorem dX0_beyond_2 : decode cX0_beyond 2 = .ok (.putfield 22, 3) := dk_181 0 22 (dk_at dksX0_beyond_0 2 rfl rfl)
theorem dX0_beyond_5 : decode cX0_beyond 5 = .ok (.aload_n 0, 1) := dk_42 (dk_at dksX0_beyond_0 5 rfl rfl)
theorem dX0_beyond_6 : decode cX0_beyond 6 = .ok (.iconst 3, 1) := dk_6 (dk_at dksX0_beyond_0 6 rfl rfl)
theorem dX0_beyond_7 : decode cX0_beyond 7 = .ok (.invokevirtual 47, 3) := dk_182 0 47 (dk_at dksX0_beyond_0 7 rfl rfl)
theorem dX0_beyond_10 : decode cX0_beyond 10 = .ok (.ireturn, 1) := dk_172 (dk_at dksX0_beyond_0 10 rfl rfl)
abbrev cX0_deep : ByteArray := prog_1_method_25_code
def yX0_deep : MethodName := ⟨RX0, "deep", "(I)I"⟩
def dkwX0_deep_7 : List UInt8 := [172, 78, 42, 5, 182, 0, 47, 172]
abbrev dktX0_deep_7 : List UInt8 := dkwX0_deep_7 ++ []
def dkwX0_deep_6 : List UInt8 := [25, 6, 21, 7, 50, 3, 21, 5, 184, 0, 150, 132, 7, 1, 167, 255, 220, 42, 44, 25, 6, 182, 0, 137]
abbrev dktX0_deep_6 : List UInt8 := dkwX0_deep_6 ++ dktX0_deep_7
def dkwX0_deep_5 : List UInt8 := [54, 7, 21, 7, 21, 4, 162, 0, 35, 25, 6, 21, 7, 21, 5, 188, 10, 83, 45, 21, 5, 21, 7, 104]
abbrev dktX0_deep_5 : List UInt8 := dkwX0_deep_5 ++ dktX0_deep_6
def dkwX0_deep_4 : List UInt8 := [21, 4, 154, 0, 7, 3, 167, 0, 8, 45, 190, 21, 4, 108, 54, 5, 21, 4, 189, 0, 56, 58, 6, 3]
abbrev dktX0_deep_4 : List UInt8 := dkwX0_deep_4 ++ dktX0_deep_5
def dkwX0_deep_3 : List UInt8 := [42, 180, 0, 51, 16, 24, 160, 0, 10, 42, 16, 8, 182, 0, 47, 172, 44, 3, 182, 0, 124, 136, 54, 4]
abbrev dktX0_deep_3 : List UInt8 := dkwX0_deep_3 ++ dktX0_deep_4
def dkwX0_deep_2 : List UInt8 := [16, 9, 182, 0, 47, 172, 44, 3, 182, 0, 124, 20, 0, 128, 148, 158, 0, 9, 42, 8, 182, 0, 47, 172]
abbrev dktX0_deep_2 : List UInt8 := dkwX0_deep_2 ++ dktX0_deep_3
def dkwX0_deep_1 : List UInt8 := [77, 42, 180, 0, 18, 27, 50, 180, 0, 101, 192, 0, 56, 78, 44, 180, 0, 108, 5, 159, 0, 10, 42]
abbrev dktX0_deep_1 : List UInt8 := dkwX0_deep_1 ++ dktX0_deep_2
def dkwX0_deep_0 : List UInt8 := [42, 27, 182, 0, 143, 154, 0, 10, 42, 16, 7, 182, 0, 47, 172, 42, 180, 0, 18, 27, 50, 180, 0, 96]
abbrev dktX0_deep_0 : List UInt8 := dkwX0_deep_0 ++ dktX0_deep_1
theorem dksX0_deep_0 : cX0_deep.data.toList.drop 0 = dktX0_deep_0 := by decide +kernel
theorem dksX0_deep_1 : cX0_deep.data.toList.drop 24 = dktX0_deep_1 := dk_seg dksX0_deep_0 24 rfl rfl
theorem dksX0_deep_2 : cX0_deep.data.toList.drop 47 = dktX0_deep_2 := dk_seg dksX0_deep_1 23 rfl rfl
theorem dksX0_deep_3 : cX0_deep.data.toList.drop 71 = dktX0_deep_3 := dk_seg dksX0_deep_2 24 rfl rfl
theorem dksX0_deep_4 : cX0_deep.data.toList.drop 95 = dktX0_deep_4 := dk_seg dksX0_deep_3 24 rfl rfl
theorem dksX0_deep_5 : cX0_deep.data.toList.drop 119 = dktX0_deep_5 := dk_seg dksX0_deep_4 24 rfl rfl
theorem dksX0_deep_6 : cX0_deep.data.toList.drop 143 = dktX0_deep_6 := dk_seg dksX0_deep_5 24 rfl rfl
theorem dksX0_deep_7 : cX0_deep.data.toList.drop 167 = dktX0_deep_7 := dk_seg dksX0_deep_6 24 rfl rfl
theorem dX0_deep_0 : decode cX0_deep 0 = .ok (.aload_n 0, 1) := dk_42 (dk_at dksX0_deep_0 0 rfl rfl)
theorem dX0_deep_1 : decode cX0_deep 1 = .ok (.iload_n 1, 1) := dk_27 (dk_at dksX0_deep_0 1 rfl rfl)
theorem dX0_deep_2 : decode cX0_deep 2 = .ok (.invokevirtual 143, 3) := dk_182 0 143 (dk_at dksX0_deep_0 2 rfl rfl)
theorem dX0_deep_5 : decode cX0_deep 5 = .ok (.ifCond .ne 10, 3) := dk_154 0 10 (dk_at dksX0_deep_0 5 rfl rfl)
theorem dX0_deep_8 : decode cX0_deep 8 = .ok (.aload_n 0, 1) := dk_42 (dk_at dksX0_deep_0 8 rfl rfl)
theorem dX0_deep_9 : decode cX0_deep 9 = .ok (.bipush 7, 2) := dk_16 7 (dk_at dksX0_deep_0 9 rfl rfl)
theorem dX0_deep_11 : decode cX0_deep 11 = .ok (.invokevirtual 47, 3) := dk_182 0 47 (dk_at dksX0_deep_0 11 rfl rfl)
theorem dX0_deep_14 : decode cX0_deep 14 = .ok (.ireturn, 1) := dk_172 (dk_at dksX0_deep_0 14 rfl rfl)
theorem dX0_deep_15 : decode cX0_deep 15 = .ok (.aload_n 0, 1) := dk_42 (dk_at dksX0_deep_0 15 rfl rfl)
theorem dX0_deep_16 : decode cX0_deep 16 = .ok (.getfield 18, 3) := dk_180 0 18 (dk_at dksX0_deep_0 16 rfl rfl)
theorem dX0_deep_19 : decode cX0_deep 19 = .ok (.iload_n 1, 1) := dk_27 (dk_at dksX0_deep_0 19 rfl rfl)
theorem dX0_deep_20 : decode cX0_deep 20 = .ok (.aaload, 1) := dk_50 (dk_at dksX0_deep_0 20 rfl rfl)
theorem dX0_deep_21 : decode cX0_deep 21 = .ok (.getfield 96, 3) := dk_180 0 96 (dk_at dksX0_deep_0 21 rfl rfl)
theorem dX0_deep_24 : decode cX0_deep 24 = .ok (.astore_n 2, 1) := dk_77 (dk_at dksX0_deep_1 0 rfl rfl)
theorem dX0_deep_25 : decode cX0_deep 25 = .ok (.aload_n 0, 1) := dk_42 (dk_at dksX0_deep_1 1 rfl rfl)
theorem dX0_deep_26 : decode cX0_deep 26 = .ok (.getfield 18, 3) := dk_180 0 18 (dk_at dksX0_deep_1 2 rfl rfl)
theorem dX0_deep_29 : decode cX0_deep 29 = .ok (.iload_n 1, 1) := dk_27 (dk_at dksX0_deep_1 5 rfl rfl)
theorem dX0_deep_30 : decode cX0_deep 30 = .ok (.aaload, 1) := dk_50 (dk_at dksX0_deep_1 6 rfl rfl)
theorem dX0_deep_31 : decode cX0_deep 31 = .ok (.getfield 101, 3) := dk_180 0 101 (dk_at dksX0_deep_1 7 rfl rfl)
theorem dX0_deep_34 : decode cX0_deep 34 = .ok (.checkcast 56, 3) := dk_192 0 56 (dk_at dksX0_deep_1 10 rfl rfl)
theorem dX0_deep_37 : decode cX0_deep 37 = .ok (.astore_n 3, 1) := dk_78 (dk_at dksX0_deep_1 13 rfl rfl)
theorem dX0_deep_38 : decode cX0_deep 38 = .ok (.aload_n 2, 1) := dk_44 (dk_at dksX0_deep_1 14 rfl rfl)
theorem dX0_deep_39 : decode cX0_deep 39 = .ok (.getfield 108, 3) := dk_180 0 108 (dk_at dksX0_deep_1 15 rfl rfl)
theorem dX0_deep_42 : decode cX0_deep 42 = .ok (.iconst 2, 1) := dk_5 (dk_at dksX0_deep_1 18 rfl rfl)
theorem dX0_deep_43 : decode cX0_deep 43 = .ok (.if_icmp .eq 10, 3) := dk_159 0 10 (dk_at dksX0_deep_1 19 rfl rfl)
theorem dX0_deep_46 : decode cX0_deep 46 = .ok (.aload_n 0, 1) := dk_42 (dk_at dksX0_deep_1 22 rfl rfl)
theorem dX0_deep_47 : decode cX0_deep 47 = .ok (.bipush 9, 2) := dk_16 9 (dk_at dksX0_deep_2 0 rfl rfl)
theorem dX0_deep_49 : decode cX0_deep 49 = .ok (.invokevirtual 47, 3) := dk_182 0 47 (dk_at dksX0_deep_2 2 rfl rfl)
theorem dX0_deep_52 : decode cX0_deep 52 = .ok (.ireturn, 1) := dk_172 (dk_at dksX0_deep_2 5 rfl rfl)
theorem dX0_deep_53 : decode cX0_deep 53 = .ok (.aload_n 2, 1) := dk_44 (dk_at dksX0_deep_2 6 rfl rfl)
theorem dX0_deep_54 : decode cX0_deep 54 = .ok (.iconst 0, 1) := dk_3 (dk_at dksX0_deep_2 7 rfl rfl)
theorem dX0_deep_55 : decode cX0_deep 55 = .ok (.invokevirtual 124, 3) := dk_182 0 124 (dk_at dksX0_deep_2 8 rfl rfl)
theorem dX0_deep_58 : decode cX0_deep 58 = .ok (.ldc2_w 128, 3) := dk_20 0 128 (dk_at dksX0_deep_2 11 rfl rfl)
theorem dX0_deep_61 : decode cX0_deep 61 = .ok (.lcmp, 1) := dk_148 (dk_at dksX0_deep_2 14 rfl rfl)
theorem dX0_deep_62 : decode cX0_deep 62 = .ok (.ifCond .le 9, 3) := dk_158 0 9 (dk_at dksX0_deep_2 15 rfl rfl)
theorem dX0_deep_65 : decode cX0_deep 65 = .ok (.aload_n 0, 1) := dk_42 (dk_at dksX0_deep_2 18 rfl rfl)
theorem dX0_deep_66 : decode cX0_deep 66 = .ok (.iconst 5, 1) := dk_8 (dk_at dksX0_deep_2 19 rfl rfl)
theorem dX0_deep_67 : decode cX0_deep 67 = .ok (.invokevirtual 47, 3) := dk_182 0 47 (dk_at dksX0_deep_2 20 rfl rfl)
theorem dX0_deep_70 : decode cX0_deep 70 = .ok (.ireturn, 1) := dk_172 (dk_at dksX0_deep_2 23 rfl rfl)
theorem dX0_deep_71 : decode cX0_deep 71 = .ok (.aload_n 0, 1) := dk_42 (dk_at dksX0_deep_3 0 rfl rfl)
theorem dX0_deep_72 : decode cX0_deep 72 = .ok (.getfield 51, 3) := dk_180 0 51 (dk_at dksX0_deep_3 1 rfl rfl)
theorem dX0_deep_75 : decode cX0_deep 75 = .ok (.bipush 24, 2) := dk_16 24 (dk_at dksX0_deep_3 4 rfl rfl)
theorem dX0_deep_77 : decode cX0_deep 77 = .ok (.if_icmp .ne 10, 3) := dk_160 0 10 (dk_at dksX0_deep_3 6 rfl rfl)
theorem dX0_deep_80 : decode cX0_deep 80 = .ok (.aload_n 0, 1) := dk_42 (dk_at dksX0_deep_3 9 rfl rfl)
theorem dX0_deep_81 : decode cX0_deep 81 = .ok (.bipush 8, 2) := dk_16 8 (dk_at dksX0_deep_3 10 rfl rfl)
theorem dX0_deep_83 : decode cX0_deep 83 = .ok (.invokevirtual 47, 3) := dk_182 0 47 (dk_at dksX0_deep_3 12 rfl rfl)
theorem dX0_deep_86 : decode cX0_deep 86 = .ok (.ireturn, 1) := dk_172 (dk_at dksX0_deep_3 15 rfl rfl)
theorem dX0_deep_87 : decode cX0_deep 87 = .ok (.aload_n 2, 1) := dk_44 (dk_at dksX0_deep_3 16 rfl rfl)
theorem dX0_deep_88 : decode cX0_deep 88 = .ok (.iconst 0, 1) := dk_3 (dk_at dksX0_deep_3 17 rfl rfl)
theorem dX0_deep_89 : decode cX0_deep 89 = .ok (.invokevirtual 124, 3) := dk_182 0 124 (dk_at dksX0_deep_3 18 rfl rfl)
theorem dX0_deep_92 : decode cX0_deep 92 = .ok (.l2i, 1) := dk_136 (dk_at dksX0_deep_3 21 rfl rfl)
theorem dX0_deep_93 : decode cX0_deep 93 = .ok (.istore 4, 2) := dk_54 4 (dk_at dksX0_deep_3 22 rfl rfl)
theorem dX0_deep_95 : decode cX0_deep 95 = .ok (.iload 4, 2) := dk_21 4 (dk_at dksX0_deep_4 0 rfl rfl)
theorem dX0_deep_97 : decode cX0_deep 97 = .ok (.ifCond .ne 7, 3) := dk_154 0 7 (dk_at dksX0_deep_4 2 rfl rfl)
theorem dX0_deep_100 : decode cX0_deep 100 = .ok (.iconst 0, 1) := dk_3 (dk_at dksX0_deep_4 5 rfl rfl)
theorem dX0_deep_101 : decode cX0_deep 101 = .ok (.goto 8, 3) := dk_167 0 8 (dk_at dksX0_deep_4 6 rfl rfl)
theorem dX0_deep_104 : decode cX0_deep 104 = .ok (.aload_n 3, 1) := dk_45 (dk_at dksX0_deep_4 9 rfl rfl)
theorem dX0_deep_105 : decode cX0_deep 105 = .ok (.arraylength, 1) := dk_190 (dk_at dksX0_deep_4 10 rfl rfl)
theorem dX0_deep_106 : decode cX0_deep 106 = .ok (.iload 4, 2) := dk_21 4 (dk_at dksX0_deep_4 11 rfl rfl)
theorem dX0_deep_108 : decode cX0_deep 108 = .ok (.idiv, 1) := dk_108 (dk_at dksX0_deep_4 13 rfl rfl)
theorem dX0_deep_109 : decode cX0_deep 109 = .ok (.istore 5, 2) := dk_54 5 (dk_at dksX0_deep_4 14 rfl rfl)
theorem dX0_deep_111 : decode cX0_deep 111 = .ok (.iload 4, 2) := dk_21 4 (dk_at dksX0_deep_4 16 rfl rfl)
theorem dX0_deep_113 : decode cX0_deep 113 = .ok (.anewarray 56, 3) := dk_189 0 56 (dk_at dksX0_deep_4 18 rfl rfl)
theorem dX0_deep_116 : decode cX0_deep 116 = .ok (.astore 6, 2) := dk_58 6 (dk_at dksX0_deep_4 21 rfl rfl)
theorem dX0_deep_118 : decode cX0_deep 118 = .ok (.iconst 0, 1) := dk_3 (dk_at dksX0_deep_4 23 rfl rfl)
theorem dX0_deep_119 : decode cX0_deep 119 = .ok (.istore 7, 2) := dk_54 7 (dk_at dksX0_deep_5 0 rfl rfl)
theorem dX0_deep_121 : decode cX0_deep 121 = .ok (.iload 7, 2) := dk_21 7 (dk_at dksX0_deep_5 2 rfl rfl)
theorem dX0_deep_123 : decode cX0_deep 123 = .ok (.iload 4, 2) := dk_21 4 (dk_at dksX0_deep_5 4 rfl rfl)
theorem dX0_deep_125 : decode cX0_deep 125 = .ok (.if_icmp .ge 35, 3) := dk_162 0 35 (dk_at dksX0_deep_5 6 rfl rfl)
theorem dX0_deep_128 : decode cX0_deep 128 = .ok (.aload 6, 2) := dk_25 6 (dk_at dksX0_deep_5 9 rfl rfl)
theorem dX0_deep_130 : decode cX0_deep 130 = .ok (.iload 7, 2) := dk_21 7 (dk_at dksX0_deep_5 11 rfl rfl)
theorem dX0_deep_132 : decode cX0_deep 132 = .ok (.iload 5, 2) := dk_21 5 (dk_at dksX0_deep_5 13 rfl rfl)
theorem dX0_deep_134 : decode cX0_deep 134 = .ok (.newarray .int, 2) := dk_188_10 (dk_at dksX0_deep_5 15 rfl rfl)
theorem dX0_deep_136 : decode cX0_deep 136 = .ok (.aastore, 1) := dk_83 (dk_at dksX0_deep_5 17 rfl rfl)
theorem dX0_deep_137 : decode cX0_deep 137 = .ok (.aload_n 3, 1) := dk_45 (dk_at dksX0_deep_5 18 rfl rfl)
theorem dX0_deep_138 : decode cX0_deep 138 = .ok (.iload 5, 2) := dk_21 5 (dk_at dksX0_deep_5 19 rfl rfl)
theorem dX0_deep_140 : decode cX0_deep 140 = .ok (.iload 7, 2) := dk_21 7 (dk_at dksX0_deep_5 21 rfl rfl)
theorem dX0_deep_142 : decode cX0_deep 142 = .ok (.imul, 1) := dk_104 (dk_at dksX0_deep_5 23 rfl rfl)
theorem dX0_deep_143 : decode cX0_deep 143 = .ok (.aload 6, 2) := dk_25 6 (dk_at dksX0_deep_6 0 rfl rfl)
theorem dX0_deep_145 : decode cX0_deep 145 = .ok (.iload 7, 2) := dk_21 7 (dk_at dksX0_deep_6 2 rfl rfl)
theorem dX0_deep_147 : decode cX0_deep 147 = .ok (.aaload, 1) := dk_50 (dk_at dksX0_deep_6 4 rfl rfl)
theorem dX0_deep_148 : decode cX0_deep 148 = .ok (.iconst 0, 1) := dk_3 (dk_at dksX0_deep_6 5 rfl rfl)
theorem dX0_deep_149 : decode cX0_deep 149 = .ok (.iload 5, 2) := dk_21 5 (dk_at dksX0_deep_6 6 rfl rfl)
theorem dX0_deep_151 : decode cX0_deep 151 = .ok (.invokestatic 150, 3) := dk_184 0 150 (dk_at dksX0_deep_6 8 rfl rfl)
theorem dX0_deep_154 : decode cX0_deep 154 = .ok (.iinc 7 1, 3) := dk_132 7 1 (dk_at dksX0_deep_6 11 rfl rfl)
theorem dX0_deep_157 : decode cX0_deep 157 = .ok (.goto (-36), 3) := dk_167 255 220 (dk_at dksX0_deep_6 14 rfl rfl)
theorem dX0_deep_160 : decode cX0_deep 160 = .ok (.aload_n 0, 1) := dk_42 (dk_at dksX0_deep_6 17 rfl rfl)
theorem dX0_deep_161 : decode cX0_deep 161 = .ok (.aload_n 2, 1) := dk_44 (dk_at dksX0_deep_6 18 rfl rfl)
theorem dX0_deep_162 : decode cX0_deep 162 = .ok (.aload 6, 2) := dk_25 6 (dk_at dksX0_deep_6 19 rfl rfl)
theorem dX0_deep_164 : decode cX0_deep 164 = .ok (.invokevirtual 137, 3) := dk_182 0 137 (dk_at dksX0_deep_6 21 rfl rfl)
theorem dX0_deep_167 : decode cX0_deep 167 = .ok (.ireturn, 1) := dk_172 (dk_at dksX0_deep_7 0 rfl rfl)
theorem dX0_deep_168 : decode cX0_deep 168 = .ok (.astore_n 3, 1) := dk_78 (dk_at dksX0_deep_7 1 rfl rfl)
theorem dX0_deep_169 : decode cX0_deep 169 = .ok (.aload_n 0, 1) := dk_42 (dk_at dksX0_deep_7 2 rfl rfl)
theorem dX0_deep_170 : decode cX0_deep 170 = .ok (.iconst 2, 1) := dk_5 (dk_at dksX0_deep_7 3 rfl rfl)
theorem dX0_deep_171 : decode cX0_deep 171 = .ok (.invokevirtual 47, 3) := dk_182 0 47 (dk_at dksX0_deep_7 4 rfl rfl)
theorem dX0_deep_174 : decode cX0_deep 174 = .ok (.ireturn, 1) := dk_172 (dk_at dksX0_deep_7 7 rfl rfl)
abbrev cX0_flat : ByteArray := prog_1_method_26_code
def yX0_flat : MethodName := ⟨RX0, "flat", "(I)I"⟩
def dkwX0_flat_8 : List UInt8 := [172]
abbrev dktX0_flat_8 : List UInt8 := dkwX0_flat_8 ++ []
def dkwX0_flat_7 : List UInt8 := [167, 255, 218, 42, 44, 25, 4, 182, 0, 137, 172, 78, 42, 5, 182, 0, 47, 172, 78, 42, 4, 182, 0, 47]
abbrev dktX0_flat_7 : List UInt8 := dkwX0_flat_7 ++ dktX0_flat_8
def dkwX0_flat_6 : List UInt8 := [25, 9, 3, 25, 4, 21, 5, 25, 9, 190, 184, 0, 150, 21, 5, 25, 9, 190, 96, 54, 5, 132, 8, 1]
abbrev dktX0_flat_6 : List UInt8 := dkwX0_flat_6 ++ dktX0_flat_7
def dkwX0_flat_5 : List UInt8 := [58, 6, 25, 6, 190, 54, 7, 3, 54, 8, 21, 8, 21, 7, 162, 0, 37, 25, 6, 21, 8, 50, 58, 9]
abbrev dktX0_flat_5 : List UInt8 := dkwX0_flat_5 ++ dktX0_flat_6
def dkwX0_flat_4 : List UInt8 := [16, 24, 160, 0, 10, 42, 16, 8, 182, 0, 47, 172, 44, 182, 0, 120, 188, 10, 58, 4, 3, 54, 5, 45]
abbrev dktX0_flat_4 : List UInt8 := dkwX0_flat_4 ++ dktX0_flat_5
def dkwX0_flat_3 : List UInt8 := [182, 0, 124, 148, 153, 0, 10, 42, 16, 11, 182, 0, 47, 172, 132, 6, 1, 167, 255, 219, 42, 180, 0, 51]
abbrev dktX0_flat_3 : List UInt8 := dkwX0_flat_3 ++ dktX0_flat_4
def dkwX0_flat_2 : List UInt8 := [54, 6, 21, 6, 21, 5, 162, 0, 36, 25, 4, 21, 6, 50, 58, 7, 25, 7, 190, 133, 44, 4]
abbrev dktX0_flat_2 : List UInt8 := dkwX0_flat_2 ++ dktX0_flat_3
def dkwX0_flat_1 : List UInt8 := [77, 42, 180, 0, 18, 27, 50, 180, 0, 101, 192, 0, 58, 78, 45, 58, 4, 25, 4, 190, 54, 5, 3]
abbrev dktX0_flat_1 : List UInt8 := dkwX0_flat_1 ++ dktX0_flat_2
def dkwX0_flat_0 : List UInt8 := [42, 27, 182, 0, 143, 154, 0, 10, 42, 16, 7, 182, 0, 47, 172, 42, 180, 0, 18, 27, 50, 180, 0, 96]
abbrev dktX0_flat_0 : List UInt8 := dkwX0_flat_0 ++ dktX0_flat_1
theorem dksX0_flat_0 : cX0_flat.data.toList.drop 0 = dktX0_flat_0 := by decide +kernel
theorem dksX0_flat_1 : cX0_flat.data.toList.drop 24 = dktX0_flat_1 := dk_seg dksX0_flat_0 24 rfl rfl
theorem dksX0_flat_2 : cX0_flat.data.toList.drop 47 = dktX0_flat_2 := dk_seg dksX0_flat_1 23 rfl rfl
theorem dksX0_flat_3 : cX0_flat.data.toList.drop 69 = dktX0_flat_3 := dk_seg dksX0_flat_2 22 rfl rfl
theorem dksX0_flat_4 : cX0_flat.data.toList.drop 93 = dktX0_flat_4 := dk_seg dksX0_flat_3 24 rfl rfl
theorem dksX0_flat_5 : cX0_flat.data.toList.drop 117 = dktX0_flat_5 := dk_seg dksX0_flat_4 24 rfl rfl
theorem dksX0_flat_6 : cX0_flat.data.toList.drop 141 = dktX0_flat_6 := dk_seg dksX0_flat_5 24 rfl rfl
theorem dksX0_flat_7 : cX0_flat.data.toList.drop 165 = dktX0_flat_7 := dk_seg dksX0_flat_6 24 rfl rfl
theorem dksX0_flat_8 : cX0_flat.data.toList.drop 189 = dktX0_flat_8 := dk_seg dksX0_flat_7 24 rfl rfl
theorem dX0_flat_0 : decode cX0_flat 0 = .ok (.aload_n 0, 1) := dk_42 (dk_at dksX0_flat_0 0 rfl rfl)
theorem dX0_flat_1 : decode cX0_flat 1 = .ok (.iload_n 1, 1) := dk_27 (dk_at dksX0_flat_0 1 rfl rfl)
theorem dX0_flat_2 : decode cX0_flat 2 = .ok (.invokevirtual 143, 3) := dk_182 0 143 (dk_at dksX0_flat_0 2 rfl rfl)
theorem dX0_flat_5 : decode cX0_flat 5 = .ok (.ifCond .ne 10, 3) := dk_154 0 10 (dk_at dksX0_flat_0 5 rfl rfl)
theorem dX0_flat_8 : decode cX0_flat 8 = .ok (.aload_n 0, 1) := dk_42 (dk_at dksX0_flat_0 8 rfl rfl)
theorem dX0_flat_9 : decode cX0_flat 9 = .ok (.bipush 7, 2) := dk_16 7 (dk_at dksX0_flat_0 9 rfl rfl)
theorem dX0_flat_11 : decode cX0_flat 11 = .ok (.invokevirtual 47, 3) := dk_182 0 47 (dk_at dksX0_flat_0 11 rfl rfl)
theorem dX0_flat_14 : decode cX0_flat 14 = .ok (.ireturn, 1) := dk_172 (dk_at dksX0_flat_0 14 rfl rfl)
theorem dX0_flat_15 : decode cX0_flat 15 = .ok (.aload_n 0, 1) := dk_42 (dk_at dksX0_flat_0 15 rfl rfl)
theorem dX0_flat_16 : decode cX0_flat 16 = .ok (.getfield 18, 3) := dk_180 0 18 (dk_at dksX0_flat_0 16 rfl rfl)
theorem dX0_flat_19 : decode cX0_flat 19 = .ok (.iload_n 1, 1) := dk_27 (dk_at dksX0_flat_0 19 rfl rfl)
theorem dX0_flat_20 : decode cX0_flat 20 = .ok (.aaload, 1) := dk_50 (dk_at dksX0_flat_0 20 rfl rfl)
theorem dX0_flat_21 : decode cX0_flat 21 = .ok (.getfield 96, 3) := dk_180 0 96 (dk_at dksX0_flat_0 21 rfl rfl)
theorem dX0_flat_24 : decode cX0_flat 24 = .ok (.astore_n 2, 1) := dk_77 (dk_at dksX0_flat_1 0 rfl rfl)
theorem dX0_flat_25 : decode cX0_flat 25 = .ok (.aload_n 0, 1) := dk_42 (dk_at dksX0_flat_1 1 rfl rfl)
theorem dX0_flat_26 : decode cX0_flat 26 = .ok (.getfield 18, 3) := dk_180 0 18 (dk_at dksX0_flat_1 2 rfl rfl)
theorem dX0_flat_29 : decode cX0_flat 29 = .ok (.iload_n 1, 1) := dk_27 (dk_at dksX0_flat_1 5 rfl rfl)
theorem dX0_flat_30 : decode cX0_flat 30 = .ok (.aaload, 1) := dk_50 (dk_at dksX0_flat_1 6 rfl rfl)
theorem dX0_flat_31 : decode cX0_flat 31 = .ok (.getfield 101, 3) := dk_180 0 101 (dk_at dksX0_flat_1 7 rfl rfl)
theorem dX0_flat_34 : decode cX0_flat 34 = .ok (.checkcast 58, 3) := dk_192 0 58 (dk_at dksX0_flat_1 10 rfl rfl)
theorem dX0_flat_37 : decode cX0_flat 37 = .ok (.astore_n 3, 1) := dk_78 (dk_at dksX0_flat_1 13 rfl rfl)
theorem dX0_flat_38 : decode cX0_flat 38 = .ok (.aload_n 3, 1) := dk_45 (dk_at dksX0_flat_1 14 rfl rfl)
theorem dX0_flat_39 : decode cX0_flat 39 = .ok (.astore 4, 2) := dk_58 4 (dk_at dksX0_flat_1 15 rfl rfl)
theorem dX0_flat_41 : decode cX0_flat 41 = .ok (.aload 4, 2) := dk_25 4 (dk_at dksX0_flat_1 17 rfl rfl)
theorem dX0_flat_43 : decode cX0_flat 43 = .ok (.arraylength, 1) := dk_190 (dk_at dksX0_flat_1 19 rfl rfl)
theorem dX0_flat_44 : decode cX0_flat 44 = .ok (.istore 5, 2) := dk_54 5 (dk_at dksX0_flat_1 20 rfl rfl)
theorem dX0_flat_46 : decode cX0_flat 46 = .ok (.iconst 0, 1) := dk_3 (dk_at dksX0_flat_1 22 rfl rfl)
theorem dX0_flat_47 : decode cX0_flat 47 = .ok (.istore 6, 2) := dk_54 6 (dk_at dksX0_flat_2 0 rfl rfl)
theorem dX0_flat_49 : decode cX0_flat 49 = .ok (.iload 6, 2) := dk_21 6 (dk_at dksX0_flat_2 2 rfl rfl)
theorem dX0_flat_51 : decode cX0_flat 51 = .ok (.iload 5, 2) := dk_21 5 (dk_at dksX0_flat_2 4 rfl rfl)
theorem dX0_flat_53 : decode cX0_flat 53 = .ok (.if_icmp .ge 36, 3) := dk_162 0 36 (dk_at dksX0_flat_2 6 rfl rfl)
theorem dX0_flat_56 : decode cX0_flat 56 = .ok (.aload 4, 2) := dk_25 4 (dk_at dksX0_flat_2 9 rfl rfl)
theorem dX0_flat_58 : decode cX0_flat 58 = .ok (.iload 6, 2) := dk_21 6 (dk_at dksX0_flat_2 11 rfl rfl)
theorem dX0_flat_60 : decode cX0_flat 60 = .ok (.aaload, 1) := dk_50 (dk_at dksX0_flat_2 13 rfl rfl)
theorem dX0_flat_61 : decode cX0_flat 61 = .ok (.astore 7, 2) := dk_58 7 (dk_at dksX0_flat_2 14 rfl rfl)
theorem dX0_flat_63 : decode cX0_flat 63 = .ok (.aload 7, 2) := dk_25 7 (dk_at dksX0_flat_2 16 rfl rfl)
theorem dX0_flat_65 : decode cX0_flat 65 = .ok (.arraylength, 1) := dk_190 (dk_at dksX0_flat_2 18 rfl rfl)
theorem dX0_flat_66 : decode cX0_flat 66 = .ok (.i2l, 1) := dk_133 (dk_at dksX0_flat_2 19 rfl rfl)
theorem dX0_flat_67 : decode cX0_flat 67 = .ok (.aload_n 2, 1) := dk_44 (dk_at dksX0_flat_2 20 rfl rfl)
theorem dX0_flat_68 : decode cX0_flat 68 = .ok (.iconst 1, 1) := dk_4 (dk_at dksX0_flat_2 21 rfl rfl)
theorem dX0_flat_69 : decode cX0_flat 69 = .ok (.invokevirtual 124, 3) := dk_182 0 124 (dk_at dksX0_flat_3 0 rfl rfl)
theorem dX0_flat_72 : decode cX0_flat 72 = .ok (.lcmp, 1) := dk_148 (dk_at dksX0_flat_3 3 rfl rfl)
theorem dX0_flat_73 : decode cX0_flat 73 = .ok (.ifCond .eq 10, 3) := dk_153 0 10 (dk_at dksX0_flat_3 4 rfl rfl)
theorem dX0_flat_76 : decode cX0_flat 76 = .ok (.aload_n 0, 1) := dk_42 (dk_at dksX0_flat_3 7 rfl rfl)
theorem dX0_flat_77 : decode cX0_flat 77 = .ok (.bipush 11, 2) := dk_16 11 (dk_at dksX0_flat_3 8 rfl rfl)
theorem dX0_flat_79 : decode cX0_flat 79 = .ok (.invokevirtual 47, 3) := dk_182 0 47 (dk_at dksX0_flat_3 10 rfl rfl)
theorem dX0_flat_82 : decode cX0_flat 82 = .ok (.ireturn, 1) := dk_172 (dk_at dksX0_flat_3 13 rfl rfl)
theorem dX0_flat_83 : decode cX0_flat 83 = .ok (.iinc 6 1, 3) := dk_132 6 1 (dk_at dksX0_flat_3 14 rfl rfl)
theorem dX0_flat_86 : decode cX0_flat 86 = .ok (.goto (-37), 3) := dk_167 255 219 (dk_at dksX0_flat_3 17 rfl rfl)
theorem dX0_flat_89 : decode cX0_flat 89 = .ok (.aload_n 0, 1) := dk_42 (dk_at dksX0_flat_3 20 rfl rfl)
theorem dX0_flat_90 : decode cX0_flat 90 = .ok (.getfield 51, 3) := dk_180 0 51 (dk_at dksX0_flat_3 21 rfl rfl)
theorem dX0_flat_93 : decode cX0_flat 93 = .ok (.bipush 24, 2) := dk_16 24 (dk_at dksX0_flat_4 0 rfl rfl)
theorem dX0_flat_95 : decode cX0_flat 95 = .ok (.if_icmp .ne 10, 3) := dk_160 0 10 (dk_at dksX0_flat_4 2 rfl rfl)
theorem dX0_flat_98 : decode cX0_flat 98 = .ok (.aload_n 0, 1) := dk_42 (dk_at dksX0_flat_4 5 rfl rfl)
theorem dX0_flat_99 : decode cX0_flat 99 = .ok (.bipush 8, 2) := dk_16 8 (dk_at dksX0_flat_4 6 rfl rfl)
theorem dX0_flat_101 : decode cX0_flat 101 = .ok (.invokevirtual 47, 3) := dk_182 0 47 (dk_at dksX0_flat_4 8 rfl rfl)
theorem dX0_flat_104 : decode cX0_flat 104 = .ok (.ireturn, 1) := dk_172 (dk_at dksX0_flat_4 11 rfl rfl)
theorem dX0_flat_105 : decode cX0_flat 105 = .ok (.aload_n 2, 1) := dk_44 (dk_at dksX0_flat_4 12 rfl rfl)
theorem dX0_flat_106 : decode cX0_flat 106 = .ok (.invokevirtual 120, 3) := dk_182 0 120 (dk_at dksX0_flat_4 13 rfl rfl)
theorem dX0_flat_109 : decode cX0_flat 109 = .ok (.newarray .int, 2) := dk_188_10 (dk_at dksX0_flat_4 16 rfl rfl)
theorem dX0_flat_111 : decode cX0_flat 111 = .ok (.astore 4, 2) := dk_58 4 (dk_at dksX0_flat_4 18 rfl rfl)
theorem dX0_flat_113 : decode cX0_flat 113 = .ok (.iconst 0, 1) := dk_3 (dk_at dksX0_flat_4 20 rfl rfl)
theorem dX0_flat_114 : decode cX0_flat 114 = .ok (.istore 5, 2) := dk_54 5 (dk_at dksX0_flat_4 21 rfl rfl)
theorem dX0_flat_116 : decode cX0_flat 116 = .ok (.aload_n 3, 1) := dk_45 (dk_at dksX0_flat_4 23 rfl rfl)
theorem dX0_flat_117 : decode cX0_flat 117 = .ok (.astore 6, 2) := dk_58 6 (dk_at dksX0_flat_5 0 rfl rfl)
theorem dX0_flat_119 : decode cX0_flat 119 = .ok (.aload 6, 2) := dk_25 6 (dk_at dksX0_flat_5 2 rfl rfl)
theorem dX0_flat_121 : decode cX0_flat 121 = .ok (.arraylength, 1) := dk_190 (dk_at dksX0_flat_5 4 rfl rfl)
theorem dX0_flat_122 : decode cX0_flat 122 = .ok (.istore 7, 2) := dk_54 7 (dk_at dksX0_flat_5 5 rfl rfl)
theorem dX0_flat_124 : decode cX0_flat 124 = .ok (.iconst 0, 1) := dk_3 (dk_at dksX0_flat_5 7 rfl rfl)
theorem dX0_flat_125 : decode cX0_flat 125 = .ok (.istore 8, 2) := dk_54 8 (dk_at dksX0_flat_5 8 rfl rfl)
theorem dX0_flat_127 : decode cX0_flat 127 = .ok (.iload 8, 2) := dk_21 8 (dk_at dksX0_flat_5 10 rfl rfl)
theorem dX0_flat_129 : decode cX0_flat 129 = .ok (.iload 7, 2) := dk_21 7 (dk_at dksX0_flat_5 12 rfl rfl)
theorem dX0_flat_131 : decode cX0_flat 131 = .ok (.if_icmp .ge 37, 3) := dk_162 0 37 (dk_at dksX0_flat_5 14 rfl rfl)
theorem dX0_flat_134 : decode cX0_flat 134 = .ok (.aload 6, 2) := dk_25 6 (dk_at dksX0_flat_5 17 rfl rfl)
theorem dX0_flat_136 : decode cX0_flat 136 = .ok (.iload 8, 2) := dk_21 8 (dk_at dksX0_flat_5 19 rfl rfl)
theorem dX0_flat_138 : decode cX0_flat 138 = .ok (.aaload, 1) := dk_50 (dk_at dksX0_flat_5 21 rfl rfl)
theorem dX0_flat_139 : decode cX0_flat 139 = .ok (.astore 9, 2) := dk_58 9 (dk_at dksX0_flat_5 22 rfl rfl)
theorem dX0_flat_141 : decode cX0_flat 141 = .ok (.aload 9, 2) := dk_25 9 (dk_at dksX0_flat_6 0 rfl rfl)
theorem dX0_flat_143 : decode cX0_flat 143 = .ok (.iconst 0, 1) := dk_3 (dk_at dksX0_flat_6 2 rfl rfl)
theorem dX0_flat_144 : decode cX0_flat 144 = .ok (.aload 4, 2) := dk_25 4 (dk_at dksX0_flat_6 3 rfl rfl)
theorem dX0_flat_146 : decode cX0_flat 146 = .ok (.iload 5, 2) := dk_21 5 (dk_at dksX0_flat_6 5 rfl rfl)
theorem dX0_flat_148 : decode cX0_flat 148 = .ok (.aload 9, 2) := dk_25 9 (dk_at dksX0_flat_6 7 rfl rfl)
theorem dX0_flat_150 : decode cX0_flat 150 = .ok (.arraylength, 1) := dk_190 (dk_at dksX0_flat_6 9 rfl rfl)
theorem dX0_flat_151 : decode cX0_flat 151 = .ok (.invokestatic 150, 3) := dk_184 0 150 (dk_at dksX0_flat_6 10 rfl rfl)
theorem dX0_flat_154 : decode cX0_flat 154 = .ok (.iload 5, 2) := dk_21 5 (dk_at dksX0_flat_6 13 rfl rfl)
theorem dX0_flat_156 : decode cX0_flat 156 = .ok (.aload 9, 2) := dk_25 9 (dk_at dksX0_flat_6 15 rfl rfl)
theorem dX0_flat_158 : decode cX0_flat 158 = .ok (.arraylength, 1) := dk_190 (dk_at dksX0_flat_6 17 rfl rfl)
theorem dX0_flat_159 : decode cX0_flat 159 = .ok (.iadd, 1) := dk_96 (dk_at dksX0_flat_6 18 rfl rfl)
theorem dX0_flat_160 : decode cX0_flat 160 = .ok (.istore 5, 2) := dk_54 5 (dk_at dksX0_flat_6 19 rfl rfl)
theorem dX0_flat_162 : decode cX0_flat 162 = .ok (.iinc 8 1, 3) := dk_132 8 1 (dk_at dksX0_flat_6 21 rfl rfl)
theorem dX0_flat_165 : decode cX0_flat 165 = .ok (.goto (-38), 3) := dk_167 255 218 (dk_at dksX0_flat_7 0 rfl rfl)
theorem dX0_flat_168 : decode cX0_flat 168 = .ok (.aload_n 0, 1) := dk_42 (dk_at dksX0_flat_7 3 rfl rfl)
theorem dX0_flat_169 : decode cX0_flat 169 = .ok (.aload_n 2, 1) := dk_44 (dk_at dksX0_flat_7 4 rfl rfl)
theorem dX0_flat_170 : decode cX0_flat 170 = .ok (.aload 4, 2) := dk_25 4 (dk_at dksX0_flat_7 5 rfl rfl)
theorem dX0_flat_172 : decode cX0_flat 172 = .ok (.invokevirtual 137, 3) := dk_182 0 137 (dk_at dksX0_flat_7 7 rfl rfl)
theorem dX0_flat_175 : decode cX0_flat 175 = .ok (.ireturn, 1) := dk_172 (dk_at dksX0_flat_7 10 rfl rfl)
theorem dX0_flat_176 : decode cX0_flat 176 = .ok (.astore_n 3, 1) := dk_78 (dk_at dksX0_flat_7 11 rfl rfl)
theorem dX0_flat_177 : decode cX0_flat 177 = .ok (.aload_n 0, 1) := dk_42 (dk_at dksX0_flat_7 12 rfl rfl)
theorem dX0_flat_178 : decode cX0_flat 178 = .ok (.iconst 2, 1) := dk_5 (dk_at dksX0_flat_7 13 rfl rfl)
theorem dX0_flat_179 : decode cX0_flat 179 = .ok (.invokevirtual 47, 3) := dk_182 0 47 (dk_at dksX0_flat_7 14 rfl rfl)
theorem dX0_flat_182 : decode cX0_flat 182 = .ok (.ireturn, 1) := dk_172 (dk_at dksX0_flat_7 17 rfl rfl)
theorem dX0_flat_183 : decode cX0_flat 183 = .ok (.astore_n 3, 1) := dk_78 (dk_at dksX0_flat_7 18 rfl rfl)
theorem dX0_flat_184 : decode cX0_flat 184 = .ok (.aload_n 0, 1) := dk_42 (dk_at dksX0_flat_7 19 rfl rfl)
theorem dX0_flat_185 : decode cX0_flat 185 = .ok (.iconst 1, 1) := dk_4 (dk_at dksX0_flat_7 20 rfl rfl)
theorem dX0_flat_186 : decode cX0_flat 186 = .ok (.invokevirtual 47, 3) := dk_182 0 47 (dk_at dksX0_flat_7 21 rfl rfl)
theorem dX0_flat_189 : decode cX0_flat 189 = .ok (.ireturn, 1) := dk_172 (dk_at dksX0_flat_8 0 rfl rfl)
abbrev cX0_ragged : ByteArray := prog_1_method_27_code
def yX0_ragged : MethodName := ⟨RX0, "ragged", "(III)I"⟩
def dkwX0_ragged_4 : List UInt8 := [182, 0, 47, 172, 58, 5, 42, 7, 182, 0, 47, 172]
abbrev dktX0_ragged_4 : List UInt8 := dkwX0_ragged_4 ++ []
def dkwX0_ragged_3 : List UInt8 := [25, 4, 180, 0, 105, 3, 46, 100, 29, 188, 10, 83, 42, 4, 182, 0, 114, 172, 58, 5, 42, 5]
abbrev dktX0_ragged_3 : List UInt8 := dkwX0_ragged_3 ++ dktX0_ragged_4
def dkwX0_ragged_2 : List UInt8 := [154, 0, 9, 42, 3, 182, 0, 174, 172, 29, 16, 100, 164, 0, 9, 42, 8, 182, 0, 47, 172, 25, 5, 28]
abbrev dktX0_ragged_2 : List UInt8 := dkwX0_ragged_2 ++ dktX0_ragged_3
def dkwX0_ragged_1 : List UInt8 := [58, 4, 42, 180, 0, 18, 27, 50, 180, 0, 101, 192, 0, 58, 58, 5, 25, 4, 3, 28, 182, 0, 180]
abbrev dktX0_ragged_1 : List UInt8 := dkwX0_ragged_1 ++ dktX0_ragged_2
def dkwX0_ragged_0 : List UInt8 := [42, 27, 182, 0, 143, 154, 0, 10, 42, 16, 7, 182, 0, 47, 172, 42, 180, 0, 18, 27, 50, 180, 0, 96]
abbrev dktX0_ragged_0 : List UInt8 := dkwX0_ragged_0 ++ dktX0_ragged_1
theorem dksX0_ragged_0 : cX0_ragged.data.toList.drop 0 = dktX0_ragged_0 := by decide +kernel
theorem dksX0_ragged_1 : cX0_ragged.data.toList.drop 24 = dktX0_ragged_1 := dk_seg dksX0_ragged_0 24 rfl rfl
theorem dksX0_ragged_2 : cX0_ragged.data.toList.drop 47 = dktX0_ragged_2 := dk_seg dksX0_ragged_1 23 rfl rfl
theorem dksX0_ragged_3 : cX0_ragged.data.toList.drop 71 = dktX0_ragged_3 := dk_seg dksX0_ragged_2 24 rfl rfl
theorem dksX0_ragged_4 : cX0_ragged.data.toList.drop 93 = dktX0_ragged_4 := dk_seg dksX0_ragged_3 22 rfl rfl
theorem dX0_ragged_0 : decode cX0_ragged 0 = .ok (.aload_n 0, 1) := dk_42 (dk_at dksX0_ragged_0 0 rfl rfl)
theorem dX0_ragged_1 : decode cX0_ragged 1 = .ok (.iload_n 1, 1) := dk_27 (dk_at dksX0_ragged_0 1 rfl rfl)
theorem dX0_ragged_2 : decode cX0_ragged 2 = .ok (.invokevirtual 143, 3) := dk_182 0 143 (dk_at dksX0_ragged_0 2 rfl rfl)
theorem dX0_ragged_5 : decode cX0_ragged 5 = .ok (.ifCond .ne 10, 3) := dk_154 0 10 (dk_at dksX0_ragged_0 5 rfl rfl)
theorem dX0_ragged_8 : decode cX0_ragged 8 = .ok (.aload_n 0, 1) := dk_42 (dk_at dksX0_ragged_0 8 rfl rfl)
theorem dX0_ragged_9 : decode cX0_ragged 9 = .ok (.bipush 7, 2) := dk_16 7 (dk_at dksX0_ragged_0 9 rfl rfl)
theorem dX0_ragged_11 : decode cX0_ragged 11 = .ok (.invokevirtual 47, 3) := dk_182 0 47 (dk_at dksX0_ragged_0 11 rfl rfl)
theorem dX0_ragged_14 : decode cX0_ragged 14 = .ok (.ireturn, 1) := dk_172 (dk_at dksX0_ragged_0 14 rfl rfl)
theorem dX0_ragged_15 : decode cX0_ragged 15 = .ok (.aload_n 0, 1) := dk_42 (dk_at dksX0_ragged_0 15 rfl rfl)
theorem dX0_ragged_16 : decode cX0_ragged 16 = .ok (.getfield 18, 3) := dk_180 0 18 (dk_at dksX0_ragged_0 16 rfl rfl)
theorem dX0_ragged_19 : decode cX0_ragged 19 = .ok (.iload_n 1, 1) := dk_27 (dk_at dksX0_ragged_0 19 rfl rfl)
theorem dX0_ragged_20 : decode cX0_ragged 20 = .ok (.aaload, 1) := dk_50 (dk_at dksX0_ragged_0 20 rfl rfl)
theorem dX0_ragged_21 : decode cX0_ragged 21 = .ok (.getfield 96, 3) := dk_180 0 96 (dk_at dksX0_ragged_0 21 rfl rfl)
theorem dX0_ragged_24 : decode cX0_ragged 24 = .ok (.astore 4, 2) := dk_58 4 (dk_at dksX0_ragged_1 0 rfl rfl)
theorem dX0_ragged_26 : decode cX0_ragged 26 = .ok (.aload_n 0, 1) := dk_42 (dk_at dksX0_ragged_1 2 rfl rfl)
theorem dX0_ragged_27 : decode cX0_ragged 27 = .ok (.getfield 18, 3) := dk_180 0 18 (dk_at dksX0_ragged_1 3 rfl rfl)
theorem dX0_ragged_30 : decode cX0_ragged 30 = .ok (.iload_n 1, 1) := dk_27 (dk_at dksX0_ragged_1 6 rfl rfl)
theorem dX0_ragged_31 : decode cX0_ragged 31 = .ok (.aaload, 1) := dk_50 (dk_at dksX0_ragged_1 7 rfl rfl)
theorem dX0_ragged_32 : decode cX0_ragged 32 = .ok (.getfield 101, 3) := dk_180 0 101 (dk_at dksX0_ragged_1 8 rfl rfl)
theorem dX0_ragged_35 : decode cX0_ragged 35 = .ok (.checkcast 58, 3) := dk_192 0 58 (dk_at dksX0_ragged_1 11 rfl rfl)
theorem dX0_ragged_38 : decode cX0_ragged 38 = .ok (.astore 5, 2) := dk_58 5 (dk_at dksX0_ragged_1 14 rfl rfl)
theorem dX0_ragged_40 : decode cX0_ragged 40 = .ok (.aload 4, 2) := dk_25 4 (dk_at dksX0_ragged_1 16 rfl rfl)
theorem dX0_ragged_42 : decode cX0_ragged 42 = .ok (.iconst 0, 1) := dk_3 (dk_at dksX0_ragged_1 18 rfl rfl)
theorem dX0_ragged_43 : decode cX0_ragged 43 = .ok (.iload_n 2, 1) := dk_28 (dk_at dksX0_ragged_1 19 rfl rfl)
theorem dX0_ragged_44 : decode cX0_ragged 44 = .ok (.invokevirtual 180, 3) := dk_182 0 180 (dk_at dksX0_ragged_1 20 rfl rfl)
theorem dX0_ragged_47 : decode cX0_ragged 47 = .ok (.ifCond .ne 9, 3) := dk_154 0 9 (dk_at dksX0_ragged_2 0 rfl rfl)
theorem dX0_ragged_50 : decode cX0_ragged 50 = .ok (.aload_n 0, 1) := dk_42 (dk_at dksX0_ragged_2 3 rfl rfl)
theorem dX0_ragged_51 : decode cX0_ragged 51 = .ok (.iconst 0, 1) := dk_3 (dk_at dksX0_ragged_2 4 rfl rfl)
theorem dX0_ragged_52 : decode cX0_ragged 52 = .ok (.invokevirtual 174, 3) := dk_182 0 174 (dk_at dksX0_ragged_2 5 rfl rfl)
theorem dX0_ragged_55 : decode cX0_ragged 55 = .ok (.ireturn, 1) := dk_172 (dk_at dksX0_ragged_2 8 rfl rfl)
theorem dX0_ragged_56 : decode cX0_ragged 56 = .ok (.iload_n 3, 1) := dk_29 (dk_at dksX0_ragged_2 9 rfl rfl)
theorem dX0_ragged_57 : decode cX0_ragged 57 = .ok (.bipush 100, 2) := dk_16 100 (dk_at dksX0_ragged_2 10 rfl rfl)
theorem dX0_ragged_59 : decode cX0_ragged 59 = .ok (.if_icmp .le 9, 3) := dk_164 0 9 (dk_at dksX0_ragged_2 12 rfl rfl)
theorem dX0_ragged_62 : decode cX0_ragged 62 = .ok (.aload_n 0, 1) := dk_42 (dk_at dksX0_ragged_2 15 rfl rfl)
theorem dX0_ragged_63 : decode cX0_ragged 63 = .ok (.iconst 5, 1) := dk_8 (dk_at dksX0_ragged_2 16 rfl rfl)
theorem dX0_ragged_64 : decode cX0_ragged 64 = .ok (.invokevirtual 47, 3) := dk_182 0 47 (dk_at dksX0_ragged_2 17 rfl rfl)
theorem dX0_ragged_67 : decode cX0_ragged 67 = .ok (.ireturn, 1) := dk_172 (dk_at dksX0_ragged_2 20 rfl rfl)
theorem dX0_ragged_68 : decode cX0_ragged 68 = .ok (.aload 5, 2) := dk_25 5 (dk_at dksX0_ragged_2 21 rfl rfl)
theorem dX0_ragged_70 : decode cX0_ragged 70 = .ok (.iload_n 2, 1) := dk_28 (dk_at dksX0_ragged_2 23 rfl rfl)
theorem dX0_ragged_71 : decode cX0_ragged 71 = .ok (.aload 4, 2) := dk_25 4 (dk_at dksX0_ragged_3 0 rfl rfl)
theorem dX0_ragged_73 : decode cX0_ragged 73 = .ok (.getfield 105, 3) := dk_180 0 105 (dk_at dksX0_ragged_3 2 rfl rfl)
theorem dX0_ragged_76 : decode cX0_ragged 76 = .ok (.iconst 0, 1) := dk_3 (dk_at dksX0_ragged_3 5 rfl rfl)
theorem dX0_ragged_77 : decode cX0_ragged 77 = .ok (.iaload, 1) := dk_46 (dk_at dksX0_ragged_3 6 rfl rfl)
theorem dX0_ragged_78 : decode cX0_ragged 78 = .ok (.isub, 1) := dk_100 (dk_at dksX0_ragged_3 7 rfl rfl)
theorem dX0_ragged_79 : decode cX0_ragged 79 = .ok (.iload_n 3, 1) := dk_29 (dk_at dksX0_ragged_3 8 rfl rfl)
theorem dX0_ragged_80 : decode cX0_ragged 80 = .ok (.newarray .int, 2) := dk_188_10 (dk_at dksX0_ragged_3 9 rfl rfl)
theorem dX0_ragged_82 : decode cX0_ragged 82 = .ok (.aastore, 1) := dk_83 (dk_at dksX0_ragged_3 11 rfl rfl)
theorem dX0_ragged_83 : decode cX0_ragged 83 = .ok (.aload_n 0, 1) := dk_42 (dk_at dksX0_ragged_3 12 rfl rfl)
theorem dX0_ragged_84 : decode cX0_ragged 84 = .ok (.iconst 1, 1) := dk_4 (dk_at dksX0_ragged_3 13 rfl rfl)
theorem dX0_ragged_85 : decode cX0_ragged 85 = .ok (.invokevirtual 114, 3) := dk_182 0 114 (dk_at dksX0_ragged_3 14 rfl rfl)
theorem dX0_ragged_88 : decode cX0_ragged 88 = .ok (.ireturn, 1) := dk_172 (dk_at dksX0_ragged_3 17 rfl rfl)
theorem dX0_ragged_89 : decode cX0_ragged 89 = .ok (.astore 5, 2) := dk_58 5 (dk_at dksX0_ragged_3 18 rfl rfl)
theorem dX0_ragged_91 : decode cX0_ragged 91 = .ok (.aload_n 0, 1) := dk_42 (dk_at dksX0_ragged_3 20 rfl rfl)
theorem dX0_ragged_92 : decode cX0_ragged 92 = .ok (.iconst 2, 1) := dk_5 (dk_at dksX0_ragged_3 21 rfl rfl)
theorem dX0_ragged_93 : decode cX0_ragged 93 = .ok (.invokevirtual 47, 3) := dk_182 0 47 (dk_at dksX0_ragged_4 0 rfl rfl)
theorem dX0_ragged_96 : decode cX0_ragged 96 = .ok (.ireturn, 1) := dk_172 (dk_at dksX0_ragged_4 3 rfl rfl)
theorem dX0_ragged_97 : decode cX0_ragged 97 = .ok (.astore 5, 2) := dk_58 5 (dk_at dksX0_ragged_4 4 rfl rfl)
theorem dX0_ragged_99 : decode cX0_ragged 99 = .ok (.aload_n 0, 1) := dk_42 (dk_at dksX0_ragged_4 6 rfl rfl)
theorem dX0_ragged_100 : decode cX0_ragged 100 = .ok (.iconst 4, 1) := dk_7 (dk_at dksX0_ragged_4 7 rfl rfl)
theorem dX0_ragged_101 : decode cX0_ragged 101 = .ok (.invokevirtual 47, 3) := dk_182 0 47 (dk_at dksX0_ragged_4 8 rfl rfl)
theorem dX0_ragged_104 : decode cX0_ragged 104 = .ok (.ireturn, 1) := dk_172 (dk_at dksX0_ragged_4 11 rfl rfl)
abbrev cX0_without : ByteArray := prog_1_method_28_code
def yX0_without : MethodName := ⟨RX0, "without", "(II)I"⟩
def dkwX0_without_3 : List UInt8 := [58, 4, 42, 5, 182, 0, 47, 172]
abbrev dktX0_without_3 : List UInt8 := dkwX0_without_3 ++ []
def dkwX0_without_2 : List UInt8 := [42, 3, 182, 0, 174, 172, 25, 4, 28, 45, 180, 0, 105, 3, 46, 100, 1, 83, 42, 4, 182, 0, 114, 172]
abbrev dktX0_without_2 : List UInt8 := dkwX0_without_2 ++ dktX0_without_3
def dkwX0_without_1 : List UInt8 := [78, 42, 180, 0, 18, 27, 50, 180, 0, 101, 192, 0, 58, 58, 4, 45, 3, 28, 182, 0, 180, 154, 0, 9]
abbrev dktX0_without_1 : List UInt8 := dkwX0_without_1 ++ dktX0_without_2
def dkwX0_without_0 : List UInt8 := [42, 27, 182, 0, 143, 154, 0, 10, 42, 16, 7, 182, 0, 47, 172, 42, 180, 0, 18, 27, 50, 180, 0, 96]
abbrev dktX0_without_0 : List UInt8 := dkwX0_without_0 ++ dktX0_without_1
theorem dksX0_without_0 : cX0_without.data.toList.drop 0 = dktX0_without_0 := by decide +kernel
theorem dksX0_without_1 : cX0_without.data.toList.drop 24 = dktX0_without_1 := dk_seg dksX0_without_0 24 rfl rfl
theorem dksX0_without_2 : cX0_without.data.toList.drop 48 = dktX0_without_2 := dk_seg dksX0_without_1 24 rfl rfl
theorem dksX0_without_3 : cX0_without.data.toList.drop 72 = dktX0_without_3 := dk_seg dksX0_without_2 24 rfl rfl
theorem dX0_without_0 : decode cX0_without 0 = .ok (.aload_n 0, 1) := dk_42 (dk_at dksX0_without_0 0 rfl rfl)
theorem dX0_without_1 : decode cX0_without 1 = .ok (.iload_n 1, 1) := dk_27 (dk_at dksX0_without_0 1 rfl rfl)
theorem dX0_without_2 : decode cX0_without 2 = .ok (.invokevirtual 143, 3) := dk_182 0 143 (dk_at dksX0_without_0 2 rfl rfl)
theorem dX0_without_5 : decode cX0_without 5 = .ok (.ifCond .ne 10, 3) := dk_154 0 10 (dk_at dksX0_without_0 5 rfl rfl)
theorem dX0_without_8 : decode cX0_without 8 = .ok (.aload_n 0, 1) := dk_42 (dk_at dksX0_without_0 8 rfl rfl)
theorem dX0_without_9 : decode cX0_without 9 = .ok (.bipush 7, 2) := dk_16 7 (dk_at dksX0_without_0 9 rfl rfl)
theorem dX0_without_11 : decode cX0_without 11 = .ok (.invokevirtual 47, 3) := dk_182 0 47 (dk_at dksX0_without_0 11 rfl rfl)
theorem dX0_without_14 : decode cX0_without 14 = .ok (.ireturn, 1) := dk_172 (dk_at dksX0_without_0 14 rfl rfl)
theorem dX0_without_15 : decode cX0_without 15 = .ok (.aload_n 0, 1) := dk_42 (dk_at dksX0_without_0 15 rfl rfl)
theorem dX0_without_16 : decode cX0_without 16 = .ok (.getfield 18, 3) := dk_180 0 18 (dk_at dksX0_without_0 16 rfl rfl)
theorem dX0_without_19 : decode cX0_without 19 = .ok (.iload_n 1, 1) := dk_27 (dk_at dksX0_without_0 19 rfl rfl)
theorem dX0_without_20 : decode cX0_without 20 = .ok (.aaload, 1) := dk_50 (dk_at dksX0_without_0 20 rfl rfl)
theorem dX0_without_21 : decode cX0_without 21 = .ok (.getfield 96, 3) := dk_180 0 96 (dk_at dksX0_without_0 21 rfl rfl)
theorem dX0_without_24 : decode cX0_without 24 = .ok (.astore_n 3, 1) := dk_78 (dk_at dksX0_without_1 0 rfl rfl)
theorem dX0_without_25 : decode cX0_without 25 = .ok (.aload_n 0, 1) := dk_42 (dk_at dksX0_without_1 1 rfl rfl)
theorem dX0_without_26 : decode cX0_without 26 = .ok (.getfield 18, 3) := dk_180 0 18 (dk_at dksX0_without_1 2 rfl rfl)
theorem dX0_without_29 : decode cX0_without 29 = .ok (.iload_n 1, 1) := dk_27 (dk_at dksX0_without_1 5 rfl rfl)
theorem dX0_without_30 : decode cX0_without 30 = .ok (.aaload, 1) := dk_50 (dk_at dksX0_without_1 6 rfl rfl)
theorem dX0_without_31 : decode cX0_without 31 = .ok (.getfield 101, 3) := dk_180 0 101 (dk_at dksX0_without_1 7 rfl rfl)
theorem dX0_without_34 : decode cX0_without 34 = .ok (.checkcast 58, 3) := dk_192 0 58 (dk_at dksX0_without_1 10 rfl rfl)
theorem dX0_without_37 : decode cX0_without 37 = .ok (.astore 4, 2) := dk_58 4 (dk_at dksX0_without_1 13 rfl rfl)
theorem dX0_without_39 : decode cX0_without 39 = .ok (.aload_n 3, 1) := dk_45 (dk_at dksX0_without_1 15 rfl rfl)
theorem dX0_without_40 : decode cX0_without 40 = .ok (.iconst 0, 1) := dk_3 (dk_at dksX0_without_1 16 rfl rfl)
theorem dX0_without_41 : decode cX0_without 41 = .ok (.iload_n 2, 1) := dk_28 (dk_at dksX0_without_1 17 rfl rfl)
theorem dX0_without_42 : decode cX0_without 42 = .ok (.invokevirtual 180, 3) := dk_182 0 180 (dk_at dksX0_without_1 18 rfl rfl)
theorem dX0_without_45 : decode cX0_without 45 = .ok (.ifCond .ne 9, 3) := dk_154 0 9 (dk_at dksX0_without_1 21 rfl rfl)
theorem dX0_without_48 : decode cX0_without 48 = .ok (.aload_n 0, 1) := dk_42 (dk_at dksX0_without_2 0 rfl rfl)
theorem dX0_without_49 : decode cX0_without 49 = .ok (.iconst 0, 1) := dk_3 (dk_at dksX0_without_2 1 rfl rfl)
theorem dX0_without_50 : decode cX0_without 50 = .ok (.invokevirtual 174, 3) := dk_182 0 174 (dk_at dksX0_without_2 2 rfl rfl)
theorem dX0_without_53 : decode cX0_without 53 = .ok (.ireturn, 1) := dk_172 (dk_at dksX0_without_2 5 rfl rfl)
theorem dX0_without_54 : decode cX0_without 54 = .ok (.aload 4, 2) := dk_25 4 (dk_at dksX0_without_2 6 rfl rfl)
theorem dX0_without_56 : decode cX0_without 56 = .ok (.iload_n 2, 1) := dk_28 (dk_at dksX0_without_2 8 rfl rfl)
theorem dX0_without_57 : decode cX0_without 57 = .ok (.aload_n 3, 1) := dk_45 (dk_at dksX0_without_2 9 rfl rfl)
theorem dX0_without_58 : decode cX0_without 58 = .ok (.getfield 105, 3) := dk_180 0 105 (dk_at dksX0_without_2 10 rfl rfl)
theorem dX0_without_61 : decode cX0_without 61 = .ok (.iconst 0, 1) := dk_3 (dk_at dksX0_without_2 13 rfl rfl)
theorem dX0_without_62 : decode cX0_without 62 = .ok (.iaload, 1) := dk_46 (dk_at dksX0_without_2 14 rfl rfl)
theorem dX0_without_63 : decode cX0_without 63 = .ok (.isub, 1) := dk_100 (dk_at dksX0_without_2 15 rfl rfl)
theorem dX0_without_64 : decode cX0_without 64 = .ok (.aconst_null, 1) := dk_1 (dk_at dksX0_without_2 16 rfl rfl)
theorem dX0_without_65 : decode cX0_without 65 = .ok (.aastore, 1) := dk_83 (dk_at dksX0_without_2 17 rfl rfl)
theorem dX0_without_66 : decode cX0_without 66 = .ok (.aload_n 0, 1) := dk_42 (dk_at dksX0_without_2 18 rfl rfl)
theorem dX0_without_67 : decode cX0_without 67 = .ok (.iconst 1, 1) := dk_4 (dk_at dksX0_without_2 19 rfl rfl)
theorem dX0_without_68 : decode cX0_without 68 = .ok (.invokevirtual 114, 3) := dk_182 0 114 (dk_at dksX0_without_2 20 rfl rfl)
theorem dX0_without_71 : decode cX0_without 71 = .ok (.ireturn, 1) := dk_172 (dk_at dksX0_without_2 23 rfl rfl)
theorem dX0_without_72 : decode cX0_without 72 = .ok (.astore 4, 2) := dk_58 4 (dk_at dksX0_without_3 0 rfl rfl)
theorem dX0_without_74 : decode cX0_without 74 = .ok (.aload_n 0, 1) := dk_42 (dk_at dksX0_without_3 2 rfl rfl)
theorem dX0_without_75 : decode cX0_without 75 = .ok (.iconst 2, 1) := dk_5 (dk_at dksX0_without_3 3 rfl rfl)
theorem dX0_without_76 : decode cX0_without 76 = .ok (.invokevirtual 47, 3) := dk_182 0 47 (dk_at dksX0_without_3 4 rfl rfl)
theorem dX0_without_79 : decode cX0_without 79 = .ok (.ireturn, 1) := dk_172 (dk_at dksX0_without_3 7 rfl rfl)
abbrev cX0_tie : ByteArray := prog_1_method_29_code
def yX0_tie : MethodName := ⟨RX0, "tie", "(IIII)I"⟩
def dkwX0_tie_6 : List UInt8 := [5, 182, 0, 47, 172]
abbrev dktX0_tie_6 : List UInt8 := dkwX0_tie_6 ++ []
def dkwX0_tie_5 : List UInt8 := [100, 25, 8, 21, 4, 25, 6, 180, 0, 105, 3, 46, 100, 50, 83, 42, 4, 182, 0, 114, 172, 58, 7, 42]
abbrev dktX0_tie_5 : List UInt8 := dkwX0_tie_5 ++ dktX0_tie_6
def dkwX0_tie_4 : List UInt8 := [21, 4, 182, 0, 180, 154, 0, 9, 42, 4, 182, 0, 174, 172, 25, 7, 28, 25, 5, 180, 0, 105, 3, 46]
abbrev dktX0_tie_4 : List UInt8 := dkwX0_tie_4 ++ dktX0_tie_5
def dkwX0_tie_3 : List UInt8 := [192, 0, 58, 58, 8, 25, 5, 3, 28, 182, 0, 180, 154, 0, 9, 42, 3, 182, 0, 174, 172, 25, 6, 3]
abbrev dktX0_tie_3 : List UInt8 := dkwX0_tie_3 ++ dktX0_tie_4
def dkwX0_tie_2 : List UInt8 := [180, 0, 18, 27, 50, 180, 0, 101, 192, 0, 58, 58, 7, 42, 180, 0, 18, 29, 50, 180, 0, 101]
abbrev dktX0_tie_2 : List UInt8 := dkwX0_tie_2 ++ dktX0_tie_3
def dkwX0_tie_1 : List UInt8 := [180, 0, 18, 27, 50, 180, 0, 96, 58, 5, 42, 180, 0, 18, 29, 50, 180, 0, 96, 58, 6, 42]
abbrev dktX0_tie_1 : List UInt8 := dkwX0_tie_1 ++ dktX0_tie_2
def dkwX0_tie_0 : List UInt8 := [42, 27, 182, 0, 143, 153, 0, 11, 42, 29, 182, 0, 143, 154, 0, 10, 42, 16, 7, 182, 0, 47, 172, 42]
abbrev dktX0_tie_0 : List UInt8 := dkwX0_tie_0 ++ dktX0_tie_1
theorem dksX0_tie_0 : cX0_tie.data.toList.drop 0 = dktX0_tie_0 := by decide +kernel
theorem dksX0_tie_1 : cX0_tie.data.toList.drop 24 = dktX0_tie_1 := dk_seg dksX0_tie_0 24 rfl rfl
theorem dksX0_tie_2 : cX0_tie.data.toList.drop 46 = dktX0_tie_2 := dk_seg dksX0_tie_1 22 rfl rfl
theorem dksX0_tie_3 : cX0_tie.data.toList.drop 68 = dktX0_tie_3 := dk_seg dksX0_tie_2 22 rfl rfl
theorem dksX0_tie_4 : cX0_tie.data.toList.drop 92 = dktX0_tie_4 := dk_seg dksX0_tie_3 24 rfl rfl
theorem dksX0_tie_5 : cX0_tie.data.toList.drop 116 = dktX0_tie_5 := dk_seg dksX0_tie_4 24 rfl rfl
theorem dksX0_tie_6 : cX0_tie.data.toList.drop 140 = dktX0_tie_6 := dk_seg dksX0_tie_5 24 rfl rfl
theorem dX0_tie_0 : decode cX0_tie 0 = .ok (.aload_n 0, 1) := dk_42 (dk_at dksX0_tie_0 0 rfl rfl)
theorem dX0_tie_1 : decode cX0_tie 1 = .ok (.iload_n 1, 1) := dk_27 (dk_at dksX0_tie_0 1 rfl rfl)
theorem dX0_tie_2 : decode cX0_tie 2 = .ok (.invokevirtual 143, 3) := dk_182 0 143 (dk_at dksX0_tie_0 2 rfl rfl)
theorem dX0_tie_5 : decode cX0_tie 5 = .ok (.ifCond .eq 11, 3) := dk_153 0 11 (dk_at dksX0_tie_0 5 rfl rfl)
theorem dX0_tie_8 : decode cX0_tie 8 = .ok (.aload_n 0, 1) := dk_42 (dk_at dksX0_tie_0 8 rfl rfl)
theorem dX0_tie_9 : decode cX0_tie 9 = .ok (.iload_n 3, 1) := dk_29 (dk_at dksX0_tie_0 9 rfl rfl)
theorem dX0_tie_10 : decode cX0_tie 10 = .ok (.invokevirtual 143, 3) := dk_182 0 143 (dk_at dksX0_tie_0 10 rfl rfl)
theorem dX0_tie_13 : decode cX0_tie 13 = .ok (.ifCond .ne 10, 3) := dk_154 0 10 (dk_at dksX0_tie_0 13 rfl rfl)
theorem dX0_tie_16 : decode cX0_tie 16 = .ok (.aload_n 0, 1) := dk_42 (dk_at dksX0_tie_0 16 rfl rfl)
theorem dX0_tie_17 : decode cX0_tie 17 = .ok (.bipush 7, 2) := dk_16 7 (dk_at dksX0_tie_0 17 rfl rfl)
theorem dX0_tie_19 : decode cX0_tie 19 = .ok (.invokevirtual 47, 3) := dk_182 0 47 (dk_at dksX0_tie_0 19 rfl rfl)
theorem dX0_tie_22 : decode cX0_tie 22 = .ok (.ireturn, 1) := dk_172 (dk_at dksX0_tie_0 22 rfl rfl)
theorem dX0_tie_23 : decode cX0_tie 23 = .ok (.aload_n 0, 1) := dk_42 (dk_at dksX0_tie_0 23 rfl rfl)
theorem dX0_tie_24 : decode cX0_tie 24 = .ok (.getfield 18, 3) := dk_180 0 18 (dk_at dksX0_tie_1 0 rfl rfl)
theorem dX0_tie_27 : decode cX0_tie 27 = .ok (.iload_n 1, 1) := dk_27 (dk_at dksX0_tie_1 3 rfl rfl)
theorem dX0_tie_28 : decode cX0_tie 28 = .ok (.aaload, 1) := dk_50 (dk_at dksX0_tie_1 4 rfl rfl)
theorem dX0_tie_29 : decode cX0_tie 29 = .ok (.getfield 96, 3) := dk_180 0 96 (dk_at dksX0_tie_1 5 rfl rfl)
theorem dX0_tie_32 : decode cX0_tie 32 = .ok (.astore 5, 2) := dk_58 5 (dk_at dksX0_tie_1 8 rfl rfl)
theorem dX0_tie_34 : decode cX0_tie 34 = .ok (.aload_n 0, 1) := dk_42 (dk_at dksX0_tie_1 10 rfl rfl)
theorem dX0_tie_35 : decode cX0_tie 35 = .ok (.getfield 18, 3) := dk_180 0 18 (dk_at dksX0_tie_1 11 rfl rfl)
theorem dX0_tie_38 : decode cX0_tie 38 = .ok (.iload_n 3, 1) := dk_29 (dk_at dksX0_tie_1 14 rfl rfl)
theorem dX0_tie_39 : decode cX0_tie 39 = .ok (.aaload, 1) := dk_50 (dk_at dksX0_tie_1 15 rfl rfl)
theorem dX0_tie_40 : decode cX0_tie 40 = .ok (.getfield 96, 3) := dk_180 0 96 (dk_at dksX0_tie_1 16 rfl rfl)
theorem dX0_tie_43 : decode cX0_tie 43 = .ok (.astore 6, 2) := dk_58 6 (dk_at dksX0_tie_1 19 rfl rfl)
theorem dX0_tie_45 : decode cX0_tie 45 = .ok (.aload_n 0, 1) := dk_42 (dk_at dksX0_tie_1 21 rfl rfl)
theorem dX0_tie_46 : decode cX0_tie 46 = .ok (.getfield 18, 3) := dk_180 0 18 (dk_at dksX0_tie_2 0 rfl rfl)
theorem dX0_tie_49 : decode cX0_tie 49 = .ok (.iload_n 1, 1) := dk_27 (dk_at dksX0_tie_2 3 rfl rfl)
theorem dX0_tie_50 : decode cX0_tie 50 = .ok (.aaload, 1) := dk_50 (dk_at dksX0_tie_2 4 rfl rfl)
theorem dX0_tie_51 : decode cX0_tie 51 = .ok (.getfield 101, 3) := dk_180 0 101 (dk_at dksX0_tie_2 5 rfl rfl)
theorem dX0_tie_54 : decode cX0_tie 54 = .ok (.checkcast 58, 3) := dk_192 0 58 (dk_at dksX0_tie_2 8 rfl rfl)
theorem dX0_tie_57 : decode cX0_tie 57 = .ok (.astore 7, 2) := dk_58 7 (dk_at dksX0_tie_2 11 rfl rfl)
theorem dX0_tie_59 : decode cX0_tie 59 = .ok (.aload_n 0, 1) := dk_42 (dk_at dksX0_tie_2 13 rfl rfl)
theorem dX0_tie_60 : decode cX0_tie 60 = .ok (.getfield 18, 3) := dk_180 0 18 (dk_at dksX0_tie_2 14 rfl rfl)
theorem dX0_tie_63 : decode cX0_tie 63 = .ok (.iload_n 3, 1) := dk_29 (dk_at dksX0_tie_2 17 rfl rfl)
theorem dX0_tie_64 : decode cX0_tie 64 = .ok (.aaload, 1) := dk_50 (dk_at dksX0_tie_2 18 rfl rfl)
theorem dX0_tie_65 : decode cX0_tie 65 = .ok (.getfield 101, 3) := dk_180 0 101 (dk_at dksX0_tie_2 19 rfl rfl)
theorem dX0_tie_68 : decode cX0_tie 68 = .ok (.checkcast 58, 3) := dk_192 0 58 (dk_at dksX0_tie_3 0 rfl rfl)
theorem dX0_tie_71 : decode cX0_tie 71 = .ok (.astore 8, 2) := dk_58 8 (dk_at dksX0_tie_3 3 rfl rfl)
theorem dX0_tie_73 : decode cX0_tie 73 = .ok (.aload 5, 2) := dk_25 5 (dk_at dksX0_tie_3 5 rfl rfl)
theorem dX0_tie_75 : decode cX0_tie 75 = .ok (.iconst 0, 1) := dk_3 (dk_at dksX0_tie_3 7 rfl rfl)
theorem dX0_tie_76 : decode cX0_tie 76 = .ok (.iload_n 2, 1) := dk_28 (dk_at dksX0_tie_3 8 rfl rfl)
theorem dX0_tie_77 : decode cX0_tie 77 = .ok (.invokevirtual 180, 3) := dk_182 0 180 (dk_at dksX0_tie_3 9 rfl rfl)
theorem dX0_tie_80 : decode cX0_tie 80 = .ok (.ifCond .ne 9, 3) := dk_154 0 9 (dk_at dksX0_tie_3 12 rfl rfl)
theorem dX0_tie_83 : decode cX0_tie 83 = .ok (.aload_n 0, 1) := dk_42 (dk_at dksX0_tie_3 15 rfl rfl)
theorem dX0_tie_84 : decode cX0_tie 84 = .ok (.iconst 0, 1) := dk_3 (dk_at dksX0_tie_3 16 rfl rfl)
theorem dX0_tie_85 : decode cX0_tie 85 = .ok (.invokevirtual 174, 3) := dk_182 0 174 (dk_at dksX0_tie_3 17 rfl rfl)
theorem dX0_tie_88 : decode cX0_tie 88 = .ok (.ireturn, 1) := dk_172 (dk_at dksX0_tie_3 20 rfl rfl)
theorem dX0_tie_89 : decode cX0_tie 89 = .ok (.aload 6, 2) := dk_25 6 (dk_at dksX0_tie_3 21 rfl rfl)
theorem dX0_tie_91 : decode cX0_tie 91 = .ok (.iconst 0, 1) := dk_3 (dk_at dksX0_tie_3 23 rfl rfl)
theorem dX0_tie_92 : decode cX0_tie 92 = .ok (.iload 4, 2) := dk_21 4 (dk_at dksX0_tie_4 0 rfl rfl)
theorem dX0_tie_94 : decode cX0_tie 94 = .ok (.invokevirtual 180, 3) := dk_182 0 180 (dk_at dksX0_tie_4 2 rfl rfl)
theorem dX0_tie_97 : decode cX0_tie 97 = .ok (.ifCond .ne 9, 3) := dk_154 0 9 (dk_at dksX0_tie_4 5 rfl rfl)
theorem dX0_tie_100 : decode cX0_tie 100 = .ok (.aload_n 0, 1) := dk_42 (dk_at dksX0_tie_4 8 rfl rfl)
theorem dX0_tie_101 : decode cX0_tie 101 = .ok (.iconst 1, 1) := dk_4 (dk_at dksX0_tie_4 9 rfl rfl)
theorem dX0_tie_102 : decode cX0_tie 102 = .ok (.invokevirtual 174, 3) := dk_182 0 174 (dk_at dksX0_tie_4 10 rfl rfl)
theorem dX0_tie_105 : decode cX0_tie 105 = .ok (.ireturn, 1) := dk_172 (dk_at dksX0_tie_4 13 rfl rfl)
theorem dX0_tie_106 : decode cX0_tie 106 = .ok (.aload 7, 2) := dk_25 7 (dk_at dksX0_tie_4 14 rfl rfl)
theorem dX0_tie_108 : decode cX0_tie 108 = .ok (.iload_n 2, 1) := dk_28 (dk_at dksX0_tie_4 16 rfl rfl)
theorem dX0_tie_109 : decode cX0_tie 109 = .ok (.aload 5, 2) := dk_25 5 (dk_at dksX0_tie_4 17 rfl rfl)
theorem dX0_tie_111 : decode cX0_tie 111 = .ok (.getfield 105, 3) := dk_180 0 105 (dk_at dksX0_tie_4 19 rfl rfl)
theorem dX0_tie_114 : decode cX0_tie 114 = .ok (.iconst 0, 1) := dk_3 (dk_at dksX0_tie_4 22 rfl rfl)
theorem dX0_tie_115 : decode cX0_tie 115 = .ok (.iaload, 1) := dk_46 (dk_at dksX0_tie_4 23 rfl rfl)
theorem dX0_tie_116 : decode cX0_tie 116 = .ok (.isub, 1) := dk_100 (dk_at dksX0_tie_5 0 rfl rfl)
theorem dX0_tie_117 : decode cX0_tie 117 = .ok (.aload 8, 2) := dk_25 8 (dk_at dksX0_tie_5 1 rfl rfl)
theorem dX0_tie_119 : decode cX0_tie 119 = .ok (.iload 4, 2) := dk_21 4 (dk_at dksX0_tie_5 3 rfl rfl)
theorem dX0_tie_121 : decode cX0_tie 121 = .ok (.aload 6, 2) := dk_25 6 (dk_at dksX0_tie_5 5 rfl rfl)
theorem dX0_tie_123 : decode cX0_tie 123 = .ok (.getfield 105, 3) := dk_180 0 105 (dk_at dksX0_tie_5 7 rfl rfl)
theorem dX0_tie_126 : decode cX0_tie 126 = .ok (.iconst 0, 1) := dk_3 (dk_at dksX0_tie_5 10 rfl rfl)
theorem dX0_tie_127 : decode cX0_tie 127 = .ok (.iaload, 1) := dk_46 (dk_at dksX0_tie_5 11 rfl rfl)
theorem dX0_tie_128 : decode cX0_tie 128 = .ok (.isub, 1) := dk_100 (dk_at dksX0_tie_5 12 rfl rfl)
theorem dX0_tie_129 : decode cX0_tie 129 = .ok (.aaload, 1) := dk_50 (dk_at dksX0_tie_5 13 rfl rfl)
theorem dX0_tie_130 : decode cX0_tie 130 = .ok (.aastore, 1) := dk_83 (dk_at dksX0_tie_5 14 rfl rfl)
theorem dX0_tie_131 : decode cX0_tie 131 = .ok (.aload_n 0, 1) := dk_42 (dk_at dksX0_tie_5 15 rfl rfl)
theorem dX0_tie_132 : decode cX0_tie 132 = .ok (.iconst 1, 1) := dk_4 (dk_at dksX0_tie_5 16 rfl rfl)
theorem dX0_tie_133 : decode cX0_tie 133 = .ok (.invokevirtual 114, 3) := dk_182 0 114 (dk_at dksX0_tie_5 17 rfl rfl)
theorem dX0_tie_136 : decode cX0_tie 136 = .ok (.ireturn, 1) := dk_172 (dk_at dksX0_tie_5 20 rfl rfl)
theorem dX0_tie_137 : decode cX0_tie 137 = .ok (.astore 7, 2) := dk_58 7 (dk_at dksX0_tie_5 21 rfl rfl)
theorem dX0_tie_139 : decode cX0_tie 139 = .ok (.aload_n 0, 1) := dk_42 (dk_at dksX0_tie_5 23 rfl rfl)
theorem dX0_tie_140 : decode cX0_tie 140 = .ok (.iconst 2, 1) := dk_5 (dk_at dksX0_tie_6 0 rfl rfl)
theorem dX0_tie_141 : decode cX0_tie 141 = .ok (.invokevirtual 47, 3) := dk_182 0 47 (dk_at dksX0_tie_6 1 rfl rfl)
theorem dX0_tie_144 : decode cX0_tie 144 = .ok (.ireturn, 1) := dk_172 (dk_at dksX0_tie_6 4 rfl rfl)
abbrev cX0_get : ByteArray := prog_1_method_32_code
def yX0_get : MethodName := ⟨RX0, "get", "(IIII)J"⟩
def dkwX0_get_7 : List UInt8 := [42, 4, 182, 0, 174, 133, 173]
abbrev dktX0_get_7 : List UInt8 := dkwX0_get_7 ++ []
def dkwX0_get_6 : List UInt8 := [184, 0, 84, 55, 8, 42, 3, 181, 0, 44, 22, 8, 173, 58, 7, 42, 4, 182, 0, 47, 133, 173, 58, 7]
abbrev dktX0_get_6 : List UInt8 := dkwX0_get_6 ++ dktX0_get_7
def dkwX0_get_5 : List UInt8 := [159, 0, 11, 42, 21, 7, 182, 0, 174, 133, 173, 25, 6, 25, 5, 42, 180, 0, 34, 182, 0, 160]
abbrev dktX0_get_5 : List UInt8 := dkwX0_get_5 ++ dktX0_get_6
def dkwX0_get_4 : List UInt8 := [55, 7, 42, 3, 181, 0, 44, 22, 7, 173, 25, 5, 42, 180, 0, 34, 182, 0, 171, 54, 7, 21, 7, 2]
abbrev dktX0_get_4 : List UInt8 := dkwX0_get_4 ++ dktX0_get_5
def dkwX0_get_3 : List UInt8 := [173, 25, 6, 192, 0, 58, 28, 25, 5, 180, 0, 105, 3, 46, 100, 50, 25, 5, 29, 184, 0, 188, 46, 133]
abbrev dktX0_get_3 : List UInt8 := dkwX0_get_3 ++ dktX0_get_4
def dkwX0_get_2 : List UInt8 := [25, 6, 193, 0, 58, 153, 0, 53, 25, 5, 3, 28, 182, 0, 180, 154, 0, 10, 42, 3, 182, 0, 174, 133]
abbrev dktX0_get_2 : List UInt8 := dkwX0_get_2 ++ dktX0_get_3
def dkwX0_get_1 : List UInt8 := [180, 0, 96, 58, 5, 42, 180, 0, 18, 27, 50, 180, 0, 101, 58, 6, 42, 28, 29, 21, 4, 182, 0, 184]
abbrev dktX0_get_1 : List UInt8 := dkwX0_get_1 ++ dktX0_get_2
def dkwX0_get_0 : List UInt8 := [42, 27, 182, 0, 143, 154, 0, 11, 42, 16, 7, 182, 0, 47, 133, 173, 42, 180, 0, 18, 27, 50]
abbrev dktX0_get_0 : List UInt8 := dkwX0_get_0 ++ dktX0_get_1
theorem dksX0_get_0 : cX0_get.data.toList.drop 0 = dktX0_get_0 := by decide +kernel
theorem dksX0_get_1 : cX0_get.data.toList.drop 22 = dktX0_get_1 := dk_seg dksX0_get_0 22 rfl rfl
theorem dksX0_get_2 : cX0_get.data.toList.drop 46 = dktX0_get_2 := dk_seg dksX0_get_1 24 rfl rfl
theorem dksX0_get_3 : cX0_get.data.toList.drop 70 = dktX0_get_3 := dk_seg dksX0_get_2 24 rfl rfl
theorem dksX0_get_4 : cX0_get.data.toList.drop 94 = dktX0_get_4 := dk_seg dksX0_get_3 24 rfl rfl
theorem dksX0_get_5 : cX0_get.data.toList.drop 118 = dktX0_get_5 := dk_seg dksX0_get_4 24 rfl rfl
theorem dksX0_get_6 : cX0_get.data.toList.drop 140 = dktX0_get_6 := dk_seg dksX0_get_5 22 rfl rfl
theorem dksX0_get_7 : cX0_get.data.toList.drop 164 = dktX0_get_7 := dk_seg dksX0_get_6 24 rfl rfl
theorem dX0_get_0 : decode cX0_get 0 = .ok (.aload_n 0, 1) := dk_42 (dk_at dksX0_get_0 0 rfl rfl)
theorem dX0_get_1 : decode cX0_get 1 = .ok (.iload_n 1, 1) := dk_27 (dk_at dksX0_get_0 1 rfl rfl)
theorem dX0_get_2 : decode cX0_get 2 = .ok (.invokevirtual 143, 3) := dk_182 0 143 (dk_at dksX0_get_0 2 rfl rfl)
theorem dX0_get_5 : decode cX0_get 5 = .ok (.ifCond .ne 11, 3) := dk_154 0 11 (dk_at dksX0_get_0 5 rfl rfl)
theorem dX0_get_8 : decode cX0_get 8 = .ok (.aload_n 0, 1) := dk_42 (dk_at dksX0_get_0 8 rfl rfl)
theorem dX0_get_9 : decode cX0_get 9 = .ok (.bipush 7, 2) := dk_16 7 (dk_at dksX0_get_0 9 rfl rfl)
theorem dX0_get_11 : decode cX0_get 11 = .ok (.invokevirtual 47, 3) := dk_182 0 47 (dk_at dksX0_get_0 11 rfl rfl)
theorem dX0_get_14 : decode cX0_get 14 = .ok (.i2l, 1) := dk_133 (dk_at dksX0_get_0 14 rfl rfl)
theorem dX0_get_15 : decode cX0_get 15 = .ok (.lreturn, 1) := dk_173 (dk_at dksX0_get_0 15 rfl rfl)
theorem dX0_get_16 : decode cX0_get 16 = .ok (.aload_n 0, 1) := dk_42 (dk_at dksX0_get_0 16 rfl rfl)
theorem dX0_get_17 : decode cX0_get 17 = .ok (.getfield 18, 3) := dk_180 0 18 (dk_at dksX0_get_0 17 rfl rfl)
theorem dX0_get_20 : decode cX0_get 20 = .ok (.iload_n 1, 1) := dk_27 (dk_at dksX0_get_0 20 rfl rfl)
theorem dX0_get_21 : decode cX0_get 21 = .ok (.aaload, 1) := dk_50 (dk_at dksX0_get_0 21 rfl rfl)
theorem dX0_get_22 : decode cX0_get 22 = .ok (.getfield 96, 3) := dk_180 0 96 (dk_at dksX0_get_1 0 rfl rfl)
theorem dX0_get_25 : decode cX0_get 25 = .ok (.astore 5, 2) := dk_58 5 (dk_at dksX0_get_1 3 rfl rfl)
theorem dX0_get_27 : decode cX0_get 27 = .ok (.aload_n 0, 1) := dk_42 (dk_at dksX0_get_1 5 rfl rfl)
theorem dX0_get_28 : decode cX0_get 28 = .ok (.getfield 18, 3) := dk_180 0 18 (dk_at dksX0_get_1 6 rfl rfl)
theorem dX0_get_31 : decode cX0_get 31 = .ok (.iload_n 1, 1) := dk_27 (dk_at dksX0_get_1 9 rfl rfl)
theorem dX0_get_32 : decode cX0_get 32 = .ok (.aaload, 1) := dk_50 (dk_at dksX0_get_1 10 rfl rfl)
theorem dX0_get_33 : decode cX0_get 33 = .ok (.getfield 101, 3) := dk_180 0 101 (dk_at dksX0_get_1 11 rfl rfl)
theorem dX0_get_36 : decode cX0_get 36 = .ok (.astore 6, 2) := dk_58 6 (dk_at dksX0_get_1 14 rfl rfl)
theorem dX0_get_38 : decode cX0_get 38 = .ok (.aload_n 0, 1) := dk_42 (dk_at dksX0_get_1 16 rfl rfl)
theorem dX0_get_39 : decode cX0_get 39 = .ok (.iload_n 2, 1) := dk_28 (dk_at dksX0_get_1 17 rfl rfl)
theorem dX0_get_40 : decode cX0_get 40 = .ok (.iload_n 3, 1) := dk_29 (dk_at dksX0_get_1 18 rfl rfl)
theorem dX0_get_41 : decode cX0_get 41 = .ok (.iload 4, 2) := dk_21 4 (dk_at dksX0_get_1 19 rfl rfl)
theorem dX0_get_43 : decode cX0_get 43 = .ok (.invokevirtual 184, 3) := dk_182 0 184 (dk_at dksX0_get_1 21 rfl rfl)
theorem dX0_get_46 : decode cX0_get 46 = .ok (.aload 6, 2) := dk_25 6 (dk_at dksX0_get_2 0 rfl rfl)
theorem dX0_get_48 : decode cX0_get 48 = .ok (.instanceof 58, 3) := dk_193 0 58 (dk_at dksX0_get_2 2 rfl rfl)
theorem dX0_get_51 : decode cX0_get 51 = .ok (.ifCond .eq 53, 3) := dk_153 0 53 (dk_at dksX0_get_2 5 rfl rfl)
theorem dX0_get_54 : decode cX0_get 54 = .ok (.aload 5, 2) := dk_25 5 (dk_at dksX0_get_2 8 rfl rfl)
theorem dX0_get_56 : decode cX0_get 56 = .ok (.iconst 0, 1) := dk_3 (dk_at dksX0_get_2 10 rfl rfl)
theorem dX0_get_57 : decode cX0_get 57 = .ok (.iload_n 2, 1) := dk_28 (dk_at dksX0_get_2 11 rfl rfl)
theorem dX0_get_58 : decode cX0_get 58 = .ok (.invokevirtual 180, 3) := dk_182 0 180 (dk_at dksX0_get_2 12 rfl rfl)
theorem dX0_get_61 : decode cX0_get 61 = .ok (.ifCond .ne 10, 3) := dk_154 0 10 (dk_at dksX0_get_2 15 rfl rfl)
theorem dX0_get_64 : decode cX0_get 64 = .ok (.aload_n 0, 1) := dk_42 (dk_at dksX0_get_2 18 rfl rfl)
theorem dX0_get_65 : decode cX0_get 65 = .ok (.iconst 0, 1) := dk_3 (dk_at dksX0_get_2 19 rfl rfl)
theorem dX0_get_66 : decode cX0_get 66 = .ok (.invokevirtual 174, 3) := dk_182 0 174 (dk_at dksX0_get_2 20 rfl rfl)
theorem dX0_get_69 : decode cX0_get 69 = .ok (.i2l, 1) := dk_133 (dk_at dksX0_get_2 23 rfl rfl)
theorem dX0_get_70 : decode cX0_get 70 = .ok (.lreturn, 1) := dk_173 (dk_at dksX0_get_3 0 rfl rfl)
theorem dX0_get_71 : decode cX0_get 71 = .ok (.aload 6, 2) := dk_25 6 (dk_at dksX0_get_3 1 rfl rfl)
theorem dX0_get_73 : decode cX0_get 73 = .ok (.checkcast 58, 3) := dk_192 0 58 (dk_at dksX0_get_3 3 rfl rfl)
theorem dX0_get_76 : decode cX0_get 76 = .ok (.iload_n 2, 1) := dk_28 (dk_at dksX0_get_3 6 rfl rfl)
theorem dX0_get_77 : decode cX0_get 77 = .ok (.aload 5, 2) := dk_25 5 (dk_at dksX0_get_3 7 rfl rfl)
theorem dX0_get_79 : decode cX0_get 79 = .ok (.getfield 105, 3) := dk_180 0 105 (dk_at dksX0_get_3 9 rfl rfl)
theorem dX0_get_82 : decode cX0_get 82 = .ok (.iconst 0, 1) := dk_3 (dk_at dksX0_get_3 12 rfl rfl)
theorem dX0_get_83 : decode cX0_get 83 = .ok (.iaload, 1) := dk_46 (dk_at dksX0_get_3 13 rfl rfl)
theorem dX0_get_84 : decode cX0_get 84 = .ok (.isub, 1) := dk_100 (dk_at dksX0_get_3 14 rfl rfl)
theorem dX0_get_85 : decode cX0_get 85 = .ok (.aaload, 1) := dk_50 (dk_at dksX0_get_3 15 rfl rfl)
theorem dX0_get_86 : decode cX0_get 86 = .ok (.aload 5, 2) := dk_25 5 (dk_at dksX0_get_3 16 rfl rfl)
theorem dX0_get_88 : decode cX0_get 88 = .ok (.iload_n 3, 1) := dk_29 (dk_at dksX0_get_3 18 rfl rfl)
theorem dX0_get_89 : decode cX0_get 89 = .ok (.invokestatic 188, 3) := dk_184 0 188 (dk_at dksX0_get_3 19 rfl rfl)
theorem dX0_get_92 : decode cX0_get 92 = .ok (.iaload, 1) := dk_46 (dk_at dksX0_get_3 22 rfl rfl)
theorem dX0_get_93 : decode cX0_get 93 = .ok (.i2l, 1) := dk_133 (dk_at dksX0_get_3 23 rfl rfl)
theorem dX0_get_94 : decode cX0_get 94 = .ok (.lstore 7, 2) := dk_55 7 (dk_at dksX0_get_4 0 rfl rfl)
theorem dX0_get_96 : decode cX0_get 96 = .ok (.aload_n 0, 1) := dk_42 (dk_at dksX0_get_4 2 rfl rfl)
theorem dX0_get_97 : decode cX0_get 97 = .ok (.iconst 0, 1) := dk_3 (dk_at dksX0_get_4 3 rfl rfl)
theorem dX0_get_98 : decode cX0_get 98 = .ok (.putfield 44, 3) := dk_181 0 44 (dk_at dksX0_get_4 4 rfl rfl)
theorem dX0_get_101 : decode cX0_get 101 = .ok (.lload 7, 2) := dk_22 7 (dk_at dksX0_get_4 7 rfl rfl)
theorem dX0_get_103 : decode cX0_get 103 = .ok (.lreturn, 1) := dk_173 (dk_at dksX0_get_4 9 rfl rfl)
theorem dX0_get_104 : decode cX0_get 104 = .ok (.aload 5, 2) := dk_25 5 (dk_at dksX0_get_4 10 rfl rfl)
theorem dX0_get_106 : decode cX0_get 106 = .ok (.aload_n 0, 1) := dk_42 (dk_at dksX0_get_4 12 rfl rfl)
theorem dX0_get_107 : decode cX0_get 107 = .ok (.getfield 34, 3) := dk_180 0 34 (dk_at dksX0_get_4 13 rfl rfl)
theorem dX0_get_110 : decode cX0_get 110 = .ok (.invokevirtual 171, 3) := dk_182 0 171 (dk_at dksX0_get_4 16 rfl rfl)
theorem dX0_get_113 : decode cX0_get 113 = .ok (.istore 7, 2) := dk_54 7 (dk_at dksX0_get_4 19 rfl rfl)
theorem dX0_get_115 : decode cX0_get 115 = .ok (.iload 7, 2) := dk_21 7 (dk_at dksX0_get_4 21 rfl rfl)
theorem dX0_get_117 : decode cX0_get 117 = .ok (.iconst (-1), 1) := dk_2 (dk_at dksX0_get_4 23 rfl rfl)
theorem dX0_get_118 : decode cX0_get 118 = .ok (.if_icmp .eq 11, 3) := dk_159 0 11 (dk_at dksX0_get_5 0 rfl rfl)
theorem dX0_get_121 : decode cX0_get 121 = .ok (.aload_n 0, 1) := dk_42 (dk_at dksX0_get_5 3 rfl rfl)
theorem dX0_get_122 : decode cX0_get 122 = .ok (.iload 7, 2) := dk_21 7 (dk_at dksX0_get_5 4 rfl rfl)
theorem dX0_get_124 : decode cX0_get 124 = .ok (.invokevirtual 174, 3) := dk_182 0 174 (dk_at dksX0_get_5 6 rfl rfl)
theorem dX0_get_127 : decode cX0_get 127 = .ok (.i2l, 1) := dk_133 (dk_at dksX0_get_5 9 rfl rfl)
theorem dX0_get_128 : decode cX0_get 128 = .ok (.lreturn, 1) := dk_173 (dk_at dksX0_get_5 10 rfl rfl)
theorem dX0_get_129 : decode cX0_get 129 = .ok (.aload 6, 2) := dk_25 6 (dk_at dksX0_get_5 11 rfl rfl)
theorem dX0_get_131 : decode cX0_get 131 = .ok (.aload 5, 2) := dk_25 5 (dk_at dksX0_get_5 13 rfl rfl)
theorem dX0_get_133 : decode cX0_get 133 = .ok (.aload_n 0, 1) := dk_42 (dk_at dksX0_get_5 15 rfl rfl)
theorem dX0_get_134 : decode cX0_get 134 = .ok (.getfield 34, 3) := dk_180 0 34 (dk_at dksX0_get_5 16 rfl rfl)
theorem dX0_get_137 : decode cX0_get 137 = .ok (.invokevirtual 160, 3) := dk_182 0 160 (dk_at dksX0_get_5 19 rfl rfl)
theorem dX0_get_140 : decode cX0_get 140 = .ok (.invokestatic 84, 3) := dk_184 0 84 (dk_at dksX0_get_6 0 rfl rfl)
theorem dX0_get_143 : decode cX0_get 143 = .ok (.lstore 8, 2) := dk_55 8 (dk_at dksX0_get_6 3 rfl rfl)
theorem dX0_get_145 : decode cX0_get 145 = .ok (.aload_n 0, 1) := dk_42 (dk_at dksX0_get_6 5 rfl rfl)
theorem dX0_get_146 : decode cX0_get 146 = .ok (.iconst 0, 1) := dk_3 (dk_at dksX0_get_6 6 rfl rfl)
theorem dX0_get_147 : decode cX0_get 147 = .ok (.putfield 44, 3) := dk_181 0 44 (dk_at dksX0_get_6 7 rfl rfl)
theorem dX0_get_150 : decode cX0_get 150 = .ok (.lload 8, 2) := dk_22 8 (dk_at dksX0_get_6 10 rfl rfl)
theorem dX0_get_152 : decode cX0_get 152 = .ok (.lreturn, 1) := dk_173 (dk_at dksX0_get_6 12 rfl rfl)
theorem dX0_get_153 : decode cX0_get 153 = .ok (.astore 7, 2) := dk_58 7 (dk_at dksX0_get_6 13 rfl rfl)
theorem dX0_get_155 : decode cX0_get 155 = .ok (.aload_n 0, 1) := dk_42 (dk_at dksX0_get_6 15 rfl rfl)
theorem dX0_get_156 : decode cX0_get 156 = .ok (.iconst 1, 1) := dk_4 (dk_at dksX0_get_6 16 rfl rfl)
theorem dX0_get_157 : decode cX0_get 157 = .ok (.invokevirtual 47, 3) := dk_182 0 47 (dk_at dksX0_get_6 17 rfl rfl)
theorem dX0_get_160 : decode cX0_get 160 = .ok (.i2l, 1) := dk_133 (dk_at dksX0_get_6 20 rfl rfl)
theorem dX0_get_161 : decode cX0_get 161 = .ok (.lreturn, 1) := dk_173 (dk_at dksX0_get_6 21 rfl rfl)
theorem dX0_get_162 : decode cX0_get 162 = .ok (.astore 7, 2) := dk_58 7 (dk_at dksX0_get_6 22 rfl rfl)
theorem dX0_get_164 : decode cX0_get 164 = .ok (.aload_n 0, 1) := dk_42 (dk_at dksX0_get_7 0 rfl rfl)
theorem dX0_get_165 : decode cX0_get 165 = .ok (.iconst 1, 1) := dk_4 (dk_at dksX0_get_7 1 rfl rfl)
theorem dX0_get_166 : decode cX0_get 166 = .ok (.invokevirtual 174, 3) := dk_182 0 174 (dk_at dksX0_get_7 2 rfl rfl)
theorem dX0_get_169 : decode cX0_get 169 = .ok (.i2l, 1) := dk_133 (dk_at dksX0_get_7 5 rfl rfl)
theorem dX0_get_170 : decode cX0_get 170 = .ok (.lreturn, 1) := dk_173 (dk_at dksX0_get_7 6 rfl rfl)
abbrev cX0_lay : ByteArray := prog_1_method_30_code
def yX0_lay : MethodName := ⟨RX0, "lay", "(III)V"⟩
def dkwX0_lay_0 : List UInt8 := [42, 180, 0, 34, 3, 27, 79, 42, 180, 0, 34, 4, 28, 79, 42, 180, 0, 34, 5, 29, 79, 177]
abbrev dktX0_lay_0 : List UInt8 := dkwX0_lay_0 ++ []
theorem dksX0_lay_0 : cX0_lay.data.toList.drop 0 = dktX0_lay_0 := by decide +kernel
theorem dX0_lay_0 : decode cX0_lay 0 = .ok (.aload_n 0, 1) := dk_42 (dk_at dksX0_lay_0 0 rfl rfl)
theorem dX0_lay_1 : decode cX0_lay 1 = .ok (.getfield 34, 3) := dk_180 0 34 (dk_at dksX0_lay_0 1 rfl rfl)
theorem dX0_lay_4 : decode cX0_lay 4 = .ok (.iconst 0, 1) := dk_3 (dk_at dksX0_lay_0 4 rfl rfl)
theorem dX0_lay_5 : decode cX0_lay 5 = .ok (.iload_n 1, 1) := dk_27 (dk_at dksX0_lay_0 5 rfl rfl)
theorem dX0_lay_6 : decode cX0_lay 6 = .ok (.iastore, 1) := dk_79 (dk_at dksX0_lay_0 6 rfl rfl)
theorem dX0_lay_7 : decode cX0_lay 7 = .ok (.aload_n 0, 1) := dk_42 (dk_at dksX0_lay_0 7 rfl rfl)
theorem dX0_lay_8 : decode cX0_lay 8 = .ok (.getfield 34, 3) := dk_180 0 34 (dk_at dksX0_lay_0 8 rfl rfl)
theorem dX0_lay_11 : decode cX0_lay 11 = .ok (.iconst 1, 1) := dk_4 (dk_at dksX0_lay_0 11 rfl rfl)
theorem dX0_lay_12 : decode cX0_lay 12 = .ok (.iload_n 2, 1) := dk_28 (dk_at dksX0_lay_0 12 rfl rfl)
theorem dX0_lay_13 : decode cX0_lay 13 = .ok (.iastore, 1) := dk_79 (dk_at dksX0_lay_0 13 rfl rfl)
theorem dX0_lay_14 : decode cX0_lay 14 = .ok (.aload_n 0, 1) := dk_42 (dk_at dksX0_lay_0 14 rfl rfl)
theorem dX0_lay_15 : decode cX0_lay 15 = .ok (.getfield 34, 3) := dk_180 0 34 (dk_at dksX0_lay_0 15 rfl rfl)
theorem dX0_lay_18 : decode cX0_lay 18 = .ok (.iconst 2, 1) := dk_5 (dk_at dksX0_lay_0 18 rfl rfl)
theorem dX0_lay_19 : decode cX0_lay 19 = .ok (.iload_n 3, 1) := dk_29 (dk_at dksX0_lay_0 19 rfl rfl)
theorem dX0_lay_20 : decode cX0_lay 20 = .ok (.iastore, 1) := dk_79 (dk_at dksX0_lay_0 20 rfl rfl)
theorem dX0_lay_21 : decode cX0_lay 21 = .ok (.return_, 1) := dk_177 (dk_at dksX0_lay_0 21 rfl rfl)
abbrev cX0_within : ByteArray := prog_1_method_31_code
def yX0_within : MethodName := ⟨RX0, "within", "(LArrayMaker$Shape;I)I"⟩
def dkwX0_within_1 : List UInt8 := [167, 0, 15, 32, 9, 148, 156, 0, 7, 2, 167, 0, 5, 32, 136, 172]
abbrev dktX0_within_1 : List UInt8 := dkwX0_within_1 ++ []
def dkwX0_within_0 : List UInt8 := [27, 133, 42, 180, 0, 105, 4, 46, 133, 101, 65, 32, 20, 0, 128, 148, 158, 0, 9, 17, 1, 244]
abbrev dktX0_within_0 : List UInt8 := dkwX0_within_0 ++ dktX0_within_1
theorem dksX0_within_0 : cX0_within.data.toList.drop 0 = dktX0_within_0 := by decide +kernel
theorem dksX0_within_1 : cX0_within.data.toList.drop 22 = dktX0_within_1 := dk_seg dksX0_within_0 22 rfl rfl
theorem dX0_within_0 : decode cX0_within 0 = .ok (.iload_n 1, 1) := dk_27 (dk_at dksX0_within_0 0 rfl rfl)
theorem dX0_within_1 : decode cX0_within 1 = .ok (.i2l, 1) := dk_133 (dk_at dksX0_within_0 1 rfl rfl)
theorem dX0_within_2 : decode cX0_within 2 = .ok (.aload_n 0, 1) := dk_42 (dk_at dksX0_within_0 2 rfl rfl)
theorem dX0_within_3 : decode cX0_within 3 = .ok (.getfield 105, 3) := dk_180 0 105 (dk_at dksX0_within_0 3 rfl rfl)
theorem dX0_within_6 : decode cX0_within 6 = .ok (.iconst 1, 1) := dk_4 (dk_at dksX0_within_0 6 rfl rfl)
theorem dX0_within_7 : decode cX0_within 7 = .ok (.iaload, 1) := dk_46 (dk_at dksX0_within_0 7 rfl rfl)
theorem dX0_within_8 : decode cX0_within 8 = .ok (.i2l, 1) := dk_133 (dk_at dksX0_within_0 8 rfl rfl)
theorem dX0_within_9 : decode cX0_within 9 = .ok (.lsub, 1) := dk_101 (dk_at dksX0_within_0 9 rfl rfl)
theorem dX0_within_10 : decode cX0_within 10 = .ok (.lstore_n 2, 1) := dk_65 (dk_at dksX0_within_0 10 rfl rfl)
theorem dX0_within_11 : decode cX0_within 11 = .ok (.lload_n 2, 1) := dk_32 (dk_at dksX0_within_0 11 rfl rfl)
theorem dX0_within_12 : decode cX0_within 12 = .ok (.ldc2_w 128, 3) := dk_20 0 128 (dk_at dksX0_within_0 12 rfl rfl)
theorem dX0_within_15 : decode cX0_within 15 = .ok (.lcmp, 1) := dk_148 (dk_at dksX0_within_0 15 rfl rfl)
theorem dX0_within_16 : decode cX0_within 16 = .ok (.ifCond .le 9, 3) := dk_158 0 9 (dk_at dksX0_within_0 16 rfl rfl)
theorem dX0_within_19 : decode cX0_within 19 = .ok (.sipush 500, 3) := dk_17 1 244 (dk_at dksX0_within_0 19 rfl rfl)
theorem dX0_within_22 : decode cX0_within 22 = .ok (.goto 15, 3) := dk_167 0 15 (dk_at dksX0_within_1 0 rfl rfl)
theorem dX0_within_25 : decode cX0_within 25 = .ok (.lload_n 2, 1) := dk_32 (dk_at dksX0_within_1 3 rfl rfl)
theorem dX0_within_26 : decode cX0_within 26 = .ok (.lconst 0, 1) := dk_9 (dk_at dksX0_within_1 4 rfl rfl)
theorem dX0_within_27 : decode cX0_within 27 = .ok (.lcmp, 1) := dk_148 (dk_at dksX0_within_1 5 rfl rfl)
theorem dX0_within_28 : decode cX0_within 28 = .ok (.ifCond .ge 7, 3) := dk_156 0 7 (dk_at dksX0_within_1 6 rfl rfl)
theorem dX0_within_31 : decode cX0_within 31 = .ok (.iconst (-1), 1) := dk_2 (dk_at dksX0_within_1 9 rfl rfl)
theorem dX0_within_32 : decode cX0_within 32 = .ok (.goto 5, 3) := dk_167 0 5 (dk_at dksX0_within_1 10 rfl rfl)
theorem dX0_within_35 : decode cX0_within 35 = .ok (.lload_n 2, 1) := dk_32 (dk_at dksX0_within_1 13 rfl rfl)
theorem dX0_within_36 : decode cX0_within 36 = .ok (.l2i, 1) := dk_136 (dk_at dksX0_within_1 14 rfl rfl)
theorem dX0_within_37 : decode cX0_within 37 = .ok (.ireturn, 1) := dk_172 (dk_at dksX0_within_1 15 rfl rfl)
abbrev cX0_at : ByteArray := prog_1_method_9_code
def yX0_at : MethodName := ⟨RX0, "at", "(Ljava/lang/Object;I)J"⟩
def dkwX0_at_2 : List UInt8 := [192, 0, 66, 27, 50, 180, 0, 68, 173]
abbrev dktX0_at_2 : List UInt8 := dkwX0_at_2 ++ []
def dkwX0_at_1 : List UInt8 := [192, 0, 56, 27, 46, 133, 173, 42, 193, 0, 57, 153, 0, 10, 42, 192, 0, 57, 27, 47, 173, 42]
abbrev dktX0_at_1 : List UInt8 := dkwX0_at_1 ++ dktX0_at_2
def dkwX0_at_0 : List UInt8 := [42, 193, 0, 54, 153, 0, 11, 42, 192, 0, 54, 27, 51, 133, 173, 42, 193, 0, 56, 153, 0, 11, 42]
abbrev dktX0_at_0 : List UInt8 := dkwX0_at_0 ++ dktX0_at_1
theorem dksX0_at_0 : cX0_at.data.toList.drop 0 = dktX0_at_0 := by decide +kernel
theorem dksX0_at_1 : cX0_at.data.toList.drop 23 = dktX0_at_1 := dk_seg dksX0_at_0 23 rfl rfl
theorem dksX0_at_2 : cX0_at.data.toList.drop 45 = dktX0_at_2 := dk_seg dksX0_at_1 22 rfl rfl
theorem dX0_at_0 : decode cX0_at 0 = .ok (.aload_n 0, 1) := dk_42 (dk_at dksX0_at_0 0 rfl rfl)
theorem dX0_at_1 : decode cX0_at 1 = .ok (.instanceof 54, 3) := dk_193 0 54 (dk_at dksX0_at_0 1 rfl rfl)
theorem dX0_at_4 : decode cX0_at 4 = .ok (.ifCond .eq 11, 3) := dk_153 0 11 (dk_at dksX0_at_0 4 rfl rfl)
theorem dX0_at_7 : decode cX0_at 7 = .ok (.aload_n 0, 1) := dk_42 (dk_at dksX0_at_0 7 rfl rfl)
theorem dX0_at_8 : decode cX0_at 8 = .ok (.checkcast 54, 3) := dk_192 0 54 (dk_at dksX0_at_0 8 rfl rfl)
theorem dX0_at_11 : decode cX0_at 11 = .ok (.iload_n 1, 1) := dk_27 (dk_at dksX0_at_0 11 rfl rfl)
theorem dX0_at_12 : decode cX0_at 12 = .ok (.baload, 1) := dk_51 (dk_at dksX0_at_0 12 rfl rfl)
theorem dX0_at_13 : decode cX0_at 13 = .ok (.i2l, 1) := dk_133 (dk_at dksX0_at_0 13 rfl rfl)
theorem dX0_at_14 : decode cX0_at 14 = .ok (.lreturn, 1) := dk_173 (dk_at dksX0_at_0 14 rfl rfl)
theorem dX0_at_15 : decode cX0_at 15 = .ok (.aload_n 0, 1) := dk_42 (dk_at dksX0_at_0 15 rfl rfl)
theorem dX0_at_16 : decode cX0_at 16 = .ok (.instanceof 56, 3) := dk_193 0 56 (dk_at dksX0_at_0 16 rfl rfl)
theorem dX0_at_19 : decode cX0_at 19 = .ok (.ifCond .eq 11, 3) := dk_153 0 11 (dk_at dksX0_at_0 19 rfl rfl)
theorem dX0_at_22 : decode cX0_at 22 = .ok (.aload_n 0, 1) := dk_42 (dk_at dksX0_at_0 22 rfl rfl)
theorem dX0_at_23 : decode cX0_at 23 = .ok (.checkcast 56, 3) := dk_192 0 56 (dk_at dksX0_at_1 0 rfl rfl)
theorem dX0_at_26 : decode cX0_at 26 = .ok (.iload_n 1, 1) := dk_27 (dk_at dksX0_at_1 3 rfl rfl)
theorem dX0_at_27 : decode cX0_at 27 = .ok (.iaload, 1) := dk_46 (dk_at dksX0_at_1 4 rfl rfl)
theorem dX0_at_28 : decode cX0_at 28 = .ok (.i2l, 1) := dk_133 (dk_at dksX0_at_1 5 rfl rfl)
theorem dX0_at_29 : decode cX0_at 29 = .ok (.lreturn, 1) := dk_173 (dk_at dksX0_at_1 6 rfl rfl)
theorem dX0_at_30 : decode cX0_at 30 = .ok (.aload_n 0, 1) := dk_42 (dk_at dksX0_at_1 7 rfl rfl)
theorem dX0_at_31 : decode cX0_at 31 = .ok (.instanceof 57, 3) := dk_193 0 57 (dk_at dksX0_at_1 8 rfl rfl)
theorem dX0_at_34 : decode cX0_at 34 = .ok (.ifCond .eq 10, 3) := dk_153 0 10 (dk_at dksX0_at_1 11 rfl rfl)
theorem dX0_at_37 : decode cX0_at 37 = .ok (.aload_n 0, 1) := dk_42 (dk_at dksX0_at_1 14 rfl rfl)
theorem dX0_at_38 : decode cX0_at 38 = .ok (.checkcast 57, 3) := dk_192 0 57 (dk_at dksX0_at_1 15 rfl rfl)
theorem dX0_at_41 : decode cX0_at 41 = .ok (.iload_n 1, 1) := dk_27 (dk_at dksX0_at_1 18 rfl rfl)
theorem dX0_at_42 : decode cX0_at 42 = .ok (.laload, 1) := dk_47 (dk_at dksX0_at_1 19 rfl rfl)
theorem dX0_at_43 : decode cX0_at 43 = .ok (.lreturn, 1) := dk_173 (dk_at dksX0_at_1 20 rfl rfl)
theorem dX0_at_44 : decode cX0_at 44 = .ok (.aload_n 0, 1) := dk_42 (dk_at dksX0_at_1 21 rfl rfl)
theorem dX0_at_45 : decode cX0_at 45 = .ok (.checkcast 66, 3) := dk_192 0 66 (dk_at dksX0_at_2 0 rfl rfl)
theorem dX0_at_48 : decode cX0_at 48 = .ok (.iload_n 1, 1) := dk_27 (dk_at dksX0_at_2 3 rfl rfl)
theorem dX0_at_49 : decode cX0_at 49 = .ok (.aaload, 1) := dk_50 (dk_at dksX0_at_2 4 rfl rfl)
theorem dX0_at_50 : decode cX0_at 50 = .ok (.getfield 68, 3) := dk_180 0 68 (dk_at dksX0_at_2 5 rfl rfl)
theorem dX0_at_53 : decode cX0_at 53 = .ok (.lreturn, 1) := dk_173 (dk_at dksX0_at_2 8 rfl rfl)
abbrev cX0_put : ByteArray := prog_1_method_33_code
def yX0_put : MethodName := ⟨RX0, "put", "(IIIIJ)I"⟩
def dkwX0_put_6 : List UInt8 := [182, 0, 114, 172, 58, 9, 42, 4, 182, 0, 47, 172, 58, 9, 42, 4, 182, 0, 174, 172]
abbrev dktX0_put_6 : List UInt8 := dkwX0_put_6 ++ []
def dkwX0_put_5 : List UInt8 := [21, 9, 182, 0, 174, 172, 25, 8, 25, 7, 42, 180, 0, 34, 182, 0, 160, 22, 5, 184, 0, 92, 42, 4]
abbrev dktX0_put_5 : List UInt8 := dkwX0_put_5 ++ dktX0_put_6
def dkwX0_put_4 : List UInt8 := [4, 182, 0, 114, 172, 25, 7, 42, 180, 0, 34, 182, 0, 171, 54, 9, 21, 9, 2, 159, 0, 10, 42]
abbrev dktX0_put_4 : List UInt8 := dkwX0_put_4 ++ dktX0_put_5
def dkwX0_put_3 : List UInt8 := [192, 0, 58, 28, 25, 7, 180, 0, 105, 3, 46, 100, 50, 25, 7, 29, 184, 0, 188, 22, 5, 136, 79, 42]
abbrev dktX0_put_3 : List UInt8 := dkwX0_put_3 ++ dktX0_put_4
def dkwX0_put_2 : List UInt8 := [193, 0, 58, 153, 0, 50, 25, 7, 3, 28, 182, 0, 180, 154, 0, 9, 42, 3, 182, 0, 174, 172, 25, 8]
abbrev dktX0_put_2 : List UInt8 := dkwX0_put_2 ++ dktX0_put_3
def dkwX0_put_1 : List UInt8 := [58, 7, 42, 180, 0, 18, 27, 50, 180, 0, 101, 58, 8, 42, 28, 29, 21, 4, 182, 0, 184, 25, 8]
abbrev dktX0_put_1 : List UInt8 := dkwX0_put_1 ++ dktX0_put_2
def dkwX0_put_0 : List UInt8 := [42, 27, 182, 0, 143, 154, 0, 10, 42, 16, 7, 182, 0, 47, 172, 42, 180, 0, 18, 27, 50, 180, 0, 96]
abbrev dktX0_put_0 : List UInt8 := dkwX0_put_0 ++ dktX0_put_1
theorem dksX0_put_0 : cX0_put.data.toList.drop 0 = dktX0_put_0 := by decide +kernel
theorem dksX0_put_1 : cX0_put.data.toList.drop 24 = dktX0_put_1 := dk_seg dksX0_put_0 24 rfl rfl
theorem dksX0_put_2 : cX0_put.data.toList.drop 47 = dktX0_put_2 := dk_seg dksX0_put_1 23 rfl rfl
theorem dksX0_put_3 : cX0_put.data.toList.drop 71 = dktX0_put_3 := dk_seg dksX0_put_2 24 rfl rfl
theorem dksX0_put_4 : cX0_put.data.toList.drop 95 = dktX0_put_4 := dk_seg dksX0_put_3 24 rfl rfl
theorem dksX0_put_5 : cX0_put.data.toList.drop 118 = dktX0_put_5 := dk_seg dksX0_put_4 23 rfl rfl
theorem dksX0_put_6 : cX0_put.data.toList.drop 142 = dktX0_put_6 := dk_seg dksX0_put_5 24 rfl rfl
theorem dX0_put_0 : decode cX0_put 0 = .ok (.aload_n 0, 1) := dk_42 (dk_at dksX0_put_0 0 rfl rfl)
theorem dX0_put_1 : decode cX0_put 1 = .ok (.iload_n 1, 1) := dk_27 (dk_at dksX0_put_0 1 rfl rfl)
theorem dX0_put_2 : decode cX0_put 2 = .ok (.invokevirtual 143, 3) := dk_182 0 143 (dk_at dksX0_put_0 2 rfl rfl)
theorem dX0_put_5 : decode cX0_put 5 = .ok (.ifCond .ne 10, 3) := dk_154 0 10 (dk_at dksX0_put_0 5 rfl rfl)
theorem dX0_put_8 : decode cX0_put 8 = .ok (.aload_n 0, 1) := dk_42 (dk_at dksX0_put_0 8 rfl rfl)
theorem dX0_put_9 : decode cX0_put 9 = .ok (.bipush 7, 2) := dk_16 7 (dk_at dksX0_put_0 9 rfl rfl)
theorem dX0_put_11 : decode cX0_put 11 = .ok (.invokevirtual 47, 3) := dk_182 0 47 (dk_at dksX0_put_0 11 rfl rfl)
theorem dX0_put_14 : decode cX0_put 14 = .ok (.ireturn, 1) := dk_172 (dk_at dksX0_put_0 14 rfl rfl)
theorem dX0_put_15 : decode cX0_put 15 = .ok (.aload_n 0, 1) := dk_42 (dk_at dksX0_put_0 15 rfl rfl)
theorem dX0_put_16 : decode cX0_put 16 = .ok (.getfield 18, 3) := dk_180 0 18 (dk_at dksX0_put_0 16 rfl rfl)
theorem dX0_put_19 : decode cX0_put 19 = .ok (.iload_n 1, 1) := dk_27 (dk_at dksX0_put_0 19 rfl rfl)
theorem dX0_put_20 : decode cX0_put 20 = .ok (.aaload, 1) := dk_50 (dk_at dksX0_put_0 20 rfl rfl)
theorem dX0_put_21 : decode cX0_put 21 = .ok (.getfield 96, 3) := dk_180 0 96 (dk_at dksX0_put_0 21 rfl rfl)
theorem dX0_put_24 : decode cX0_put 24 = .ok (.astore 7, 2) := dk_58 7 (dk_at dksX0_put_1 0 rfl rfl)
theorem dX0_put_26 : decode cX0_put 26 = .ok (.aload_n 0, 1) := dk_42 (dk_at dksX0_put_1 2 rfl rfl)
theorem dX0_put_27 : decode cX0_put 27 = .ok (.getfield 18, 3) := dk_180 0 18 (dk_at dksX0_put_1 3 rfl rfl)
theorem dX0_put_30 : decode cX0_put 30 = .ok (.iload_n 1, 1) := dk_27 (dk_at dksX0_put_1 6 rfl rfl)
theorem dX0_put_31 : decode cX0_put 31 = .ok (.aaload, 1) := dk_50 (dk_at dksX0_put_1 7 rfl rfl)
theorem dX0_put_32 : decode cX0_put 32 = .ok (.getfield 101, 3) := dk_180 0 101 (dk_at dksX0_put_1 8 rfl rfl)
theorem dX0_put_35 : decode cX0_put 35 = .ok (.astore 8, 2) := dk_58 8 (dk_at dksX0_put_1 11 rfl rfl)
theorem dX0_put_37 : decode cX0_put 37 = .ok (.aload_n 0, 1) := dk_42 (dk_at dksX0_put_1 13 rfl rfl)
theorem dX0_put_38 : decode cX0_put 38 = .ok (.iload_n 2, 1) := dk_28 (dk_at dksX0_put_1 14 rfl rfl)
theorem dX0_put_39 : decode cX0_put 39 = .ok (.iload_n 3, 1) := dk_29 (dk_at dksX0_put_1 15 rfl rfl)
theorem dX0_put_40 : decode cX0_put 40 = .ok (.iload 4, 2) := dk_21 4 (dk_at dksX0_put_1 16 rfl rfl)
theorem dX0_put_42 : decode cX0_put 42 = .ok (.invokevirtual 184, 3) := dk_182 0 184 (dk_at dksX0_put_1 18 rfl rfl)
theorem dX0_put_45 : decode cX0_put 45 = .ok (.aload 8, 2) := dk_25 8 (dk_at dksX0_put_1 21 rfl rfl)
theorem dX0_put_47 : decode cX0_put 47 = .ok (.instanceof 58, 3) := dk_193 0 58 (dk_at dksX0_put_2 0 rfl rfl)
theorem dX0_put_50 : decode cX0_put 50 = .ok (.ifCond .eq 50, 3) := dk_153 0 50 (dk_at dksX0_put_2 3 rfl rfl)
theorem dX0_put_53 : decode cX0_put 53 = .ok (.aload 7, 2) := dk_25 7 (dk_at dksX0_put_2 6 rfl rfl)
theorem dX0_put_55 : decode cX0_put 55 = .ok (.iconst 0, 1) := dk_3 (dk_at dksX0_put_2 8 rfl rfl)
theorem dX0_put_56 : decode cX0_put 56 = .ok (.iload_n 2, 1) := dk_28 (dk_at dksX0_put_2 9 rfl rfl)
theorem dX0_put_57 : decode cX0_put 57 = .ok (.invokevirtual 180, 3) := dk_182 0 180 (dk_at dksX0_put_2 10 rfl rfl)
theorem dX0_put_60 : decode cX0_put 60 = .ok (.ifCond .ne 9, 3) := dk_154 0 9 (dk_at dksX0_put_2 13 rfl rfl)
theorem dX0_put_63 : decode cX0_put 63 = .ok (.aload_n 0, 1) := dk_42 (dk_at dksX0_put_2 16 rfl rfl)
theorem dX0_put_64 : decode cX0_put 64 = .ok (.iconst 0, 1) := dk_3 (dk_at dksX0_put_2 17 rfl rfl)
theorem dX0_put_65 : decode cX0_put 65 = .ok (.invokevirtual 174, 3) := dk_182 0 174 (dk_at dksX0_put_2 18 rfl rfl)
theorem dX0_put_68 : decode cX0_put 68 = .ok (.ireturn, 1) := dk_172 (dk_at dksX0_put_2 21 rfl rfl)
theorem dX0_put_69 : decode cX0_put 69 = .ok (.aload 8, 2) := dk_25 8 (dk_at dksX0_put_2 22 rfl rfl)
theorem dX0_put_71 : decode cX0_put 71 = .ok (.checkcast 58, 3) := dk_192 0 58 (dk_at dksX0_put_3 0 rfl rfl)
theorem dX0_put_74 : decode cX0_put 74 = .ok (.iload_n 2, 1) := dk_28 (dk_at dksX0_put_3 3 rfl rfl)
theorem dX0_put_75 : decode cX0_put 75 = .ok (.aload 7, 2) := dk_25 7 (dk_at dksX0_put_3 4 rfl rfl)
theorem dX0_put_77 : decode cX0_put 77 = .ok (.getfield 105, 3) := dk_180 0 105 (dk_at dksX0_put_3 6 rfl rfl)
theorem dX0_put_80 : decode cX0_put 80 = .ok (.iconst 0, 1) := dk_3 (dk_at dksX0_put_3 9 rfl rfl)
theorem dX0_put_81 : decode cX0_put 81 = .ok (.iaload, 1) := dk_46 (dk_at dksX0_put_3 10 rfl rfl)
theorem dX0_put_82 : decode cX0_put 82 = .ok (.isub, 1) := dk_100 (dk_at dksX0_put_3 11 rfl rfl)
theorem dX0_put_83 : decode cX0_put 83 = .ok (.aaload, 1) := dk_50 (dk_at dksX0_put_3 12 rfl rfl)
theorem dX0_put_84 : decode cX0_put 84 = .ok (.aload 7, 2) := dk_25 7 (dk_at dksX0_put_3 13 rfl rfl)
theorem dX0_put_86 : decode cX0_put 86 = .ok (.iload_n 3, 1) := dk_29 (dk_at dksX0_put_3 15 rfl rfl)
theorem dX0_put_87 : decode cX0_put 87 = .ok (.invokestatic 188, 3) := dk_184 0 188 (dk_at dksX0_put_3 16 rfl rfl)
theorem dX0_put_90 : decode cX0_put 90 = .ok (.lload 5, 2) := dk_22 5 (dk_at dksX0_put_3 19 rfl rfl)
theorem dX0_put_92 : decode cX0_put 92 = .ok (.l2i, 1) := dk_136 (dk_at dksX0_put_3 21 rfl rfl)
theorem dX0_put_93 : decode cX0_put 93 = .ok (.iastore, 1) := dk_79 (dk_at dksX0_put_3 22 rfl rfl)
theorem dX0_put_94 : decode cX0_put 94 = .ok (.aload_n 0, 1) := dk_42 (dk_at dksX0_put_3 23 rfl rfl)
theorem dX0_put_95 : decode cX0_put 95 = .ok (.iconst 1, 1) := dk_4 (dk_at dksX0_put_4 0 rfl rfl)
theorem dX0_put_96 : decode cX0_put 96 = .ok (.invokevirtual 114, 3) := dk_182 0 114 (dk_at dksX0_put_4 1 rfl rfl)
theorem dX0_put_99 : decode cX0_put 99 = .ok (.ireturn, 1) := dk_172 (dk_at dksX0_put_4 4 rfl rfl)
theorem dX0_put_100 : decode cX0_put 100 = .ok (.aload 7, 2) := dk_25 7 (dk_at dksX0_put_4 5 rfl rfl)
theorem dX0_put_102 : decode cX0_put 102 = .ok (.aload_n 0, 1) := dk_42 (dk_at dksX0_put_4 7 rfl rfl)
theorem dX0_put_103 : decode cX0_put 103 = .ok (.getfield 34, 3) := dk_180 0 34 (dk_at dksX0_put_4 8 rfl rfl)
theorem dX0_put_106 : decode cX0_put 106 = .ok (.invokevirtual 171, 3) := dk_182 0 171 (dk_at dksX0_put_4 11 rfl rfl)
theorem dX0_put_109 : decode cX0_put 109 = .ok (.istore 9, 2) := dk_54 9 (dk_at dksX0_put_4 14 rfl rfl)
theorem dX0_put_111 : decode cX0_put 111 = .ok (.iload 9, 2) := dk_21 9 (dk_at dksX0_put_4 16 rfl rfl)
theorem dX0_put_113 : decode cX0_put 113 = .ok (.iconst (-1), 1) := dk_2 (dk_at dksX0_put_4 18 rfl rfl)
theorem dX0_put_114 : decode cX0_put 114 = .ok (.if_icmp .eq 10, 3) := dk_159 0 10 (dk_at dksX0_put_4 19 rfl rfl)
theorem dX0_put_117 : decode cX0_put 117 = .ok (.aload_n 0, 1) := dk_42 (dk_at dksX0_put_4 22 rfl rfl)
theorem dX0_put_118 : decode cX0_put 118 = .ok (.iload 9, 2) := dk_21 9 (dk_at dksX0_put_5 0 rfl rfl)
theorem dX0_put_120 : decode cX0_put 120 = .ok (.invokevirtual 174, 3) := dk_182 0 174 (dk_at dksX0_put_5 2 rfl rfl)
theorem dX0_put_123 : decode cX0_put 123 = .ok (.ireturn, 1) := dk_172 (dk_at dksX0_put_5 5 rfl rfl)
theorem dX0_put_124 : decode cX0_put 124 = .ok (.aload 8, 2) := dk_25 8 (dk_at dksX0_put_5 6 rfl rfl)
theorem dX0_put_126 : decode cX0_put 126 = .ok (.aload 7, 2) := dk_25 7 (dk_at dksX0_put_5 8 rfl rfl)
theorem dX0_put_128 : decode cX0_put 128 = .ok (.aload_n 0, 1) := dk_42 (dk_at dksX0_put_5 10 rfl rfl)
theorem dX0_put_129 : decode cX0_put 129 = .ok (.getfield 34, 3) := dk_180 0 34 (dk_at dksX0_put_5 11 rfl rfl)
theorem dX0_put_132 : decode cX0_put 132 = .ok (.invokevirtual 160, 3) := dk_182 0 160 (dk_at dksX0_put_5 14 rfl rfl)
theorem dX0_put_135 : decode cX0_put 135 = .ok (.lload 5, 2) := dk_22 5 (dk_at dksX0_put_5 17 rfl rfl)
theorem dX0_put_137 : decode cX0_put 137 = .ok (.invokestatic 92, 3) := dk_184 0 92 (dk_at dksX0_put_5 19 rfl rfl)
theorem dX0_put_140 : decode cX0_put 140 = .ok (.aload_n 0, 1) := dk_42 (dk_at dksX0_put_5 22 rfl rfl)
theorem dX0_put_141 : decode cX0_put 141 = .ok (.iconst 1, 1) := dk_4 (dk_at dksX0_put_5 23 rfl rfl)
theorem dX0_put_142 : decode cX0_put 142 = .ok (.invokevirtual 114, 3) := dk_182 0 114 (dk_at dksX0_put_6 0 rfl rfl)
theorem dX0_put_145 : decode cX0_put 145 = .ok (.ireturn, 1) := dk_172 (dk_at dksX0_put_6 3 rfl rfl)
theorem dX0_put_146 : decode cX0_put 146 = .ok (.astore 9, 2) := dk_58 9 (dk_at dksX0_put_6 4 rfl rfl)
theorem dX0_put_148 : decode cX0_put 148 = .ok (.aload_n 0, 1) := dk_42 (dk_at dksX0_put_6 6 rfl rfl)
theorem dX0_put_149 : decode cX0_put 149 = .ok (.iconst 1, 1) := dk_4 (dk_at dksX0_put_6 7 rfl rfl)
theorem dX0_put_150 : decode cX0_put 150 = .ok (.invokevirtual 47, 3) := dk_182 0 47 (dk_at dksX0_put_6 8 rfl rfl)
theorem dX0_put_153 : decode cX0_put 153 = .ok (.ireturn, 1) := dk_172 (dk_at dksX0_put_6 11 rfl rfl)
theorem dX0_put_154 : decode cX0_put 154 = .ok (.astore 9, 2) := dk_58 9 (dk_at dksX0_put_6 12 rfl rfl)
theorem dX0_put_156 : decode cX0_put 156 = .ok (.aload_n 0, 1) := dk_42 (dk_at dksX0_put_6 14 rfl rfl)
theorem dX0_put_157 : decode cX0_put 157 = .ok (.iconst 1, 1) := dk_4 (dk_at dksX0_put_6 15 rfl rfl)
theorem dX0_put_158 : decode cX0_put 158 = .ok (.invokevirtual 174, 3) := dk_182 0 174 (dk_at dksX0_put_6 16 rfl rfl)
theorem dX0_put_161 : decode cX0_put 161 = .ok (.ireturn, 1) := dk_172 (dk_at dksX0_put_6 19 rfl rfl)
abbrev cX0_put_2 : ByteArray := prog_1_method_10_code
def yX0_put_2 : MethodName := ⟨RX0, "put", "(Ljava/lang/Object;IJ)V"⟩
def dkwX0_put_2_2 : List UInt8 := [192, 0, 57, 27, 32, 80, 167, 0, 17, 42, 192, 0, 66, 27, 187, 0, 60, 89, 32, 183, 0, 72, 83, 177]
abbrev dktX0_put_2_2 : List UInt8 := dkwX0_put_2_2 ++ []
def dkwX0_put_2_1 : List UInt8 := [153, 0, 14, 42, 192, 0, 56, 27, 32, 136, 79, 167, 0, 34, 42, 193, 0, 57, 153, 0, 13, 42]
abbrev dktX0_put_2_1 : List UInt8 := dkwX0_put_2_1 ++ dktX0_put_2_2
def dkwX0_put_2_0 : List UInt8 := [42, 193, 0, 54, 153, 0, 15, 42, 192, 0, 54, 27, 32, 136, 145, 84, 167, 0, 52, 42, 193, 0, 56]
abbrev dktX0_put_2_0 : List UInt8 := dkwX0_put_2_0 ++ dktX0_put_2_1
theorem dksX0_put_2_0 : cX0_put_2.data.toList.drop 0 = dktX0_put_2_0 := by decide +kernel
theorem dksX0_put_2_1 : cX0_put_2.data.toList.drop 23 = dktX0_put_2_1 := dk_seg dksX0_put_2_0 23 rfl rfl
theorem dksX0_put_2_2 : cX0_put_2.data.toList.drop 45 = dktX0_put_2_2 := dk_seg dksX0_put_2_1 22 rfl rfl
theorem dX0_put_2_0 : decode cX0_put_2 0 = .ok (.aload_n 0, 1) := dk_42 (dk_at dksX0_put_2_0 0 rfl rfl)
theorem dX0_put_2_1 : decode cX0_put_2 1 = .ok (.instanceof 54, 3) := dk_193 0 54 (dk_at dksX0_put_2_0 1 rfl rfl)
theorem dX0_put_2_4 : decode cX0_put_2 4 = .ok (.ifCond .eq 15, 3) := dk_153 0 15 (dk_at dksX0_put_2_0 4 rfl rfl)
theorem dX0_put_2_7 : decode cX0_put_2 7 = .ok (.aload_n 0, 1) := dk_42 (dk_at dksX0_put_2_0 7 rfl rfl)
theorem dX0_put_2_8 : decode cX0_put_2 8 = .ok (.checkcast 54, 3) := dk_192 0 54 (dk_at dksX0_put_2_0 8 rfl rfl)
theorem dX0_put_2_11 : decode cX0_put_2 11 = .ok (.iload_n 1, 1) := dk_27 (dk_at dksX0_put_2_0 11 rfl rfl)
theorem dX0_put_2_12 : decode cX0_put_2 12 = .ok (.lload_n 2, 1) := dk_32 (dk_at dksX0_put_2_0 12 rfl rfl)
theorem dX0_put_2_13 : decode cX0_put_2 13 = .ok (.l2i, 1) := dk_136 (dk_at dksX0_put_2_0 13 rfl rfl)
theorem dX0_put_2_14 : decode cX0_put_2 14 = .ok (.i2b, 1) := dk_145 (dk_at dksX0_put_2_0 14 rfl rfl)
theorem dX0_put_2_15 : decode cX0_put_2 15 = .ok (.bastore, 1) := dk_84 (dk_at dksX0_put_2_0 15 rfl rfl)
theorem dX0_put_2_16 : decode cX0_put_2 16 = .ok (.goto 52, 3) := dk_167 0 52 (dk_at dksX0_put_2_0 16 rfl rfl)
theorem dX0_put_2_19 : decode cX0_put_2 19 = .ok (.aload_n 0, 1) := dk_42 (dk_at dksX0_put_2_0 19 rfl rfl)
theorem dX0_put_2_20 : decode cX0_put_2 20 = .ok (.instanceof 56, 3) := dk_193 0 56 (dk_at dksX0_put_2_0 20 rfl rfl)
theorem dX0_put_2_23 : decode cX0_put_2 23 = .ok (.ifCond .eq 14, 3) := dk_153 0 14 (dk_at dksX0_put_2_1 0 rfl rfl)
theorem dX0_put_2_26 : decode cX0_put_2 26 = .ok (.aload_n 0, 1) := dk_42 (dk_at dksX0_put_2_1 3 rfl rfl)
theorem dX0_put_2_27 : decode cX0_put_2 27 = .ok (.checkcast 56, 3) := dk_192 0 56 (dk_at dksX0_put_2_1 4 rfl rfl)
theorem dX0_put_2_30 : decode cX0_put_2 30 = .ok (.iload_n 1, 1) := dk_27 (dk_at dksX0_put_2_1 7 rfl rfl)
theorem dX0_put_2_31 : decode cX0_put_2 31 = .ok (.lload_n 2, 1) := dk_32 (dk_at dksX0_put_2_1 8 rfl rfl)
theorem dX0_put_2_32 : decode cX0_put_2 32 = .ok (.l2i, 1) := dk_136 (dk_at dksX0_put_2_1 9 rfl rfl)
theorem dX0_put_2_33 : decode cX0_put_2 33 = .ok (.iastore, 1) := dk_79 (dk_at dksX0_put_2_1 10 rfl rfl)
theorem dX0_put_2_34 : decode cX0_put_2 34 = .ok (.goto 34, 3) := dk_167 0 34 (dk_at dksX0_put_2_1 11 rfl rfl)
theorem dX0_put_2_37 : decode cX0_put_2 37 = .ok (.aload_n 0, 1) := dk_42 (dk_at dksX0_put_2_1 14 rfl rfl)
theorem dX0_put_2_38 : decode cX0_put_2 38 = .ok (.instanceof 57, 3) := dk_193 0 57 (dk_at dksX0_put_2_1 15 rfl rfl)
theorem dX0_put_2_41 : decode cX0_put_2 41 = .ok (.ifCond .eq 13, 3) := dk_153 0 13 (dk_at dksX0_put_2_1 18 rfl rfl)
theorem dX0_put_2_44 : decode cX0_put_2 44 = .ok (.aload_n 0, 1) := dk_42 (dk_at dksX0_put_2_1 21 rfl rfl)
theorem dX0_put_2_45 : decode cX0_put_2 45 = .ok (.checkcast 57, 3) := dk_192 0 57 (dk_at dksX0_put_2_2 0 rfl rfl)
theorem dX0_put_2_48 : decode cX0_put_2 48 = .ok (.iload_n 1, 1) := dk_27 (dk_at dksX0_put_2_2 3 rfl rfl)
theorem dX0_put_2_49 : decode cX0_put_2 49 = .ok (.lload_n 2, 1) := dk_32 (dk_at dksX0_put_2_2 4 rfl rfl)
theorem dX0_put_2_50 : decode cX0_put_2 50 = .ok (.lastore, 1) := dk_80 (dk_at dksX0_put_2_2 5 rfl rfl)
theorem dX0_put_2_51 : decode cX0_put_2 51 = .ok (.goto 17, 3) := dk_167 0 17 (dk_at dksX0_put_2_2 6 rfl rfl)
theorem dX0_put_2_54 : decode cX0_put_2 54 = .ok (.aload_n 0, 1) := dk_42 (dk_at dksX0_put_2_2 9 rfl rfl)
theorem dX0_put_2_55 : decode cX0_put_2 55 = .ok (.checkcast 66, 3) := dk_192 0 66 (dk_at dksX0_put_2_2 10 rfl rfl)
theorem dX0_put_2_58 : decode cX0_put_2 58 = .ok (.iload_n 1, 1) := dk_27 (dk_at dksX0_put_2_2 13 rfl rfl)
theorem dX0_put_2_59 : decode cX0_put_2 59 = .ok (.new 60, 3) := dk_187 0 60 (dk_at dksX0_put_2_2 14 rfl rfl)
theorem dX0_put_2_62 : decode cX0_put_2 62 = .ok (.dup, 1) := dk_89 (dk_at dksX0_put_2_2 17 rfl rfl)
theorem dX0_put_2_63 : decode cX0_put_2 63 = .ok (.lload_n 2, 1) := dk_32 (dk_at dksX0_put_2_2 18 rfl rfl)
theorem dX0_put_2_64 : decode cX0_put_2 64 = .ok (.invokespecial 72, 3) := dk_183 0 72 (dk_at dksX0_put_2_2 19 rfl rfl)
theorem dX0_put_2_67 : decode cX0_put_2 67 = .ok (.aastore, 1) := dk_83 (dk_at dksX0_put_2_2 22 rfl rfl)
theorem dX0_put_2_68 : decode cX0_put_2 68 = .ok (.return_, 1) := dk_177 (dk_at dksX0_put_2_2 23 rfl rfl)
abbrev cX0_empty : ByteArray := prog_1_method_34_code
def yX0_empty : MethodName := ⟨RX0, "empty", "(IIII)I"⟩
def dkwX0_empty_4 : List UInt8 := [58, 5, 42, 5, 182, 0, 47, 172]
abbrev dktX0_empty_4 : List UInt8 := dkwX0_empty_4 ++ []
def dkwX0_empty_3 : List UInt8 := [180, 0, 18, 27, 50, 180, 0, 96, 42, 180, 0, 34, 182, 0, 160, 1, 83, 42, 4, 182, 0, 114, 172]
abbrev dktX0_empty_3 : List UInt8 := dkwX0_empty_3 ++ dktX0_empty_4
def dkwX0_empty_2 : List UInt8 := [180, 0, 34, 182, 0, 171, 54, 6, 21, 6, 2, 159, 0, 10, 42, 21, 6, 182, 0, 174, 172, 25, 5, 42]
abbrev dktX0_empty_2 : List UInt8 := dkwX0_empty_2 ++ dktX0_empty_3
def dkwX0_empty_1 : List UInt8 := [180, 0, 18, 27, 50, 180, 0, 101, 192, 0, 66, 58, 5, 42, 180, 0, 18, 27, 50, 180, 0, 96, 42]
abbrev dktX0_empty_1 : List UInt8 := dkwX0_empty_1 ++ dktX0_empty_2
def dkwX0_empty_0 : List UInt8 := [42, 27, 182, 0, 143, 154, 0, 10, 42, 16, 7, 182, 0, 47, 172, 42, 28, 29, 21, 4, 182, 0, 184, 42]
abbrev dktX0_empty_0 : List UInt8 := dkwX0_empty_0 ++ dktX0_empty_1
theorem dksX0_empty_0 : cX0_empty.data.toList.drop 0 = dktX0_empty_0 := by decide +kernel
theorem dksX0_empty_1 : cX0_empty.data.toList.drop 24 = dktX0_empty_1 := dk_seg dksX0_empty_0 24 rfl rfl
theorem dksX0_empty_2 : cX0_empty.data.toList.drop 47 = dktX0_empty_2 := dk_seg dksX0_empty_1 23 rfl rfl
theorem dksX0_empty_3 : cX0_empty.data.toList.drop 71 = dktX0_empty_3 := dk_seg dksX0_empty_2 24 rfl rfl
theorem dksX0_empty_4 : cX0_empty.data.toList.drop 94 = dktX0_empty_4 := dk_seg dksX0_empty_3 23 rfl rfl
theorem dX0_empty_0 : decode cX0_empty 0 = .ok (.aload_n 0, 1) := dk_42 (dk_at dksX0_empty_0 0 rfl rfl)
theorem dX0_empty_1 : decode cX0_empty 1 = .ok (.iload_n 1, 1) := dk_27 (dk_at dksX0_empty_0 1 rfl rfl)
theorem dX0_empty_2 : decode cX0_empty 2 = .ok (.invokevirtual 143, 3) := dk_182 0 143 (dk_at dksX0_empty_0 2 rfl rfl)
theorem dX0_empty_5 : decode cX0_empty 5 = .ok (.ifCond .ne 10, 3) := dk_154 0 10 (dk_at dksX0_empty_0 5 rfl rfl)
theorem dX0_empty_8 : decode cX0_empty 8 = .ok (.aload_n 0, 1) := dk_42 (dk_at dksX0_empty_0 8 rfl rfl)
theorem dX0_empty_9 : decode cX0_empty 9 = .ok (.bipush 7, 2) := dk_16 7 (dk_at dksX0_empty_0 9 rfl rfl)
theorem dX0_empty_11 : decode cX0_empty 11 = .ok (.invokevirtual 47, 3) := dk_182 0 47 (dk_at dksX0_empty_0 11 rfl rfl)
theorem dX0_empty_14 : decode cX0_empty 14 = .ok (.ireturn, 1) := dk_172 (dk_at dksX0_empty_0 14 rfl rfl)
theorem dX0_empty_15 : decode cX0_empty 15 = .ok (.aload_n 0, 1) := dk_42 (dk_at dksX0_empty_0 15 rfl rfl)
theorem dX0_empty_16 : decode cX0_empty 16 = .ok (.iload_n 2, 1) := dk_28 (dk_at dksX0_empty_0 16 rfl rfl)
theorem dX0_empty_17 : decode cX0_empty 17 = .ok (.iload_n 3, 1) := dk_29 (dk_at dksX0_empty_0 17 rfl rfl)
theorem dX0_empty_18 : decode cX0_empty 18 = .ok (.iload 4, 2) := dk_21 4 (dk_at dksX0_empty_0 18 rfl rfl)
theorem dX0_empty_20 : decode cX0_empty 20 = .ok (.invokevirtual 184, 3) := dk_182 0 184 (dk_at dksX0_empty_0 20 rfl rfl)
theorem dX0_empty_23 : decode cX0_empty 23 = .ok (.aload_n 0, 1) := dk_42 (dk_at dksX0_empty_0 23 rfl rfl)
theorem dX0_empty_24 : decode cX0_empty 24 = .ok (.getfield 18, 3) := dk_180 0 18 (dk_at dksX0_empty_1 0 rfl rfl)
theorem dX0_empty_27 : decode cX0_empty 27 = .ok (.iload_n 1, 1) := dk_27 (dk_at dksX0_empty_1 3 rfl rfl)
theorem dX0_empty_28 : decode cX0_empty 28 = .ok (.aaload, 1) := dk_50 (dk_at dksX0_empty_1 4 rfl rfl)
theorem dX0_empty_29 : decode cX0_empty 29 = .ok (.getfield 101, 3) := dk_180 0 101 (dk_at dksX0_empty_1 5 rfl rfl)
theorem dX0_empty_32 : decode cX0_empty 32 = .ok (.checkcast 66, 3) := dk_192 0 66 (dk_at dksX0_empty_1 8 rfl rfl)
theorem dX0_empty_35 : decode cX0_empty 35 = .ok (.astore 5, 2) := dk_58 5 (dk_at dksX0_empty_1 11 rfl rfl)
theorem dX0_empty_37 : decode cX0_empty 37 = .ok (.aload_n 0, 1) := dk_42 (dk_at dksX0_empty_1 13 rfl rfl)
theorem dX0_empty_38 : decode cX0_empty 38 = .ok (.getfield 18, 3) := dk_180 0 18 (dk_at dksX0_empty_1 14 rfl rfl)
theorem dX0_empty_41 : decode cX0_empty 41 = .ok (.iload_n 1, 1) := dk_27 (dk_at dksX0_empty_1 17 rfl rfl)
theorem dX0_empty_42 : decode cX0_empty 42 = .ok (.aaload, 1) := dk_50 (dk_at dksX0_empty_1 18 rfl rfl)
theorem dX0_empty_43 : decode cX0_empty 43 = .ok (.getfield 96, 3) := dk_180 0 96 (dk_at dksX0_empty_1 19 rfl rfl)
theorem dX0_empty_46 : decode cX0_empty 46 = .ok (.aload_n 0, 1) := dk_42 (dk_at dksX0_empty_1 22 rfl rfl)
theorem dX0_empty_47 : decode cX0_empty 47 = .ok (.getfield 34, 3) := dk_180 0 34 (dk_at dksX0_empty_2 0 rfl rfl)
theorem dX0_empty_50 : decode cX0_empty 50 = .ok (.invokevirtual 171, 3) := dk_182 0 171 (dk_at dksX0_empty_2 3 rfl rfl)
theorem dX0_empty_53 : decode cX0_empty 53 = .ok (.istore 6, 2) := dk_54 6 (dk_at dksX0_empty_2 6 rfl rfl)
theorem dX0_empty_55 : decode cX0_empty 55 = .ok (.iload 6, 2) := dk_21 6 (dk_at dksX0_empty_2 8 rfl rfl)
theorem dX0_empty_57 : decode cX0_empty 57 = .ok (.iconst (-1), 1) := dk_2 (dk_at dksX0_empty_2 10 rfl rfl)
theorem dX0_empty_58 : decode cX0_empty 58 = .ok (.if_icmp .eq 10, 3) := dk_159 0 10 (dk_at dksX0_empty_2 11 rfl rfl)
theorem dX0_empty_61 : decode cX0_empty 61 = .ok (.aload_n 0, 1) := dk_42 (dk_at dksX0_empty_2 14 rfl rfl)
theorem dX0_empty_62 : decode cX0_empty 62 = .ok (.iload 6, 2) := dk_21 6 (dk_at dksX0_empty_2 15 rfl rfl)
theorem dX0_empty_64 : decode cX0_empty 64 = .ok (.invokevirtual 174, 3) := dk_182 0 174 (dk_at dksX0_empty_2 17 rfl rfl)
theorem dX0_empty_67 : decode cX0_empty 67 = .ok (.ireturn, 1) := dk_172 (dk_at dksX0_empty_2 20 rfl rfl)
theorem dX0_empty_68 : decode cX0_empty 68 = .ok (.aload 5, 2) := dk_25 5 (dk_at dksX0_empty_2 21 rfl rfl)
theorem dX0_empty_70 : decode cX0_empty 70 = .ok (.aload_n 0, 1) := dk_42 (dk_at dksX0_empty_2 23 rfl rfl)
theorem dX0_empty_71 : decode cX0_empty 71 = .ok (.getfield 18, 3) := dk_180 0 18 (dk_at dksX0_empty_3 0 rfl rfl)
theorem dX0_empty_74 : decode cX0_empty 74 = .ok (.iload_n 1, 1) := dk_27 (dk_at dksX0_empty_3 3 rfl rfl)
theorem dX0_empty_75 : decode cX0_empty 75 = .ok (.aaload, 1) := dk_50 (dk_at dksX0_empty_3 4 rfl rfl)
theorem dX0_empty_76 : decode cX0_empty 76 = .ok (.getfield 96, 3) := dk_180 0 96 (dk_at dksX0_empty_3 5 rfl rfl)
theorem dX0_empty_79 : decode cX0_empty 79 = .ok (.aload_n 0, 1) := dk_42 (dk_at dksX0_empty_3 8 rfl rfl)
theorem dX0_empty_80 : decode cX0_empty 80 = .ok (.getfield 34, 3) := dk_180 0 34 (dk_at dksX0_empty_3 9 rfl rfl)
theorem dX0_empty_83 : decode cX0_empty 83 = .ok (.invokevirtual 160, 3) := dk_182 0 160 (dk_at dksX0_empty_3 12 rfl rfl)
theorem dX0_empty_86 : decode cX0_empty 86 = .ok (.aconst_null, 1) := dk_1 (dk_at dksX0_empty_3 15 rfl rfl)
theorem dX0_empty_87 : decode cX0_empty 87 = .ok (.aastore, 1) := dk_83 (dk_at dksX0_empty_3 16 rfl rfl)
theorem dX0_empty_88 : decode cX0_empty 88 = .ok (.aload_n 0, 1) := dk_42 (dk_at dksX0_empty_3 17 rfl rfl)
theorem dX0_empty_89 : decode cX0_empty 89 = .ok (.iconst 1, 1) := dk_4 (dk_at dksX0_empty_3 18 rfl rfl)
theorem dX0_empty_90 : decode cX0_empty 90 = .ok (.invokevirtual 114, 3) := dk_182 0 114 (dk_at dksX0_empty_3 19 rfl rfl)
theorem dX0_empty_93 : decode cX0_empty 93 = .ok (.ireturn, 1) := dk_172 (dk_at dksX0_empty_3 22 rfl rfl)
theorem dX0_empty_94 : decode cX0_empty 94 = .ok (.astore 5, 2) := dk_58 5 (dk_at dksX0_empty_4 0 rfl rfl)
theorem dX0_empty_96 : decode cX0_empty 96 = .ok (.aload_n 0, 1) := dk_42 (dk_at dksX0_empty_4 2 rfl rfl)
theorem dX0_empty_97 : decode cX0_empty 97 = .ok (.iconst 2, 1) := dk_5 (dk_at dksX0_empty_4 3 rfl rfl)
theorem dX0_empty_98 : decode cX0_empty 98 = .ok (.invokevirtual 47, 3) := dk_182 0 47 (dk_at dksX0_empty_4 4 rfl rfl)
theorem dX0_empty_101 : decode cX0_empty 101 = .ok (.ireturn, 1) := dk_172 (dk_at dksX0_empty_4 7 rfl rfl)
abbrev cX0_pair : ByteArray := prog_1_method_35_code
def yX0_pair : MethodName := ⟨RX0, "pair", "(IIIJ)I"⟩
def dkwX0_pair_3 : List UInt8 := [180, 0, 192, 4, 96, 90, 181, 0, 192, 182, 0, 114, 172]
abbrev dktX0_pair_3 : List UInt8 := dkwX0_pair_3 ++ []
def dkwX0_pair_2 : List UInt8 := [6, 42, 180, 0, 192, 104, 5, 96, 29, 79, 42, 180, 0, 30, 42, 180, 0, 192, 22, 4, 80, 42, 42, 89]
abbrev dktX0_pair_2 : List UInt8 := dkwX0_pair_2 ++ dktX0_pair_3
def dkwX0_pair_1 : List UInt8 := [180, 0, 192, 104, 27, 79, 42, 180, 0, 26, 6, 42, 180, 0, 192, 104, 4, 96, 28, 79, 42, 180, 0, 26]
abbrev dktX0_pair_1 : List UInt8 := dkwX0_pair_1 ++ dktX0_pair_2
def dkwX0_pair_0 : List UInt8 := [42, 180, 0, 192, 16, 30, 160, 0, 10, 42, 16, 8, 182, 0, 47, 172, 42, 180, 0, 26, 6, 42]
abbrev dktX0_pair_0 : List UInt8 := dkwX0_pair_0 ++ dktX0_pair_1
theorem dksX0_pair_0 : cX0_pair.data.toList.drop 0 = dktX0_pair_0 := by decide +kernel
theorem dksX0_pair_1 : cX0_pair.data.toList.drop 22 = dktX0_pair_1 := dk_seg dksX0_pair_0 22 rfl rfl
theorem dksX0_pair_2 : cX0_pair.data.toList.drop 46 = dktX0_pair_2 := dk_seg dksX0_pair_1 24 rfl rfl
theorem dksX0_pair_3 : cX0_pair.data.toList.drop 70 = dktX0_pair_3 := dk_seg dksX0_pair_2 24 rfl rfl
theorem dX0_pair_0 : decode cX0_pair 0 = .ok (.aload_n 0, 1) := dk_42 (dk_at dksX0_pair_0 0 rfl rfl)
theorem dX0_pair_1 : decode cX0_pair 1 = .ok (.getfield 192, 3) := dk_180 0 192 (dk_at dksX0_pair_0 1 rfl rfl)
theorem dX0_pair_4 : decode cX0_pair 4 = .ok (.bipush 30, 2) := dk_16 30 (dk_at dksX0_pair_0 4 rfl rfl)
theorem dX0_pair_6 : decode cX0_pair 6 = .ok (.if_icmp .ne 10, 3) := dk_160 0 10 (dk_at dksX0_pair_0 6 rfl rfl)
theorem dX0_pair_9 : decode cX0_pair 9 = .ok (.aload_n 0, 1) := dk_42 (dk_at dksX0_pair_0 9 rfl rfl)
theorem dX0_pair_10 : decode cX0_pair 10 = .ok (.bipush 8, 2) := dk_16 8 (dk_at dksX0_pair_0 10 rfl rfl)
theorem dX0_pair_12 : decode cX0_pair 12 = .ok (.invokevirtual 47, 3) := dk_182 0 47 (dk_at dksX0_pair_0 12 rfl rfl)
theorem dX0_pair_15 : decode cX0_pair 15 = .ok (.ireturn, 1) := dk_172 (dk_at dksX0_pair_0 15 rfl rfl)
theorem dX0_pair_16 : decode cX0_pair 16 = .ok (.aload_n 0, 1) := dk_42 (dk_at dksX0_pair_0 16 rfl rfl)
theorem dX0_pair_17 : decode cX0_pair 17 = .ok (.getfield 26, 3) := dk_180 0 26 (dk_at dksX0_pair_0 17 rfl rfl)
theorem dX0_pair_20 : decode cX0_pair 20 = .ok (.iconst 3, 1) := dk_6 (dk_at dksX0_pair_0 20 rfl rfl)
theorem dX0_pair_21 : decode cX0_pair 21 = .ok (.aload_n 0, 1) := dk_42 (dk_at dksX0_pair_0 21 rfl rfl)
theorem dX0_pair_22 : decode cX0_pair 22 = .ok (.getfield 192, 3) := dk_180 0 192 (dk_at dksX0_pair_1 0 rfl rfl)
theorem dX0_pair_25 : decode cX0_pair 25 = .ok (.imul, 1) := dk_104 (dk_at dksX0_pair_1 3 rfl rfl)
theorem dX0_pair_26 : decode cX0_pair 26 = .ok (.iload_n 1, 1) := dk_27 (dk_at dksX0_pair_1 4 rfl rfl)
theorem dX0_pair_27 : decode cX0_pair 27 = .ok (.iastore, 1) := dk_79 (dk_at dksX0_pair_1 5 rfl rfl)
theorem dX0_pair_28 : decode cX0_pair 28 = .ok (.aload_n 0, 1) := dk_42 (dk_at dksX0_pair_1 6 rfl rfl)
theorem dX0_pair_29 : decode cX0_pair 29 = .ok (.getfield 26, 3) := dk_180 0 26 (dk_at dksX0_pair_1 7 rfl rfl)
theorem dX0_pair_32 : decode cX0_pair 32 = .ok (.iconst 3, 1) := dk_6 (dk_at dksX0_pair_1 10 rfl rfl)
theorem dX0_pair_33 : decode cX0_pair 33 = .ok (.aload_n 0, 1) := dk_42 (dk_at dksX0_pair_1 11 rfl rfl)
theorem dX0_pair_34 : decode cX0_pair 34 = .ok (.getfield 192, 3) := dk_180 0 192 (dk_at dksX0_pair_1 12 rfl rfl)
theorem dX0_pair_37 : decode cX0_pair 37 = .ok (.imul, 1) := dk_104 (dk_at dksX0_pair_1 15 rfl rfl)
theorem dX0_pair_38 : decode cX0_pair 38 = .ok (.iconst 1, 1) := dk_4 (dk_at dksX0_pair_1 16 rfl rfl)
theorem dX0_pair_39 : decode cX0_pair 39 = .ok (.iadd, 1) := dk_96 (dk_at dksX0_pair_1 17 rfl rfl)
theorem dX0_pair_40 : decode cX0_pair 40 = .ok (.iload_n 2, 1) := dk_28 (dk_at dksX0_pair_1 18 rfl rfl)
theorem dX0_pair_41 : decode cX0_pair 41 = .ok (.iastore, 1) := dk_79 (dk_at dksX0_pair_1 19 rfl rfl)
theorem dX0_pair_42 : decode cX0_pair 42 = .ok (.aload_n 0, 1) := dk_42 (dk_at dksX0_pair_1 20 rfl rfl)
theorem dX0_pair_43 : decode cX0_pair 43 = .ok (.getfield 26, 3) := dk_180 0 26 (dk_at dksX0_pair_1 21 rfl rfl)
theorem dX0_pair_46 : decode cX0_pair 46 = .ok (.iconst 3, 1) := dk_6 (dk_at dksX0_pair_2 0 rfl rfl)
theorem dX0_pair_47 : decode cX0_pair 47 = .ok (.aload_n 0, 1) := dk_42 (dk_at dksX0_pair_2 1 rfl rfl)
theorem dX0_pair_48 : decode cX0_pair 48 = .ok (.getfield 192, 3) := dk_180 0 192 (dk_at dksX0_pair_2 2 rfl rfl)
theorem dX0_pair_51 : decode cX0_pair 51 = .ok (.imul, 1) := dk_104 (dk_at dksX0_pair_2 5 rfl rfl)
theorem dX0_pair_52 : decode cX0_pair 52 = .ok (.iconst 2, 1) := dk_5 (dk_at dksX0_pair_2 6 rfl rfl)
theorem dX0_pair_53 : decode cX0_pair 53 = .ok (.iadd, 1) := dk_96 (dk_at dksX0_pair_2 7 rfl rfl)
theorem dX0_pair_54 : decode cX0_pair 54 = .ok (.iload_n 3, 1) := dk_29 (dk_at dksX0_pair_2 8 rfl rfl)
theorem dX0_pair_55 : decode cX0_pair 55 = .ok (.iastore, 1) := dk_79 (dk_at dksX0_pair_2 9 rfl rfl)
theorem dX0_pair_56 : decode cX0_pair 56 = .ok (.aload_n 0, 1) := dk_42 (dk_at dksX0_pair_2 10 rfl rfl)
theorem dX0_pair_57 : decode cX0_pair 57 = .ok (.getfield 30, 3) := dk_180 0 30 (dk_at dksX0_pair_2 11 rfl rfl)
theorem dX0_pair_60 : decode cX0_pair 60 = .ok (.aload_n 0, 1) := dk_42 (dk_at dksX0_pair_2 14 rfl rfl)
theorem dX0_pair_61 : decode cX0_pair 61 = .ok (.getfield 192, 3) := dk_180 0 192 (dk_at dksX0_pair_2 15 rfl rfl)
theorem dX0_pair_64 : decode cX0_pair 64 = .ok (.lload 4, 2) := dk_22 4 (dk_at dksX0_pair_2 18 rfl rfl)
theorem dX0_pair_66 : decode cX0_pair 66 = .ok (.lastore, 1) := dk_80 (dk_at dksX0_pair_2 20 rfl rfl)
theorem dX0_pair_67 : decode cX0_pair 67 = .ok (.aload_n 0, 1) := dk_42 (dk_at dksX0_pair_2 21 rfl rfl)
theorem dX0_pair_68 : decode cX0_pair 68 = .ok (.aload_n 0, 1) := dk_42 (dk_at dksX0_pair_2 22 rfl rfl)
theorem dX0_pair_69 : decode cX0_pair 69 = .ok (.dup, 1) := dk_89 (dk_at dksX0_pair_2 23 rfl rfl)
theorem dX0_pair_70 : decode cX0_pair 70 = .ok (.getfield 192, 3) := dk_180 0 192 (dk_at dksX0_pair_3 0 rfl rfl)
theorem dX0_pair_73 : decode cX0_pair 73 = .ok (.iconst 1, 1) := dk_4 (dk_at dksX0_pair_3 3 rfl rfl)
theorem dX0_pair_74 : decode cX0_pair 74 = .ok (.iadd, 1) := dk_96 (dk_at dksX0_pair_3 4 rfl rfl)
theorem dX0_pair_75 : decode cX0_pair 75 = .ok (.dup_x1, 1) := dk_90 (dk_at dksX0_pair_3 5 rfl rfl)
theorem dX0_pair_76 : decode cX0_pair 76 = .ok (.putfield 192, 3) := dk_181 0 192 (dk_at dksX0_pair_3 6 rfl rfl)
theorem dX0_pair_79 : decode cX0_pair 79 = .ok (.invokevirtual 114, 3) := dk_182 0 114 (dk_at dksX0_pair_3 9 rfl rfl)
theorem dX0_pair_82 : decode cX0_pair 82 = .ok (.ireturn, 1) := dk_172 (dk_at dksX0_pair_3 12 rfl rfl)
abbrev cX0_gather : ByteArray := prog_1_method_36_code
def yX0_gather : MethodName := ⟨RX0, "gather", "(II)I"⟩
def dkwX0_gather_7 : List UInt8 := [21, 5, 182, 0, 114, 172]
abbrev dktX0_gather_7 : List UInt8 := dkwX0_gather_7 ++ []
def dkwX0_gather_6 : List UInt8 := [167, 255, 179, 167, 0, 14, 58, 6, 42, 16, 6, 181, 0, 44, 21, 5, 172, 42, 3, 181, 0, 192, 42]
abbrev dktX0_gather_6 : List UInt8 := dkwX0_gather_6 ++ dktX0_gather_7
def dkwX0_gather_5 : List UInt8 := [45, 25, 4, 42, 180, 0, 34, 182, 0, 160, 42, 180, 0, 30, 21, 5, 47, 28, 184, 0, 195, 132, 5, 1]
abbrev dktX0_gather_5 : List UInt8 := dkwX0_gather_5 ++ dktX0_gather_6
def dkwX0_gather_4 : List UInt8 := [180, 0, 34, 182, 0, 171, 54, 6, 21, 6, 2, 159, 0, 13, 42, 21, 6, 182, 0, 174, 87, 21, 5, 172]
abbrev dktX0_gather_4 : List UInt8 := dkwX0_gather_4 ++ dktX0_gather_5
def dkwX0_gather_3 : List UInt8 := [162, 0, 74, 42, 180, 0, 26, 6, 21, 5, 104, 42, 180, 0, 34, 3, 6, 184, 0, 150, 25, 4, 42]
abbrev dktX0_gather_3 : List UInt8 := dkwX0_gather_3 ++ dktX0_gather_4
def dkwX0_gather_2 : List UInt8 := [182, 0, 47, 172, 42, 180, 0, 18, 27, 50, 180, 0, 96, 58, 4, 3, 54, 5, 21, 5, 42, 180, 0, 192]
abbrev dktX0_gather_2 : List UInt8 := dkwX0_gather_2 ++ dktX0_gather_3
def dkwX0_gather_1 : List UInt8 := [182, 0, 47, 172, 42, 180, 0, 18, 27, 50, 180, 0, 101, 78, 45, 193, 0, 58, 153, 0, 9, 42, 5]
abbrev dktX0_gather_1 : List UInt8 := dkwX0_gather_1 ++ dktX0_gather_2
def dkwX0_gather_0 : List UInt8 := [28, 155, 0, 8, 28, 8, 164, 0, 6, 18, 119, 172, 42, 27, 182, 0, 143, 154, 0, 10, 42, 16, 7]
abbrev dktX0_gather_0 : List UInt8 := dkwX0_gather_0 ++ dktX0_gather_1
theorem dksX0_gather_0 : cX0_gather.data.toList.drop 0 = dktX0_gather_0 := by decide +kernel
theorem dksX0_gather_1 : cX0_gather.data.toList.drop 23 = dktX0_gather_1 := dk_seg dksX0_gather_0 23 rfl rfl
theorem dksX0_gather_2 : cX0_gather.data.toList.drop 46 = dktX0_gather_2 := dk_seg dksX0_gather_1 23 rfl rfl
theorem dksX0_gather_3 : cX0_gather.data.toList.drop 70 = dktX0_gather_3 := dk_seg dksX0_gather_2 24 rfl rfl
theorem dksX0_gather_4 : cX0_gather.data.toList.drop 93 = dktX0_gather_4 := dk_seg dksX0_gather_3 23 rfl rfl
theorem dksX0_gather_5 : cX0_gather.data.toList.drop 117 = dktX0_gather_5 := dk_seg dksX0_gather_4 24 rfl rfl
theorem dksX0_gather_6 : cX0_gather.data.toList.drop 141 = dktX0_gather_6 := dk_seg dksX0_gather_5 24 rfl rfl
theorem dksX0_gather_7 : cX0_gather.data.toList.drop 164 = dktX0_gather_7 := dk_seg dksX0_gather_6 23 rfl rfl
theorem dX0_gather_0 : decode cX0_gather 0 = .ok (.iload_n 2, 1) := dk_28 (dk_at dksX0_gather_0 0 rfl rfl)
theorem dX0_gather_1 : decode cX0_gather 1 = .ok (.ifCond .lt 8, 3) := dk_155 0 8 (dk_at dksX0_gather_0 1 rfl rfl)
theorem dX0_gather_4 : decode cX0_gather 4 = .ok (.iload_n 2, 1) := dk_28 (dk_at dksX0_gather_0 4 rfl rfl)
theorem dX0_gather_5 : decode cX0_gather 5 = .ok (.iconst 5, 1) := dk_8 (dk_at dksX0_gather_0 5 rfl rfl)
theorem dX0_gather_6 : decode cX0_gather 6 = .ok (.if_icmp .le 6, 3) := dk_164 0 6 (dk_at dksX0_gather_0 6 rfl rfl)
theorem dX0_gather_9 : decode cX0_gather 9 = .ok (.ldc 119, 2) := dk_18 119 (dk_at dksX0_gather_0 9 rfl rfl)
theorem dX0_gather_11 : decode cX0_gather 11 = .ok (.ireturn, 1) := dk_172 (dk_at dksX0_gather_0 11 rfl rfl)
theorem dX0_gather_12 : decode cX0_gather 12 = .ok (.aload_n 0, 1) := dk_42 (dk_at dksX0_gather_0 12 rfl rfl)
theorem dX0_gather_13 : decode cX0_gather 13 = .ok (.iload_n 1, 1) := dk_27 (dk_at dksX0_gather_0 13 rfl rfl)
theorem dX0_gather_14 : decode cX0_gather 14 = .ok (.invokevirtual 143, 3) := dk_182 0 143 (dk_at dksX0_gather_0 14 rfl rfl)
theorem dX0_gather_17 : decode cX0_gather 17 = .ok (.ifCond .ne 10, 3) := dk_154 0 10 (dk_at dksX0_gather_0 17 rfl rfl)
theorem dX0_gather_20 : decode cX0_gather 20 = .ok (.aload_n 0, 1) := dk_42 (dk_at dksX0_gather_0 20 rfl rfl)
theorem dX0_gather_21 : decode cX0_gather 21 = .ok (.bipush 7, 2) := dk_16 7 (dk_at dksX0_gather_0 21 rfl rfl)
theorem dX0_gather_23 : decode cX0_gather 23 = .ok (.invokevirtual 47, 3) := dk_182 0 47 (dk_at dksX0_gather_1 0 rfl rfl)
theorem dX0_gather_26 : decode cX0_gather 26 = .ok (.ireturn, 1) := dk_172 (dk_at dksX0_gather_1 3 rfl rfl)
theorem dX0_gather_27 : decode cX0_gather 27 = .ok (.aload_n 0, 1) := dk_42 (dk_at dksX0_gather_1 4 rfl rfl)
theorem dX0_gather_28 : decode cX0_gather 28 = .ok (.getfield 18, 3) := dk_180 0 18 (dk_at dksX0_gather_1 5 rfl rfl)
theorem dX0_gather_31 : decode cX0_gather 31 = .ok (.iload_n 1, 1) := dk_27 (dk_at dksX0_gather_1 8 rfl rfl)
theorem dX0_gather_32 : decode cX0_gather 32 = .ok (.aaload, 1) := dk_50 (dk_at dksX0_gather_1 9 rfl rfl)
theorem dX0_gather_33 : decode cX0_gather 33 = .ok (.getfield 101, 3) := dk_180 0 101 (dk_at dksX0_gather_1 10 rfl rfl)
theorem dX0_gather_36 : decode cX0_gather 36 = .ok (.astore_n 3, 1) := dk_78 (dk_at dksX0_gather_1 13 rfl rfl)
theorem dX0_gather_37 : decode cX0_gather 37 = .ok (.aload_n 3, 1) := dk_45 (dk_at dksX0_gather_1 14 rfl rfl)
theorem dX0_gather_38 : decode cX0_gather 38 = .ok (.instanceof 58, 3) := dk_193 0 58 (dk_at dksX0_gather_1 15 rfl rfl)
theorem dX0_gather_41 : decode cX0_gather 41 = .ok (.ifCond .eq 9, 3) := dk_153 0 9 (dk_at dksX0_gather_1 18 rfl rfl)
theorem dX0_gather_44 : decode cX0_gather 44 = .ok (.aload_n 0, 1) := dk_42 (dk_at dksX0_gather_1 21 rfl rfl)
theorem dX0_gather_45 : decode cX0_gather 45 = .ok (.iconst 2, 1) := dk_5 (dk_at dksX0_gather_1 22 rfl rfl)
theorem dX0_gather_46 : decode cX0_gather 46 = .ok (.invokevirtual 47, 3) := dk_182 0 47 (dk_at dksX0_gather_2 0 rfl rfl)
theorem dX0_gather_49 : decode cX0_gather 49 = .ok (.ireturn, 1) := dk_172 (dk_at dksX0_gather_2 3 rfl rfl)
theorem dX0_gather_50 : decode cX0_gather 50 = .ok (.aload_n 0, 1) := dk_42 (dk_at dksX0_gather_2 4 rfl rfl)
theorem dX0_gather_51 : decode cX0_gather 51 = .ok (.getfield 18, 3) := dk_180 0 18 (dk_at dksX0_gather_2 5 rfl rfl)
theorem dX0_gather_54 : decode cX0_gather 54 = .ok (.iload_n 1, 1) := dk_27 (dk_at dksX0_gather_2 8 rfl rfl)
theorem dX0_gather_55 : decode cX0_gather 55 = .ok (.aaload, 1) := dk_50 (dk_at dksX0_gather_2 9 rfl rfl)
theorem dX0_gather_56 : decode cX0_gather 56 = .ok (.getfield 96, 3) := dk_180 0 96 (dk_at dksX0_gather_2 10 rfl rfl)
theorem dX0_gather_59 : decode cX0_gather 59 = .ok (.astore 4, 2) := dk_58 4 (dk_at dksX0_gather_2 13 rfl rfl)
theorem dX0_gather_61 : decode cX0_gather 61 = .ok (.iconst 0, 1) := dk_3 (dk_at dksX0_gather_2 15 rfl rfl)
theorem dX0_gather_62 : decode cX0_gather 62 = .ok (.istore 5, 2) := dk_54 5 (dk_at dksX0_gather_2 16 rfl rfl)
theorem dX0_gather_64 : decode cX0_gather 64 = .ok (.iload 5, 2) := dk_21 5 (dk_at dksX0_gather_2 18 rfl rfl)
theorem dX0_gather_66 : decode cX0_gather 66 = .ok (.aload_n 0, 1) := dk_42 (dk_at dksX0_gather_2 20 rfl rfl)
theorem dX0_gather_67 : decode cX0_gather 67 = .ok (.getfield 192, 3) := dk_180 0 192 (dk_at dksX0_gather_2 21 rfl rfl)
theorem dX0_gather_70 : decode cX0_gather 70 = .ok (.if_icmp .ge 74, 3) := dk_162 0 74 (dk_at dksX0_gather_3 0 rfl rfl)
theorem dX0_gather_73 : decode cX0_gather 73 = .ok (.aload_n 0, 1) := dk_42 (dk_at dksX0_gather_3 3 rfl rfl)
theorem dX0_gather_74 : decode cX0_gather 74 = .ok (.getfield 26, 3) := dk_180 0 26 (dk_at dksX0_gather_3 4 rfl rfl)
theorem dX0_gather_77 : decode cX0_gather 77 = .ok (.iconst 3, 1) := dk_6 (dk_at dksX0_gather_3 7 rfl rfl)
theorem dX0_gather_78 : decode cX0_gather 78 = .ok (.iload 5, 2) := dk_21 5 (dk_at dksX0_gather_3 8 rfl rfl)
theorem dX0_gather_80 : decode cX0_gather 80 = .ok (.imul, 1) := dk_104 (dk_at dksX0_gather_3 10 rfl rfl)
theorem dX0_gather_81 : decode cX0_gather 81 = .ok (.aload_n 0, 1) := dk_42 (dk_at dksX0_gather_3 11 rfl rfl)
theorem dX0_gather_82 : decode cX0_gather 82 = .ok (.getfield 34, 3) := dk_180 0 34 (dk_at dksX0_gather_3 12 rfl rfl)
theorem dX0_gather_85 : decode cX0_gather 85 = .ok (.iconst 0, 1) := dk_3 (dk_at dksX0_gather_3 15 rfl rfl)
theorem dX0_gather_86 : decode cX0_gather 86 = .ok (.iconst 3, 1) := dk_6 (dk_at dksX0_gather_3 16 rfl rfl)
theorem dX0_gather_87 : decode cX0_gather 87 = .ok (.invokestatic 150, 3) := dk_184 0 150 (dk_at dksX0_gather_3 17 rfl rfl)
theorem dX0_gather_90 : decode cX0_gather 90 = .ok (.aload 4, 2) := dk_25 4 (dk_at dksX0_gather_3 20 rfl rfl)
theorem dX0_gather_92 : decode cX0_gather 92 = .ok (.aload_n 0, 1) := dk_42 (dk_at dksX0_gather_3 22 rfl rfl)
theorem dX0_gather_93 : decode cX0_gather 93 = .ok (.getfield 34, 3) := dk_180 0 34 (dk_at dksX0_gather_4 0 rfl rfl)
theorem dX0_gather_96 : decode cX0_gather 96 = .ok (.invokevirtual 171, 3) := dk_182 0 171 (dk_at dksX0_gather_4 3 rfl rfl)
theorem dX0_gather_99 : decode cX0_gather 99 = .ok (.istore 6, 2) := dk_54 6 (dk_at dksX0_gather_4 6 rfl rfl)
theorem dX0_gather_101 : decode cX0_gather 101 = .ok (.iload 6, 2) := dk_21 6 (dk_at dksX0_gather_4 8 rfl rfl)
theorem dX0_gather_103 : decode cX0_gather 103 = .ok (.iconst (-1), 1) := dk_2 (dk_at dksX0_gather_4 10 rfl rfl)
theorem dX0_gather_104 : decode cX0_gather 104 = .ok (.if_icmp .eq 13, 3) := dk_159 0 13 (dk_at dksX0_gather_4 11 rfl rfl)
theorem dX0_gather_107 : decode cX0_gather 107 = .ok (.aload_n 0, 1) := dk_42 (dk_at dksX0_gather_4 14 rfl rfl)
theorem dX0_gather_108 : decode cX0_gather 108 = .ok (.iload 6, 2) := dk_21 6 (dk_at dksX0_gather_4 15 rfl rfl)
theorem dX0_gather_110 : decode cX0_gather 110 = .ok (.invokevirtual 174, 3) := dk_182 0 174 (dk_at dksX0_gather_4 17 rfl rfl)
theorem dX0_gather_113 : decode cX0_gather 113 = .ok (.pop, 1) := dk_87 (dk_at dksX0_gather_4 20 rfl rfl)
theorem dX0_gather_114 : decode cX0_gather 114 = .ok (.iload 5, 2) := dk_21 5 (dk_at dksX0_gather_4 21 rfl rfl)
theorem dX0_gather_116 : decode cX0_gather 116 = .ok (.ireturn, 1) := dk_172 (dk_at dksX0_gather_4 23 rfl rfl)
theorem dX0_gather_117 : decode cX0_gather 117 = .ok (.aload_n 3, 1) := dk_45 (dk_at dksX0_gather_5 0 rfl rfl)
theorem dX0_gather_118 : decode cX0_gather 118 = .ok (.aload 4, 2) := dk_25 4 (dk_at dksX0_gather_5 1 rfl rfl)
theorem dX0_gather_120 : decode cX0_gather 120 = .ok (.aload_n 0, 1) := dk_42 (dk_at dksX0_gather_5 3 rfl rfl)
theorem dX0_gather_121 : decode cX0_gather 121 = .ok (.getfield 34, 3) := dk_180 0 34 (dk_at dksX0_gather_5 4 rfl rfl)
theorem dX0_gather_124 : decode cX0_gather 124 = .ok (.invokevirtual 160, 3) := dk_182 0 160 (dk_at dksX0_gather_5 7 rfl rfl)
theorem dX0_gather_127 : decode cX0_gather 127 = .ok (.aload_n 0, 1) := dk_42 (dk_at dksX0_gather_5 10 rfl rfl)
theorem dX0_gather_128 : decode cX0_gather 128 = .ok (.getfield 30, 3) := dk_180 0 30 (dk_at dksX0_gather_5 11 rfl rfl)
theorem dX0_gather_131 : decode cX0_gather 131 = .ok (.iload 5, 2) := dk_21 5 (dk_at dksX0_gather_5 14 rfl rfl)
theorem dX0_gather_133 : decode cX0_gather 133 = .ok (.laload, 1) := dk_47 (dk_at dksX0_gather_5 16 rfl rfl)
theorem dX0_gather_134 : decode cX0_gather 134 = .ok (.iload_n 2, 1) := dk_28 (dk_at dksX0_gather_5 17 rfl rfl)
theorem dX0_gather_135 : decode cX0_gather 135 = .ok (.invokestatic 195, 3) := dk_184 0 195 (dk_at dksX0_gather_5 18 rfl rfl)
theorem dX0_gather_138 : decode cX0_gather 138 = .ok (.iinc 5 1, 3) := dk_132 5 1 (dk_at dksX0_gather_5 21 rfl rfl)
theorem dX0_gather_141 : decode cX0_gather 141 = .ok (.goto (-77), 3) := dk_167 255 179 (dk_at dksX0_gather_6 0 rfl rfl)
theorem dX0_gather_144 : decode cX0_gather 144 = .ok (.goto 14, 3) := dk_167 0 14 (dk_at dksX0_gather_6 3 rfl rfl)
theorem dX0_gather_147 : decode cX0_gather 147 = .ok (.astore 6, 2) := dk_58 6 (dk_at dksX0_gather_6 6 rfl rfl)
theorem dX0_gather_149 : decode cX0_gather 149 = .ok (.aload_n 0, 1) := dk_42 (dk_at dksX0_gather_6 8 rfl rfl)
theorem dX0_gather_150 : decode cX0_gather 150 = .ok (.bipush 6, 2) := dk_16 6 (dk_at dksX0_gather_6 9 rfl rfl)
theorem dX0_gather_152 : decode cX0_gather 152 = .ok (.putfield 44, 3) := dk_181 0 44 (dk_at dksX0_gather_6 11 rfl rfl)
theorem dX0_gather_155 : decode cX0_gather 155 = .ok (.iload 5, 2) := dk_21 5 (dk_at dksX0_gather_6 14 rfl rfl)
theorem dX0_gather_157 : decode cX0_gather 157 = .ok (.ireturn, 1) := dk_172 (dk_at dksX0_gather_6 16 rfl rfl)
theorem dX0_gather_158 : decode cX0_gather 158 = .ok (.aload_n 0, 1) := dk_42 (dk_at dksX0_gather_6 17 rfl rfl)
theorem dX0_gather_159 : decode cX0_gather 159 = .ok (.iconst 0, 1) := dk_3 (dk_at dksX0_gather_6 18 rfl rfl)
theorem dX0_gather_160 : decode cX0_gather 160 = .ok (.putfield 192, 3) := dk_181 0 192 (dk_at dksX0_gather_6 19 rfl rfl)
theorem dX0_gather_163 : decode cX0_gather 163 = .ok (.aload_n 0, 1) := dk_42 (dk_at dksX0_gather_6 22 rfl rfl)
theorem dX0_gather_164 : decode cX0_gather 164 = .ok (.iload 5, 2) := dk_21 5 (dk_at dksX0_gather_7 0 rfl rfl)
theorem dX0_gather_166 : decode cX0_gather 166 = .ok (.invokevirtual 114, 3) := dk_182 0 114 (dk_at dksX0_gather_7 2 rfl rfl)
theorem dX0_gather_169 : decode cX0_gather 169 = .ok (.ireturn, 1) := dk_172 (dk_at dksX0_gather_7 5 rfl rfl)
abbrev cX0_join : ByteArray := prog_1_method_12_code
def yX0_join : MethodName := ⟨RX0, "join", "(Ljava/lang/Object;IJI)V"⟩
def dkwX0_join_2 : List UInt8 := [177]
abbrev dktX0_join_2 : List UInt8 := dkwX0_join_2 ++ []
def dkwX0_join_1 : List UInt8 := [27, 21, 5, 153, 0, 7, 32, 167, 0, 14, 42, 27, 184, 0, 84, 32, 21, 4, 184, 0, 88, 184, 0, 92]
abbrev dktX0_join_1 : List UInt8 := dkwX0_join_1 ++ dktX0_join_2
def dkwX0_join_0 : List UInt8 := [42, 193, 0, 66, 153, 0, 16, 42, 192, 0, 66, 27, 50, 199, 0, 7, 4, 167, 0, 4, 3, 54, 5, 42]
abbrev dktX0_join_0 : List UInt8 := dkwX0_join_0 ++ dktX0_join_1
theorem dksX0_join_0 : cX0_join.data.toList.drop 0 = dktX0_join_0 := by decide +kernel
theorem dksX0_join_1 : cX0_join.data.toList.drop 24 = dktX0_join_1 := dk_seg dksX0_join_0 24 rfl rfl
theorem dksX0_join_2 : cX0_join.data.toList.drop 48 = dktX0_join_2 := dk_seg dksX0_join_1 24 rfl rfl
theorem dX0_join_0 : decode cX0_join 0 = .ok (.aload_n 0, 1) := dk_42 (dk_at dksX0_join_0 0 rfl rfl)
theorem dX0_join_1 : decode cX0_join 1 = .ok (.instanceof 66, 3) := dk_193 0 66 (dk_at dksX0_join_0 1 rfl rfl)
theorem dX0_join_4 : decode cX0_join 4 = .ok (.ifCond .eq 16, 3) := dk_153 0 16 (dk_at dksX0_join_0 4 rfl rfl)
theorem dX0_join_7 : decode cX0_join 7 = .ok (.aload_n 0, 1) := dk_42 (dk_at dksX0_join_0 7 rfl rfl)
theorem dX0_join_8 : decode cX0_join 8 = .ok (.checkcast 66, 3) := dk_192 0 66 (dk_at dksX0_join_0 8 rfl rfl)
theorem dX0_join_11 : decode cX0_join 11 = .ok (.iload_n 1, 1) := dk_27 (dk_at dksX0_join_0 11 rfl rfl)
theorem dX0_join_12 : decode cX0_join 12 = .ok (.aaload, 1) := dk_50 (dk_at dksX0_join_0 12 rfl rfl)
theorem dX0_join_13 : decode cX0_join 13 = .ok (.ifnonnull 7, 3) := dk_199 0 7 (dk_at dksX0_join_0 13 rfl rfl)
theorem dX0_join_16 : decode cX0_join 16 = .ok (.iconst 1, 1) := dk_4 (dk_at dksX0_join_0 16 rfl rfl)
theorem dX0_join_17 : decode cX0_join 17 = .ok (.goto 4, 3) := dk_167 0 4 (dk_at dksX0_join_0 17 rfl rfl)
theorem dX0_join_20 : decode cX0_join 20 = .ok (.iconst 0, 1) := dk_3 (dk_at dksX0_join_0 20 rfl rfl)
theorem dX0_join_21 : decode cX0_join 21 = .ok (.istore 5, 2) := dk_54 5 (dk_at dksX0_join_0 21 rfl rfl)
theorem dX0_join_23 : decode cX0_join 23 = .ok (.aload_n 0, 1) := dk_42 (dk_at dksX0_join_0 23 rfl rfl)
theorem dX0_join_24 : decode cX0_join 24 = .ok (.iload_n 1, 1) := dk_27 (dk_at dksX0_join_1 0 rfl rfl)
theorem dX0_join_25 : decode cX0_join 25 = .ok (.iload 5, 2) := dk_21 5 (dk_at dksX0_join_1 1 rfl rfl)
theorem dX0_join_27 : decode cX0_join 27 = .ok (.ifCond .eq 7, 3) := dk_153 0 7 (dk_at dksX0_join_1 3 rfl rfl)
theorem dX0_join_30 : decode cX0_join 30 = .ok (.lload_n 2, 1) := dk_32 (dk_at dksX0_join_1 6 rfl rfl)
theorem dX0_join_31 : decode cX0_join 31 = .ok (.goto 14, 3) := dk_167 0 14 (dk_at dksX0_join_1 7 rfl rfl)
theorem dX0_join_34 : decode cX0_join 34 = .ok (.aload_n 0, 1) := dk_42 (dk_at dksX0_join_1 10 rfl rfl)
theorem dX0_join_35 : decode cX0_join 35 = .ok (.iload_n 1, 1) := dk_27 (dk_at dksX0_join_1 11 rfl rfl)
theorem dX0_join_36 : decode cX0_join 36 = .ok (.invokestatic 84, 3) := dk_184 0 84 (dk_at dksX0_join_1 12 rfl rfl)
theorem dX0_join_39 : decode cX0_join 39 = .ok (.lload_n 2, 1) := dk_32 (dk_at dksX0_join_1 15 rfl rfl)
theorem dX0_join_40 : decode cX0_join 40 = .ok (.iload 4, 2) := dk_21 4 (dk_at dksX0_join_1 16 rfl rfl)
theorem dX0_join_42 : decode cX0_join 42 = .ok (.invokestatic 88, 3) := dk_184 0 88 (dk_at dksX0_join_1 18 rfl rfl)
theorem dX0_join_45 : decode cX0_join 45 = .ok (.invokestatic 92, 3) := dk_184 0 92 (dk_at dksX0_join_1 21 rfl rfl)
theorem dX0_join_48 : decode cX0_join 48 = .ok (.return_, 1) := dk_177 (dk_at dksX0_join_2 0 rfl rfl)
abbrev cX0_joined : ByteArray := prog_1_method_11_code
def yX0_joined : MethodName := ⟨RX0, "joined", "(JJI)J"⟩
def dkwX0_joined_3 : List UInt8 := [113, 173]
abbrev dktX0_joined_3 : List UInt8 := dkwX0_joined_3 ++ []
def dkwX0_joined_2 : List UInt8 := [32, 173, 30, 32, 97, 173, 30, 32, 184, 0, 75, 173, 30, 32, 184, 0, 81, 173, 30, 32, 109, 173, 30, 32]
abbrev dktX0_joined_2 : List UInt8 := dkwX0_joined_2 ++ dktX0_joined_3
def dkwX0_joined_1 : List UInt8 := [170, 0, 0, 0, 0, 56, 0, 0, 0, 0, 0, 0, 0, 4, 0, 0, 0, 34, 0, 0, 0, 36, 0, 0, 0, 40, 0, 0, 0, 46, 0, 0, 0, 52]
abbrev dktX0_joined_1 : List UInt8 := dkwX0_joined_1 ++ dktX0_joined_2
def dkwX0_joined_0 : List UInt8 := [21, 4]
abbrev dktX0_joined_0 : List UInt8 := dkwX0_joined_0 ++ dktX0_joined_1
theorem dksX0_joined_0 : cX0_joined.data.toList.drop 0 = dktX0_joined_0 := by decide +kernel
theorem dksX0_joined_1 : cX0_joined.data.toList.drop 2 = dktX0_joined_1 := dk_seg dksX0_joined_0 2 rfl rfl
theorem dksX0_joined_2 : cX0_joined.data.toList.drop 36 = dktX0_joined_2 := dk_seg dksX0_joined_1 34 rfl rfl
theorem dksX0_joined_3 : cX0_joined.data.toList.drop 60 = dktX0_joined_3 := dk_seg dksX0_joined_2 24 rfl rfl
theorem dX0_joined_0 : decode cX0_joined 0 = .ok (.iload 4, 2) := dk_21 4 (dk_at dksX0_joined_0 0 rfl rfl)
theorem dX0_joined_2 : decode cX0_joined 2 = .ok (.tableswitch 56 0 4 #[34, 36, 40, 46, 52], 34) := by decide +kernel
theorem dX0_joined_36 : decode cX0_joined 36 = .ok (.lload_n 2, 1) := dk_32 (dk_at dksX0_joined_2 0 rfl rfl)
theorem dX0_joined_37 : decode cX0_joined 37 = .ok (.lreturn, 1) := dk_173 (dk_at dksX0_joined_2 1 rfl rfl)
theorem dX0_joined_38 : decode cX0_joined 38 = .ok (.lload_n 0, 1) := dk_30 (dk_at dksX0_joined_2 2 rfl rfl)
theorem dX0_joined_39 : decode cX0_joined 39 = .ok (.lload_n 2, 1) := dk_32 (dk_at dksX0_joined_2 3 rfl rfl)
theorem dX0_joined_40 : decode cX0_joined 40 = .ok (.ladd, 1) := dk_97 (dk_at dksX0_joined_2 4 rfl rfl)
theorem dX0_joined_41 : decode cX0_joined 41 = .ok (.lreturn, 1) := dk_173 (dk_at dksX0_joined_2 5 rfl rfl)
theorem dX0_joined_42 : decode cX0_joined 42 = .ok (.lload_n 0, 1) := dk_30 (dk_at dksX0_joined_2 6 rfl rfl)
theorem dX0_joined_43 : decode cX0_joined 43 = .ok (.lload_n 2, 1) := dk_32 (dk_at dksX0_joined_2 7 rfl rfl)
theorem dX0_joined_44 : decode cX0_joined 44 = .ok (.invokestatic 75, 3) := dk_184 0 75 (dk_at dksX0_joined_2 8 rfl rfl)
theorem dX0_joined_47 : decode cX0_joined 47 = .ok (.lreturn, 1) := dk_173 (dk_at dksX0_joined_2 11 rfl rfl)
theorem dX0_joined_48 : decode cX0_joined 48 = .ok (.lload_n 0, 1) := dk_30 (dk_at dksX0_joined_2 12 rfl rfl)
theorem dX0_joined_49 : decode cX0_joined 49 = .ok (.lload_n 2, 1) := dk_32 (dk_at dksX0_joined_2 13 rfl rfl)
theorem dX0_joined_50 : decode cX0_joined 50 = .ok (.invokestatic 81, 3) := dk_184 0 81 (dk_at dksX0_joined_2 14 rfl rfl)
theorem dX0_joined_53 : decode cX0_joined 53 = .ok (.lreturn, 1) := dk_173 (dk_at dksX0_joined_2 17 rfl rfl)
theorem dX0_joined_54 : decode cX0_joined 54 = .ok (.lload_n 0, 1) := dk_30 (dk_at dksX0_joined_2 18 rfl rfl)
theorem dX0_joined_55 : decode cX0_joined 55 = .ok (.lload_n 2, 1) := dk_32 (dk_at dksX0_joined_2 19 rfl rfl)
theorem dX0_joined_56 : decode cX0_joined 56 = .ok (.ldiv, 1) := dk_109 (dk_at dksX0_joined_2 20 rfl rfl)
theorem dX0_joined_57 : decode cX0_joined 57 = .ok (.lreturn, 1) := dk_173 (dk_at dksX0_joined_2 21 rfl rfl)
theorem dX0_joined_58 : decode cX0_joined 58 = .ok (.lload_n 0, 1) := dk_30 (dk_at dksX0_joined_2 22 rfl rfl)
theorem dX0_joined_59 : decode cX0_joined 59 = .ok (.lload_n 2, 1) := dk_32 (dk_at dksX0_joined_2 23 rfl rfl)
theorem dX0_joined_60 : decode cX0_joined 60 = .ok (.lrem, 1) := dk_113 (dk_at dksX0_joined_3 0 rfl rfl)
theorem dX0_joined_61 : decode cX0_joined 61 = .ok (.lreturn, 1) := dk_173 (dk_at dksX0_joined_3 1 rfl rfl)
abbrev cX0_join_2 : ByteArray := prog_1_method_37_code
def yX0_join_2 : MethodName := ⟨RX0, "join", "(III)I"⟩
def dkwX0_join_2_7 : List UInt8 := [21, 6, 172]
abbrev dktX0_join_2_7 : List UInt8 := dkwX0_join_2_7 ++ []
def dkwX0_join_2_6 : List UInt8 := [167, 255, 228, 167, 0, 21, 58, 7, 42, 4, 181, 0, 44, 167, 0, 11, 58, 7, 42, 16, 6, 181, 0, 44]
abbrev dktX0_join_2_6 : List UInt8 := dkwX0_join_2_6 ++ dktX0_join_2_7
def dkwX0_join_2_5 : List UInt8 := [184, 0, 147, 162, 0, 24, 25, 4, 21, 6, 25, 5, 21, 6, 184, 0, 84, 29, 184, 0, 195, 132, 6, 1]
abbrev dktX0_join_2_5 : List UInt8 := dkwX0_join_2_5 ++ dktX0_join_2_6
def dkwX0_join_2_4 : List UInt8 := [159, 0, 10, 42, 16, 10, 182, 0, 47, 172, 3, 54, 6, 42, 3, 181, 0, 44, 21, 6, 25, 4]
abbrev dktX0_join_2_4 : List UInt8 := dkwX0_join_2_4 ++ dktX0_join_2_5
def dkwX0_join_2_3 : List UInt8 := [25, 4, 193, 0, 58, 153, 0, 9, 42, 5, 182, 0, 47, 172, 25, 4, 184, 0, 147, 25, 5, 184, 0, 147]
abbrev dktX0_join_2_3 : List UInt8 := dkwX0_join_2_3 ++ dktX0_join_2_4
def dkwX0_join_2_2 : List UInt8 := [42, 180, 0, 18, 28, 50, 180, 0, 101, 58, 5, 25, 4, 184, 0, 62, 25, 5, 184, 0, 62, 160, 0, 11]
abbrev dktX0_join_2_2 : List UInt8 := dkwX0_join_2_2 ++ dktX0_join_2_3
def dkwX0_join_2_1 : List UInt8 := [182, 0, 143, 154, 0, 10, 42, 16, 7, 182, 0, 47, 172, 42, 180, 0, 18, 27, 50, 180, 0, 101, 58, 4]
abbrev dktX0_join_2_1 : List UInt8 := dkwX0_join_2_1 ++ dktX0_join_2_2
def dkwX0_join_2_0 : List UInt8 := [29, 155, 0, 8, 29, 8, 164, 0, 6, 18, 119, 172, 42, 27, 182, 0, 143, 153, 0, 11, 42, 28]
abbrev dktX0_join_2_0 : List UInt8 := dkwX0_join_2_0 ++ dktX0_join_2_1
theorem dksX0_join_2_0 : cX0_join_2.data.toList.drop 0 = dktX0_join_2_0 := by decide +kernel
theorem dksX0_join_2_1 : cX0_join_2.data.toList.drop 22 = dktX0_join_2_1 := dk_seg dksX0_join_2_0 22 rfl rfl
theorem dksX0_join_2_2 : cX0_join_2.data.toList.drop 46 = dktX0_join_2_2 := dk_seg dksX0_join_2_1 24 rfl rfl
theorem dksX0_join_2_3 : cX0_join_2.data.toList.drop 70 = dktX0_join_2_3 := dk_seg dksX0_join_2_2 24 rfl rfl
theorem dksX0_join_2_4 : cX0_join_2.data.toList.drop 94 = dktX0_join_2_4 := dk_seg dksX0_join_2_3 24 rfl rfl
theorem dksX0_join_2_5 : cX0_join_2.data.toList.drop 116 = dktX0_join_2_5 := dk_seg dksX0_join_2_4 22 rfl rfl
theorem dksX0_join_2_6 : cX0_join_2.data.toList.drop 140 = dktX0_join_2_6 := dk_seg dksX0_join_2_5 24 rfl rfl
theorem dksX0_join_2_7 : cX0_join_2.data.toList.drop 164 = dktX0_join_2_7 := dk_seg dksX0_join_2_6 24 rfl rfl
theorem dX0_join_2_0 : decode cX0_join_2 0 = .ok (.iload_n 3, 1) := dk_29 (dk_at dksX0_join_2_0 0 rfl rfl)
theorem dX0_join_2_1 : decode cX0_join_2 1 = .ok (.ifCond .lt 8, 3) := dk_155 0 8 (dk_at dksX0_join_2_0 1 rfl rfl)
theorem dX0_join_2_4 : decode cX0_join_2 4 = .ok (.iload_n 3, 1) := dk_29 (dk_at dksX0_join_2_0 4 rfl rfl)
theorem dX0_join_2_5 : decode cX0_join_2 5 = .ok (.iconst 5, 1) := dk_8 (dk_at dksX0_join_2_0 5 rfl rfl)
theorem dX0_join_2_6 : decode cX0_join_2 6 = .ok (.if_icmp .le 6, 3) := dk_164 0 6 (dk_at dksX0_join_2_0 6 rfl rfl)
theorem dX0_join_2_9 : decode cX0_join_2 9 = .ok (.ldc 119, 2) := dk_18 119 (dk_at dksX0_join_2_0 9 rfl rfl)
theorem dX0_join_2_11 : decode cX0_join_2 11 = .ok (.ireturn, 1) := dk_172 (dk_at dksX0_join_2_0 11 rfl rfl)
theorem dX0_join_2_12 : decode cX0_join_2 12 = .ok (.aload_n 0, 1) := dk_42 (dk_at dksX0_join_2_0 12 rfl rfl)
theorem dX0_join_2_13 : decode cX0_join_2 13 = .ok (.iload_n 1, 1) := dk_27 (dk_at dksX0_join_2_0 13 rfl rfl)
theorem dX0_join_2_14 : decode cX0_join_2 14 = .ok (.invokevirtual 143, 3) := dk_182 0 143 (dk_at dksX0_join_2_0 14 rfl rfl)
theorem dX0_join_2_17 : decode cX0_join_2 17 = .ok (.ifCond .eq 11, 3) := dk_153 0 11 (dk_at dksX0_join_2_0 17 rfl rfl)
theorem dX0_join_2_20 : decode cX0_join_2 20 = .ok (.aload_n 0, 1) := dk_42 (dk_at dksX0_join_2_0 20 rfl rfl)
theorem dX0_join_2_21 : decode cX0_join_2 21 = .ok (.iload_n 2, 1) := dk_28 (dk_at dksX0_join_2_0 21 rfl rfl)
theorem dX0_join_2_22 : decode cX0_join_2 22 = .ok (.invokevirtual 143, 3) := dk_182 0 143 (dk_at dksX0_join_2_1 0 rfl rfl)
theorem dX0_join_2_25 : decode cX0_join_2 25 = .ok (.ifCond .ne 10, 3) := dk_154 0 10 (dk_at dksX0_join_2_1 3 rfl rfl)
theorem dX0_join_2_28 : decode cX0_join_2 28 = .ok (.aload_n 0, 1) := dk_42 (dk_at dksX0_join_2_1 6 rfl rfl)
theorem dX0_join_2_29 : decode cX0_join_2 29 = .ok (.bipush 7, 2) := dk_16 7 (dk_at dksX0_join_2_1 7 rfl rfl)
theorem dX0_join_2_31 : decode cX0_join_2 31 = .ok (.invokevirtual 47, 3) := dk_182 0 47 (dk_at dksX0_join_2_1 9 rfl rfl)
theorem dX0_join_2_34 : decode cX0_join_2 34 = .ok (.ireturn, 1) := dk_172 (dk_at dksX0_join_2_1 12 rfl rfl)
theorem dX0_join_2_35 : decode cX0_join_2 35 = .ok (.aload_n 0, 1) := dk_42 (dk_at dksX0_join_2_1 13 rfl rfl)
theorem dX0_join_2_36 : decode cX0_join_2 36 = .ok (.getfield 18, 3) := dk_180 0 18 (dk_at dksX0_join_2_1 14 rfl rfl)
theorem dX0_join_2_39 : decode cX0_join_2 39 = .ok (.iload_n 1, 1) := dk_27 (dk_at dksX0_join_2_1 17 rfl rfl)
theorem dX0_join_2_40 : decode cX0_join_2 40 = .ok (.aaload, 1) := dk_50 (dk_at dksX0_join_2_1 18 rfl rfl)
theorem dX0_join_2_41 : decode cX0_join_2 41 = .ok (.getfield 101, 3) := dk_180 0 101 (dk_at dksX0_join_2_1 19 rfl rfl)
theorem dX0_join_2_44 : decode cX0_join_2 44 = .ok (.astore 4, 2) := dk_58 4 (dk_at dksX0_join_2_1 22 rfl rfl)
theorem dX0_join_2_46 : decode cX0_join_2 46 = .ok (.aload_n 0, 1) := dk_42 (dk_at dksX0_join_2_2 0 rfl rfl)
theorem dX0_join_2_47 : decode cX0_join_2 47 = .ok (.getfield 18, 3) := dk_180 0 18 (dk_at dksX0_join_2_2 1 rfl rfl)
theorem dX0_join_2_50 : decode cX0_join_2 50 = .ok (.iload_n 2, 1) := dk_28 (dk_at dksX0_join_2_2 4 rfl rfl)
theorem dX0_join_2_51 : decode cX0_join_2 51 = .ok (.aaload, 1) := dk_50 (dk_at dksX0_join_2_2 5 rfl rfl)
theorem dX0_join_2_52 : decode cX0_join_2 52 = .ok (.getfield 101, 3) := dk_180 0 101 (dk_at dksX0_join_2_2 6 rfl rfl)
theorem dX0_join_2_55 : decode cX0_join_2 55 = .ok (.astore 5, 2) := dk_58 5 (dk_at dksX0_join_2_2 9 rfl rfl)
theorem dX0_join_2_57 : decode cX0_join_2 57 = .ok (.aload 4, 2) := dk_25 4 (dk_at dksX0_join_2_2 11 rfl rfl)
theorem dX0_join_2_59 : decode cX0_join_2 59 = .ok (.invokestatic 62, 3) := dk_184 0 62 (dk_at dksX0_join_2_2 13 rfl rfl)
theorem dX0_join_2_62 : decode cX0_join_2 62 = .ok (.aload 5, 2) := dk_25 5 (dk_at dksX0_join_2_2 16 rfl rfl)
theorem dX0_join_2_64 : decode cX0_join_2 64 = .ok (.invokestatic 62, 3) := dk_184 0 62 (dk_at dksX0_join_2_2 18 rfl rfl)
theorem dX0_join_2_67 : decode cX0_join_2 67 = .ok (.if_icmp .ne 11, 3) := dk_160 0 11 (dk_at dksX0_join_2_2 21 rfl rfl)
theorem dX0_join_2_70 : decode cX0_join_2 70 = .ok (.aload 4, 2) := dk_25 4 (dk_at dksX0_join_2_3 0 rfl rfl)
theorem dX0_join_2_72 : decode cX0_join_2 72 = .ok (.instanceof 58, 3) := dk_193 0 58 (dk_at dksX0_join_2_3 2 rfl rfl)
theorem dX0_join_2_75 : decode cX0_join_2 75 = .ok (.ifCond .eq 9, 3) := dk_153 0 9 (dk_at dksX0_join_2_3 5 rfl rfl)
theorem dX0_join_2_78 : decode cX0_join_2 78 = .ok (.aload_n 0, 1) := dk_42 (dk_at dksX0_join_2_3 8 rfl rfl)
theorem dX0_join_2_79 : decode cX0_join_2 79 = .ok (.iconst 2, 1) := dk_5 (dk_at dksX0_join_2_3 9 rfl rfl)
theorem dX0_join_2_80 : decode cX0_join_2 80 = .ok (.invokevirtual 47, 3) := dk_182 0 47 (dk_at dksX0_join_2_3 10 rfl rfl)
theorem dX0_join_2_83 : decode cX0_join_2 83 = .ok (.ireturn, 1) := dk_172 (dk_at dksX0_join_2_3 13 rfl rfl)
theorem dX0_join_2_84 : decode cX0_join_2 84 = .ok (.aload 4, 2) := dk_25 4 (dk_at dksX0_join_2_3 14 rfl rfl)
theorem dX0_join_2_86 : decode cX0_join_2 86 = .ok (.invokestatic 147, 3) := dk_184 0 147 (dk_at dksX0_join_2_3 16 rfl rfl)
theorem dX0_join_2_89 : decode cX0_join_2 89 = .ok (.aload 5, 2) := dk_25 5 (dk_at dksX0_join_2_3 19 rfl rfl)
theorem dX0_join_2_91 : decode cX0_join_2 91 = .ok (.invokestatic 147, 3) := dk_184 0 147 (dk_at dksX0_join_2_3 21 rfl rfl)
theorem dX0_join_2_94 : decode cX0_join_2 94 = .ok (.if_icmp .eq 10, 3) := dk_159 0 10 (dk_at dksX0_join_2_4 0 rfl rfl)
theorem dX0_join_2_97 : decode cX0_join_2 97 = .ok (.aload_n 0, 1) := dk_42 (dk_at dksX0_join_2_4 3 rfl rfl)
theorem dX0_join_2_98 : decode cX0_join_2 98 = .ok (.bipush 10, 2) := dk_16 10 (dk_at dksX0_join_2_4 4 rfl rfl)
theorem dX0_join_2_100 : decode cX0_join_2 100 = .ok (.invokevirtual 47, 3) := dk_182 0 47 (dk_at dksX0_join_2_4 6 rfl rfl)
theorem dX0_join_2_103 : decode cX0_join_2 103 = .ok (.ireturn, 1) := dk_172 (dk_at dksX0_join_2_4 9 rfl rfl)
theorem dX0_join_2_104 : decode cX0_join_2 104 = .ok (.iconst 0, 1) := dk_3 (dk_at dksX0_join_2_4 10 rfl rfl)
theorem dX0_join_2_105 : decode cX0_join_2 105 = .ok (.istore 6, 2) := dk_54 6 (dk_at dksX0_join_2_4 11 rfl rfl)
theorem dX0_join_2_107 : decode cX0_join_2 107 = .ok (.aload_n 0, 1) := dk_42 (dk_at dksX0_join_2_4 13 rfl rfl)
theorem dX0_join_2_108 : decode cX0_join_2 108 = .ok (.iconst 0, 1) := dk_3 (dk_at dksX0_join_2_4 14 rfl rfl)
theorem dX0_join_2_109 : decode cX0_join_2 109 = .ok (.putfield 44, 3) := dk_181 0 44 (dk_at dksX0_join_2_4 15 rfl rfl)
theorem dX0_join_2_112 : decode cX0_join_2 112 = .ok (.iload 6, 2) := dk_21 6 (dk_at dksX0_join_2_4 18 rfl rfl)
theorem dX0_join_2_114 : decode cX0_join_2 114 = .ok (.aload 4, 2) := dk_25 4 (dk_at dksX0_join_2_4 20 rfl rfl)
theorem dX0_join_2_116 : decode cX0_join_2 116 = .ok (.invokestatic 147, 3) := dk_184 0 147 (dk_at dksX0_join_2_5 0 rfl rfl)
theorem dX0_join_2_119 : decode cX0_join_2 119 = .ok (.if_icmp .ge 24, 3) := dk_162 0 24 (dk_at dksX0_join_2_5 3 rfl rfl)
theorem dX0_join_2_122 : decode cX0_join_2 122 = .ok (.aload 4, 2) := dk_25 4 (dk_at dksX0_join_2_5 6 rfl rfl)
theorem dX0_join_2_124 : decode cX0_join_2 124 = .ok (.iload 6, 2) := dk_21 6 (dk_at dksX0_join_2_5 8 rfl rfl)
theorem dX0_join_2_126 : decode cX0_join_2 126 = .ok (.aload 5, 2) := dk_25 5 (dk_at dksX0_join_2_5 10 rfl rfl)
theorem dX0_join_2_128 : decode cX0_join_2 128 = .ok (.iload 6, 2) := dk_21 6 (dk_at dksX0_join_2_5 12 rfl rfl)
theorem dX0_join_2_130 : decode cX0_join_2 130 = .ok (.invokestatic 84, 3) := dk_184 0 84 (dk_at dksX0_join_2_5 14 rfl rfl)
theorem dX0_join_2_133 : decode cX0_join_2 133 = .ok (.iload_n 3, 1) := dk_29 (dk_at dksX0_join_2_5 17 rfl rfl)
theorem dX0_join_2_134 : decode cX0_join_2 134 = .ok (.invokestatic 195, 3) := dk_184 0 195 (dk_at dksX0_join_2_5 18 rfl rfl)
theorem dX0_join_2_137 : decode cX0_join_2 137 = .ok (.iinc 6 1, 3) := dk_132 6 1 (dk_at dksX0_join_2_5 21 rfl rfl)
theorem dX0_join_2_140 : decode cX0_join_2 140 = .ok (.goto (-28), 3) := dk_167 255 228 (dk_at dksX0_join_2_6 0 rfl rfl)
theorem dX0_join_2_143 : decode cX0_join_2 143 = .ok (.goto 21, 3) := dk_167 0 21 (dk_at dksX0_join_2_6 3 rfl rfl)
theorem dX0_join_2_146 : decode cX0_join_2 146 = .ok (.astore 7, 2) := dk_58 7 (dk_at dksX0_join_2_6 6 rfl rfl)
theorem dX0_join_2_148 : decode cX0_join_2 148 = .ok (.aload_n 0, 1) := dk_42 (dk_at dksX0_join_2_6 8 rfl rfl)
theorem dX0_join_2_149 : decode cX0_join_2 149 = .ok (.iconst 1, 1) := dk_4 (dk_at dksX0_join_2_6 9 rfl rfl)
theorem dX0_join_2_150 : decode cX0_join_2 150 = .ok (.putfield 44, 3) := dk_181 0 44 (dk_at dksX0_join_2_6 10 rfl rfl)
theorem dX0_join_2_153 : decode cX0_join_2 153 = .ok (.goto 11, 3) := dk_167 0 11 (dk_at dksX0_join_2_6 13 rfl rfl)
theorem dX0_join_2_156 : decode cX0_join_2 156 = .ok (.astore 7, 2) := dk_58 7 (dk_at dksX0_join_2_6 16 rfl rfl)
theorem dX0_join_2_158 : decode cX0_join_2 158 = .ok (.aload_n 0, 1) := dk_42 (dk_at dksX0_join_2_6 18 rfl rfl)
theorem dX0_join_2_159 : decode cX0_join_2 159 = .ok (.bipush 6, 2) := dk_16 6 (dk_at dksX0_join_2_6 19 rfl rfl)
theorem dX0_join_2_161 : decode cX0_join_2 161 = .ok (.putfield 44, 3) := dk_181 0 44 (dk_at dksX0_join_2_6 21 rfl rfl)
theorem dX0_join_2_164 : decode cX0_join_2 164 = .ok (.iload 6, 2) := dk_21 6 (dk_at dksX0_join_2_7 0 rfl rfl)
theorem dX0_join_2_166 : decode cX0_join_2 166 = .ok (.ireturn, 1) := dk_172 (dk_at dksX0_join_2_7 2 rfl rfl)
abbrev cX0_sum : ByteArray := prog_1_method_39_code
def yX0_sum : MethodName := ⟨RX0, "sum", "(I)J"⟩
def dkwX0_sum_4 : List UInt8 := [167, 255, 222, 33, 173]
abbrev dktX0_sum_4 : List UInt8 := dkwX0_sum_4 ++ []
def dkwX0_sum_3 : List UInt8 := [50, 58, 8, 33, 25, 8, 199, 0, 7, 9, 167, 0, 8, 25, 8, 184, 0, 201, 97, 66, 132, 7, 1]
abbrev dktX0_sum_3 : List UInt8 := dkwX0_sum_3 ++ dktX0_sum_4
def dkwX0_sum_2 : List UInt8 := [192, 0, 58, 58, 5, 25, 5, 190, 54, 6, 3, 54, 7, 21, 7, 21, 6, 162, 0, 33, 25, 5, 21, 7]
abbrev dktX0_sum_2 : List UInt8 := dkwX0_sum_2 ++ dktX0_sum_3
def dkwX0_sum_1 : List UInt8 := [180, 0, 101, 77, 42, 3, 181, 0, 44, 44, 193, 0, 58, 154, 0, 8, 44, 184, 0, 201, 173, 9, 66, 44]
abbrev dktX0_sum_1 : List UInt8 := dkwX0_sum_1 ++ dktX0_sum_2
def dkwX0_sum_0 : List UInt8 := [42, 27, 182, 0, 143, 154, 0, 11, 42, 16, 7, 182, 0, 47, 133, 173, 42, 180, 0, 18, 27, 50]
abbrev dktX0_sum_0 : List UInt8 := dkwX0_sum_0 ++ dktX0_sum_1
theorem dksX0_sum_0 : cX0_sum.data.toList.drop 0 = dktX0_sum_0 := by decide +kernel
theorem dksX0_sum_1 : cX0_sum.data.toList.drop 22 = dktX0_sum_1 := dk_seg dksX0_sum_0 22 rfl rfl
theorem dksX0_sum_2 : cX0_sum.data.toList.drop 46 = dktX0_sum_2 := dk_seg dksX0_sum_1 24 rfl rfl
theorem dksX0_sum_3 : cX0_sum.data.toList.drop 70 = dktX0_sum_3 := dk_seg dksX0_sum_2 24 rfl rfl
theorem dksX0_sum_4 : cX0_sum.data.toList.drop 93 = dktX0_sum_4 := dk_seg dksX0_sum_3 23 rfl rfl
theorem dX0_sum_0 : decode cX0_sum 0 = .ok (.aload_n 0, 1) := dk_42 (dk_at dksX0_sum_0 0 rfl rfl)
theorem dX0_sum_1 : decode cX0_sum 1 = .ok (.iload_n 1, 1) := dk_27 (dk_at dksX0_sum_0 1 rfl rfl)
theorem dX0_sum_2 : decode cX0_sum 2 = .ok (.invokevirtual 143, 3) := dk_182 0 143 (dk_at dksX0_sum_0 2 rfl rfl)
theorem dX0_sum_5 : decode cX0_sum 5 = .ok (.ifCond .ne 11, 3) := dk_154 0 11 (dk_at dksX0_sum_0 5 rfl rfl)
theorem dX0_sum_8 : decode cX0_sum 8 = .ok (.aload_n 0, 1) := dk_42 (dk_at dksX0_sum_0 8 rfl rfl)
theorem dX0_sum_9 : decode cX0_sum 9 = .ok (.bipush 7, 2) := dk_16 7 (dk_at dksX0_sum_0 9 rfl rfl)
theorem dX0_sum_11 : decode cX0_sum 11 = .ok (.invokevirtual 47, 3) := dk_182 0 47 (dk_at dksX0_sum_0 11 rfl rfl)
theorem dX0_sum_14 : decode cX0_sum 14 = .ok (.i2l, 1) := dk_133 (dk_at dksX0_sum_0 14 rfl rfl)
theorem dX0_sum_15 : decode cX0_sum 15 = .ok (.lreturn, 1) := dk_173 (dk_at dksX0_sum_0 15 rfl rfl)
theorem dX0_sum_16 : decode cX0_sum 16 = .ok (.aload_n 0, 1) := dk_42 (dk_at dksX0_sum_0 16 rfl rfl)
theorem dX0_sum_17 : decode cX0_sum 17 = .ok (.getfield 18, 3) := dk_180 0 18 (dk_at dksX0_sum_0 17 rfl rfl)
theorem dX0_sum_20 : decode cX0_sum 20 = .ok (.iload_n 1, 1) := dk_27 (dk_at dksX0_sum_0 20 rfl rfl)
theorem dX0_sum_21 : decode cX0_sum 21 = .ok (.aaload, 1) := dk_50 (dk_at dksX0_sum_0 21 rfl rfl)
theorem dX0_sum_22 : decode cX0_sum 22 = .ok (.getfield 101, 3) := dk_180 0 101 (dk_at dksX0_sum_1 0 rfl rfl)
theorem dX0_sum_25 : decode cX0_sum 25 = .ok (.astore_n 2, 1) := dk_77 (dk_at dksX0_sum_1 3 rfl rfl)
theorem dX0_sum_26 : decode cX0_sum 26 = .ok (.aload_n 0, 1) := dk_42 (dk_at dksX0_sum_1 4 rfl rfl)
theorem dX0_sum_27 : decode cX0_sum 27 = .ok (.iconst 0, 1) := dk_3 (dk_at dksX0_sum_1 5 rfl rfl)
theorem dX0_sum_28 : decode cX0_sum 28 = .ok (.putfield 44, 3) := dk_181 0 44 (dk_at dksX0_sum_1 6 rfl rfl)
theorem dX0_sum_31 : decode cX0_sum 31 = .ok (.aload_n 2, 1) := dk_44 (dk_at dksX0_sum_1 9 rfl rfl)
theorem dX0_sum_32 : decode cX0_sum 32 = .ok (.instanceof 58, 3) := dk_193 0 58 (dk_at dksX0_sum_1 10 rfl rfl)
theorem dX0_sum_35 : decode cX0_sum 35 = .ok (.ifCond .ne 8, 3) := dk_154 0 8 (dk_at dksX0_sum_1 13 rfl rfl)
theorem dX0_sum_38 : decode cX0_sum 38 = .ok (.aload_n 2, 1) := dk_44 (dk_at dksX0_sum_1 16 rfl rfl)
theorem dX0_sum_39 : decode cX0_sum 39 = .ok (.invokestatic 201, 3) := dk_184 0 201 (dk_at dksX0_sum_1 17 rfl rfl)
theorem dX0_sum_42 : decode cX0_sum 42 = .ok (.lreturn, 1) := dk_173 (dk_at dksX0_sum_1 20 rfl rfl)
theorem dX0_sum_43 : decode cX0_sum 43 = .ok (.lconst 0, 1) := dk_9 (dk_at dksX0_sum_1 21 rfl rfl)
theorem dX0_sum_44 : decode cX0_sum 44 = .ok (.lstore_n 3, 1) := dk_66 (dk_at dksX0_sum_1 22 rfl rfl)
theorem dX0_sum_45 : decode cX0_sum 45 = .ok (.aload_n 2, 1) := dk_44 (dk_at dksX0_sum_1 23 rfl rfl)
theorem dX0_sum_46 : decode cX0_sum 46 = .ok (.checkcast 58, 3) := dk_192 0 58 (dk_at dksX0_sum_2 0 rfl rfl)
theorem dX0_sum_49 : decode cX0_sum 49 = .ok (.astore 5, 2) := dk_58 5 (dk_at dksX0_sum_2 3 rfl rfl)
theorem dX0_sum_51 : decode cX0_sum 51 = .ok (.aload 5, 2) := dk_25 5 (dk_at dksX0_sum_2 5 rfl rfl)
theorem dX0_sum_53 : decode cX0_sum 53 = .ok (.arraylength, 1) := dk_190 (dk_at dksX0_sum_2 7 rfl rfl)
theorem dX0_sum_54 : decode cX0_sum 54 = .ok (.istore 6, 2) := dk_54 6 (dk_at dksX0_sum_2 8 rfl rfl)
theorem dX0_sum_56 : decode cX0_sum 56 = .ok (.iconst 0, 1) := dk_3 (dk_at dksX0_sum_2 10 rfl rfl)
theorem dX0_sum_57 : decode cX0_sum 57 = .ok (.istore 7, 2) := dk_54 7 (dk_at dksX0_sum_2 11 rfl rfl)
theorem dX0_sum_59 : decode cX0_sum 59 = .ok (.iload 7, 2) := dk_21 7 (dk_at dksX0_sum_2 13 rfl rfl)
theorem dX0_sum_61 : decode cX0_sum 61 = .ok (.iload 6, 2) := dk_21 6 (dk_at dksX0_sum_2 15 rfl rfl)
theorem dX0_sum_63 : decode cX0_sum 63 = .ok (.if_icmp .ge 33, 3) := dk_162 0 33 (dk_at dksX0_sum_2 17 rfl rfl)
theorem dX0_sum_66 : decode cX0_sum 66 = .ok (.aload 5, 2) := dk_25 5 (dk_at dksX0_sum_2 20 rfl rfl)
theorem dX0_sum_68 : decode cX0_sum 68 = .ok (.iload 7, 2) := dk_21 7 (dk_at dksX0_sum_2 22 rfl rfl)
theorem dX0_sum_70 : decode cX0_sum 70 = .ok (.aaload, 1) := dk_50 (dk_at dksX0_sum_3 0 rfl rfl)
theorem dX0_sum_71 : decode cX0_sum 71 = .ok (.astore 8, 2) := dk_58 8 (dk_at dksX0_sum_3 1 rfl rfl)
theorem dX0_sum_73 : decode cX0_sum 73 = .ok (.lload_n 3, 1) := dk_33 (dk_at dksX0_sum_3 3 rfl rfl)
theorem dX0_sum_74 : decode cX0_sum 74 = .ok (.aload 8, 2) := dk_25 8 (dk_at dksX0_sum_3 4 rfl rfl)
theorem dX0_sum_76 : decode cX0_sum 76 = .ok (.ifnonnull 7, 3) := dk_199 0 7 (dk_at dksX0_sum_3 6 rfl rfl)
theorem dX0_sum_79 : decode cX0_sum 79 = .ok (.lconst 0, 1) := dk_9 (dk_at dksX0_sum_3 9 rfl rfl)
theorem dX0_sum_80 : decode cX0_sum 80 = .ok (.goto 8, 3) := dk_167 0 8 (dk_at dksX0_sum_3 10 rfl rfl)
theorem dX0_sum_83 : decode cX0_sum 83 = .ok (.aload 8, 2) := dk_25 8 (dk_at dksX0_sum_3 13 rfl rfl)
theorem dX0_sum_85 : decode cX0_sum 85 = .ok (.invokestatic 201, 3) := dk_184 0 201 (dk_at dksX0_sum_3 15 rfl rfl)
theorem dX0_sum_88 : decode cX0_sum 88 = .ok (.ladd, 1) := dk_97 (dk_at dksX0_sum_3 18 rfl rfl)
theorem dX0_sum_89 : decode cX0_sum 89 = .ok (.lstore_n 3, 1) := dk_66 (dk_at dksX0_sum_3 19 rfl rfl)
theorem dX0_sum_90 : decode cX0_sum 90 = .ok (.iinc 7 1, 3) := dk_132 7 1 (dk_at dksX0_sum_3 20 rfl rfl)
theorem dX0_sum_93 : decode cX0_sum 93 = .ok (.goto (-34), 3) := dk_167 255 222 (dk_at dksX0_sum_4 0 rfl rfl)
theorem dX0_sum_96 : decode cX0_sum 96 = .ok (.lload_n 3, 1) := dk_33 (dk_at dksX0_sum_4 3 rfl rfl)
theorem dX0_sum_97 : decode cX0_sum 97 = .ok (.lreturn, 1) := dk_173 (dk_at dksX0_sum_4 4 rfl rfl)
abbrev cX0_sumOf : ByteArray := prog_1_method_38_code
def yX0_sumOf : MethodName := ⟨RX0, "sumOf", "(Ljava/lang/Object;)J"⟩
def dkwX0_sumOf_2 : List UInt8 := [184, 0, 84, 97, 64, 132, 3, 1, 167, 255, 205, 31, 173]
abbrev dktX0_sumOf_2 : List UInt8 := dkwX0_sumOf_2 ++ []
def dkwX0_sumOf_1 : List UInt8 := [50, 199, 0, 7, 4, 167, 0, 4, 3, 54, 4, 31, 21, 4, 153, 0, 7, 9, 167, 0, 8, 42, 29]
abbrev dktX0_sumOf_1 : List UInt8 := dkwX0_sumOf_1 ++ dktX0_sumOf_2
def dkwX0_sumOf_0 : List UInt8 := [9, 64, 3, 62, 29, 42, 184, 0, 147, 162, 0, 49, 42, 193, 0, 66, 153, 0, 16, 42, 192, 0, 66, 29]
abbrev dktX0_sumOf_0 : List UInt8 := dkwX0_sumOf_0 ++ dktX0_sumOf_1
theorem dksX0_sumOf_0 : cX0_sumOf.data.toList.drop 0 = dktX0_sumOf_0 := by decide +kernel
theorem dksX0_sumOf_1 : cX0_sumOf.data.toList.drop 24 = dktX0_sumOf_1 := dk_seg dksX0_sumOf_0 24 rfl rfl
theorem dksX0_sumOf_2 : cX0_sumOf.data.toList.drop 47 = dktX0_sumOf_2 := dk_seg dksX0_sumOf_1 23 rfl rfl
theorem dX0_sumOf_0 : decode cX0_sumOf 0 = .ok (.lconst 0, 1) := dk_9 (dk_at dksX0_sumOf_0 0 rfl rfl)
theorem dX0_sumOf_1 : decode cX0_sumOf 1 = .ok (.lstore_n 1, 1) := dk_64 (dk_at dksX0_sumOf_0 1 rfl rfl)
theorem dX0_sumOf_2 : decode cX0_sumOf 2 = .ok (.iconst 0, 1) := dk_3 (dk_at dksX0_sumOf_0 2 rfl rfl)
theorem dX0_sumOf_3 : decode cX0_sumOf 3 = .ok (.istore_n 3, 1) := dk_62 (dk_at dksX0_sumOf_0 3 rfl rfl)
theorem dX0_sumOf_4 : decode cX0_sumOf 4 = .ok (.iload_n 3, 1) := dk_29 (dk_at dksX0_sumOf_0 4 rfl rfl)
theorem dX0_sumOf_5 : decode cX0_sumOf 5 = .ok (.aload_n 0, 1) := dk_42 (dk_at dksX0_sumOf_0 5 rfl rfl)
theorem dX0_sumOf_6 : decode cX0_sumOf 6 = .ok (.invokestatic 147, 3) := dk_184 0 147 (dk_at dksX0_sumOf_0 6 rfl rfl)
theorem dX0_sumOf_9 : decode cX0_sumOf 9 = .ok (.if_icmp .ge 49, 3) := dk_162 0 49 (dk_at dksX0_sumOf_0 9 rfl rfl)
theorem dX0_sumOf_12 : decode cX0_sumOf 12 = .ok (.aload_n 0, 1) := dk_42 (dk_at dksX0_sumOf_0 12 rfl rfl)
theorem dX0_sumOf_13 : decode cX0_sumOf 13 = .ok (.instanceof 66, 3) := dk_193 0 66 (dk_at dksX0_sumOf_0 13 rfl rfl)
theorem dX0_sumOf_16 : decode cX0_sumOf 16 = .ok (.ifCond .eq 16, 3) := dk_153 0 16 (dk_at dksX0_sumOf_0 16 rfl rfl)
theorem dX0_sumOf_19 : decode cX0_sumOf 19 = .ok (.aload_n 0, 1) := dk_42 (dk_at dksX0_sumOf_0 19 rfl rfl)
theorem dX0_sumOf_20 : decode cX0_sumOf 20 = .ok (.checkcast 66, 3) := dk_192 0 66 (dk_at dksX0_sumOf_0 20 rfl rfl)
theorem dX0_sumOf_23 : decode cX0_sumOf 23 = .ok (.iload_n 3, 1) := dk_29 (dk_at dksX0_sumOf_0 23 rfl rfl)
theorem dX0_sumOf_24 : decode cX0_sumOf 24 = .ok (.aaload, 1) := dk_50 (dk_at dksX0_sumOf_1 0 rfl rfl)
theorem dX0_sumOf_25 : decode cX0_sumOf 25 = .ok (.ifnonnull 7, 3) := dk_199 0 7 (dk_at dksX0_sumOf_1 1 rfl rfl)
theorem dX0_sumOf_28 : decode cX0_sumOf 28 = .ok (.iconst 1, 1) := dk_4 (dk_at dksX0_sumOf_1 4 rfl rfl)
theorem dX0_sumOf_29 : decode cX0_sumOf 29 = .ok (.goto 4, 3) := dk_167 0 4 (dk_at dksX0_sumOf_1 5 rfl rfl)
theorem dX0_sumOf_32 : decode cX0_sumOf 32 = .ok (.iconst 0, 1) := dk_3 (dk_at dksX0_sumOf_1 8 rfl rfl)
theorem dX0_sumOf_33 : decode cX0_sumOf 33 = .ok (.istore 4, 2) := dk_54 4 (dk_at dksX0_sumOf_1 9 rfl rfl)
theorem dX0_sumOf_35 : decode cX0_sumOf 35 = .ok (.lload_n 1, 1) := dk_31 (dk_at dksX0_sumOf_1 11 rfl rfl)
theorem dX0_sumOf_36 : decode cX0_sumOf 36 = .ok (.iload 4, 2) := dk_21 4 (dk_at dksX0_sumOf_1 12 rfl rfl)
theorem dX0_sumOf_38 : decode cX0_sumOf 38 = .ok (.ifCond .eq 7, 3) := dk_153 0 7 (dk_at dksX0_sumOf_1 14 rfl rfl)
theorem dX0_sumOf_41 : decode cX0_sumOf 41 = .ok (.lconst 0, 1) := dk_9 (dk_at dksX0_sumOf_1 17 rfl rfl)
theorem dX0_sumOf_42 : decode cX0_sumOf 42 = .ok (.goto 8, 3) := dk_167 0 8 (dk_at dksX0_sumOf_1 18 rfl rfl)
theorem dX0_sumOf_45 : decode cX0_sumOf 45 = .ok (.aload_n 0, 1) := dk_42 (dk_at dksX0_sumOf_1 21 rfl rfl)
theorem dX0_sumOf_46 : decode cX0_sumOf 46 = .ok (.iload_n 3, 1) := dk_29 (dk_at dksX0_sumOf_1 22 rfl rfl)
theorem dX0_sumOf_47 : decode cX0_sumOf 47 = .ok (.invokestatic 84, 3) := dk_184 0 84 (dk_at dksX0_sumOf_2 0 rfl rfl)
theorem dX0_sumOf_50 : decode cX0_sumOf 50 = .ok (.ladd, 1) := dk_97 (dk_at dksX0_sumOf_2 3 rfl rfl)
theorem dX0_sumOf_51 : decode cX0_sumOf 51 = .ok (.lstore_n 1, 1) := dk_64 (dk_at dksX0_sumOf_2 4 rfl rfl)
theorem dX0_sumOf_52 : decode cX0_sumOf 52 = .ok (.iinc 3 1, 3) := dk_132 3 1 (dk_at dksX0_sumOf_2 5 rfl rfl)
theorem dX0_sumOf_55 : decode cX0_sumOf 55 = .ok (.goto (-51), 3) := dk_167 255 205 (dk_at dksX0_sumOf_2 8 rfl rfl)
theorem dX0_sumOf_58 : decode cX0_sumOf 58 = .ok (.lload_n 1, 1) := dk_31 (dk_at dksX0_sumOf_2 11 rfl rfl)
theorem dX0_sumOf_59 : decode cX0_sumOf 59 = .ok (.lreturn, 1) := dk_173 (dk_at dksX0_sumOf_2 12 rfl rfl)
abbrev cX0_mean : ByteArray := prog_1_method_40_code
def yX0_mean : MethodName := ⟨RX0, "mean", "(I)J"⟩
def dkwX0_mean_2 : List UInt8 := [184, 0, 147, 133, 109, 66, 42, 3, 181, 0, 44, 33, 173, 78, 42, 16, 6, 182, 0, 47, 133, 173]
abbrev dktX0_mean_2 : List UInt8 := dkwX0_mean_2 ++ []
def dkwX0_mean_1 : List UInt8 := [180, 0, 101, 77, 44, 184, 0, 62, 6, 161, 0, 10, 42, 5, 182, 0, 47, 133, 173, 44, 184, 0, 201, 44]
abbrev dktX0_mean_1 : List UInt8 := dkwX0_mean_1 ++ dktX0_mean_2
def dkwX0_mean_0 : List UInt8 := [42, 27, 182, 0, 143, 154, 0, 11, 42, 16, 7, 182, 0, 47, 133, 173, 42, 180, 0, 18, 27, 50]
abbrev dktX0_mean_0 : List UInt8 := dkwX0_mean_0 ++ dktX0_mean_1
theorem dksX0_mean_0 : cX0_mean.data.toList.drop 0 = dktX0_mean_0 := by decide +kernel
theorem dksX0_mean_1 : cX0_mean.data.toList.drop 22 = dktX0_mean_1 := dk_seg dksX0_mean_0 22 rfl rfl
theorem dksX0_mean_2 : cX0_mean.data.toList.drop 46 = dktX0_mean_2 := dk_seg dksX0_mean_1 24 rfl rfl
theorem dX0_mean_0 : decode cX0_mean 0 = .ok (.aload_n 0, 1) := dk_42 (dk_at dksX0_mean_0 0 rfl rfl)
theorem dX0_mean_1 : decode cX0_mean 1 = .ok (.iload_n 1, 1) := dk_27 (dk_at dksX0_mean_0 1 rfl rfl)
theorem dX0_mean_2 : decode cX0_mean 2 = .ok (.invokevirtual 143, 3) := dk_182 0 143 (dk_at dksX0_mean_0 2 rfl rfl)
theorem dX0_mean_5 : decode cX0_mean 5 = .ok (.ifCond .ne 11, 3) := dk_154 0 11 (dk_at dksX0_mean_0 5 rfl rfl)
theorem dX0_mean_8 : decode cX0_mean 8 = .ok (.aload_n 0, 1) := dk_42 (dk_at dksX0_mean_0 8 rfl rfl)
theorem dX0_mean_9 : decode cX0_mean 9 = .ok (.bipush 7, 2) := dk_16 7 (dk_at dksX0_mean_0 9 rfl rfl)
theorem dX0_mean_11 : decode cX0_mean 11 = .ok (.invokevirtual 47, 3) := dk_182 0 47 (dk_at dksX0_mean_0 11 rfl rfl)
theorem dX0_mean_14 : decode cX0_mean 14 = .ok (.i2l, 1) := dk_133 (dk_at dksX0_mean_0 14 rfl rfl)
theorem dX0_mean_15 : decode cX0_mean 15 = .ok (.lreturn, 1) := dk_173 (dk_at dksX0_mean_0 15 rfl rfl)
theorem dX0_mean_16 : decode cX0_mean 16 = .ok (.aload_n 0, 1) := dk_42 (dk_at dksX0_mean_0 16 rfl rfl)
theorem dX0_mean_17 : decode cX0_mean 17 = .ok (.getfield 18, 3) := dk_180 0 18 (dk_at dksX0_mean_0 17 rfl rfl)
theorem dX0_mean_20 : decode cX0_mean 20 = .ok (.iload_n 1, 1) := dk_27 (dk_at dksX0_mean_0 20 rfl rfl)
theorem dX0_mean_21 : decode cX0_mean 21 = .ok (.aaload, 1) := dk_50 (dk_at dksX0_mean_0 21 rfl rfl)
theorem dX0_mean_22 : decode cX0_mean 22 = .ok (.getfield 101, 3) := dk_180 0 101 (dk_at dksX0_mean_1 0 rfl rfl)
theorem dX0_mean_25 : decode cX0_mean 25 = .ok (.astore_n 2, 1) := dk_77 (dk_at dksX0_mean_1 3 rfl rfl)
theorem dX0_mean_26 : decode cX0_mean 26 = .ok (.aload_n 2, 1) := dk_44 (dk_at dksX0_mean_1 4 rfl rfl)
theorem dX0_mean_27 : decode cX0_mean 27 = .ok (.invokestatic 62, 3) := dk_184 0 62 (dk_at dksX0_mean_1 5 rfl rfl)
theorem dX0_mean_30 : decode cX0_mean 30 = .ok (.iconst 3, 1) := dk_6 (dk_at dksX0_mean_1 8 rfl rfl)
theorem dX0_mean_31 : decode cX0_mean 31 = .ok (.if_icmp .lt 10, 3) := dk_161 0 10 (dk_at dksX0_mean_1 9 rfl rfl)
theorem dX0_mean_34 : decode cX0_mean 34 = .ok (.aload_n 0, 1) := dk_42 (dk_at dksX0_mean_1 12 rfl rfl)
theorem dX0_mean_35 : decode cX0_mean 35 = .ok (.iconst 2, 1) := dk_5 (dk_at dksX0_mean_1 13 rfl rfl)
theorem dX0_mean_36 : decode cX0_mean 36 = .ok (.invokevirtual 47, 3) := dk_182 0 47 (dk_at dksX0_mean_1 14 rfl rfl)
theorem dX0_mean_39 : decode cX0_mean 39 = .ok (.i2l, 1) := dk_133 (dk_at dksX0_mean_1 17 rfl rfl)
theorem dX0_mean_40 : decode cX0_mean 40 = .ok (.lreturn, 1) := dk_173 (dk_at dksX0_mean_1 18 rfl rfl)
theorem dX0_mean_41 : decode cX0_mean 41 = .ok (.aload_n 2, 1) := dk_44 (dk_at dksX0_mean_1 19 rfl rfl)
theorem dX0_mean_42 : decode cX0_mean 42 = .ok (.invokestatic 201, 3) := dk_184 0 201 (dk_at dksX0_mean_1 20 rfl rfl)
theorem dX0_mean_45 : decode cX0_mean 45 = .ok (.aload_n 2, 1) := dk_44 (dk_at dksX0_mean_1 23 rfl rfl)
theorem dX0_mean_46 : decode cX0_mean 46 = .ok (.invokestatic 147, 3) := dk_184 0 147 (dk_at dksX0_mean_2 0 rfl rfl)
theorem dX0_mean_49 : decode cX0_mean 49 = .ok (.i2l, 1) := dk_133 (dk_at dksX0_mean_2 3 rfl rfl)
theorem dX0_mean_50 : decode cX0_mean 50 = .ok (.ldiv, 1) := dk_109 (dk_at dksX0_mean_2 4 rfl rfl)
theorem dX0_mean_51 : decode cX0_mean 51 = .ok (.lstore_n 3, 1) := dk_66 (dk_at dksX0_mean_2 5 rfl rfl)
theorem dX0_mean_52 : decode cX0_mean 52 = .ok (.aload_n 0, 1) := dk_42 (dk_at dksX0_mean_2 6 rfl rfl)
theorem dX0_mean_53 : decode cX0_mean 53 = .ok (.iconst 0, 1) := dk_3 (dk_at dksX0_mean_2 7 rfl rfl)
theorem dX0_mean_54 : decode cX0_mean 54 = .ok (.putfield 44, 3) := dk_181 0 44 (dk_at dksX0_mean_2 8 rfl rfl)
theorem dX0_mean_57 : decode cX0_mean 57 = .ok (.lload_n 3, 1) := dk_33 (dk_at dksX0_mean_2 11 rfl rfl)
theorem dX0_mean_58 : decode cX0_mean 58 = .ok (.lreturn, 1) := dk_173 (dk_at dksX0_mean_2 12 rfl rfl)
theorem dX0_mean_59 : decode cX0_mean 59 = .ok (.astore_n 3, 1) := dk_78 (dk_at dksX0_mean_2 13 rfl rfl)
theorem dX0_mean_60 : decode cX0_mean 60 = .ok (.aload_n 0, 1) := dk_42 (dk_at dksX0_mean_2 14 rfl rfl)
theorem dX0_mean_61 : decode cX0_mean 61 = .ok (.bipush 6, 2) := dk_16 6 (dk_at dksX0_mean_2 15 rfl rfl)
theorem dX0_mean_63 : decode cX0_mean 63 = .ok (.invokevirtual 47, 3) := dk_182 0 47 (dk_at dksX0_mean_2 17 rfl rfl)
theorem dX0_mean_66 : decode cX0_mean 66 = .ok (.i2l, 1) := dk_133 (dk_at dksX0_mean_2 20 rfl rfl)
theorem dX0_mean_67 : decode cX0_mean 67 = .ok (.lreturn, 1) := dk_173 (dk_at dksX0_mean_2 21 rfl rfl)
abbrev cX0_about : ByteArray := prog_1_method_42_code
def yX0_about : MethodName := ⟨RX0, "about", "(II)I"⟩
def dkwX0_about_5 : List UInt8 := [160, 0, 13, 45, 180, 0, 105, 21, 4, 46, 167, 0, 10, 45, 180, 0, 111, 21, 4, 46, 182, 0, 114, 172]
abbrev dktX0_about_5 : List UInt8 := dkwX0_about_5 ++ []
def dkwX0_about_4 : List UInt8 := [54, 4, 21, 4, 45, 180, 0, 108, 161, 0, 10, 42, 16, 9, 182, 0, 47, 172, 42, 28, 5, 112, 4]
abbrev dktX0_about_4 : List UInt8 := dkwX0_about_4 ++ dktX0_about_5
def dkwX0_about_3 : List UInt8 := [167, 0, 15, 42, 180, 0, 18, 27, 50, 180, 0, 101, 184, 0, 205, 182, 0, 114, 172, 28, 6, 100, 5, 108]
abbrev dktX0_about_3 : List UInt8 := dkwX0_about_3 ++ dktX0_about_4
def dkwX0_about_2 : List UInt8 := [42, 180, 0, 18, 27, 50, 180, 0, 101, 184, 0, 62, 167, 0, 27, 28, 4, 160, 0, 10, 45, 180, 0, 108]
abbrev dktX0_about_2 : List UInt8 := dkwX0_about_2 ++ dktX0_about_3
def dkwX0_about_1 : List UInt8 := [182, 0, 47, 172, 42, 180, 0, 18, 27, 50, 180, 0, 96, 78, 28, 6, 162, 0, 51, 42, 28, 154, 0, 18]
abbrev dktX0_about_1 : List UInt8 := dkwX0_about_1 ++ dktX0_about_2
def dkwX0_about_0 : List UInt8 := [28, 155, 0, 9, 28, 16, 8, 164, 0, 6, 18, 119, 172, 42, 27, 182, 0, 143, 154, 0, 10, 42, 16, 7]
abbrev dktX0_about_0 : List UInt8 := dkwX0_about_0 ++ dktX0_about_1
theorem dksX0_about_0 : cX0_about.data.toList.drop 0 = dktX0_about_0 := by decide +kernel
theorem dksX0_about_1 : cX0_about.data.toList.drop 24 = dktX0_about_1 := dk_seg dksX0_about_0 24 rfl rfl
theorem dksX0_about_2 : cX0_about.data.toList.drop 48 = dktX0_about_2 := dk_seg dksX0_about_1 24 rfl rfl
theorem dksX0_about_3 : cX0_about.data.toList.drop 72 = dktX0_about_3 := dk_seg dksX0_about_2 24 rfl rfl
theorem dksX0_about_4 : cX0_about.data.toList.drop 96 = dktX0_about_4 := dk_seg dksX0_about_3 24 rfl rfl
theorem dksX0_about_5 : cX0_about.data.toList.drop 119 = dktX0_about_5 := dk_seg dksX0_about_4 23 rfl rfl
theorem dX0_about_0 : decode cX0_about 0 = .ok (.iload_n 2, 1) := dk_28 (dk_at dksX0_about_0 0 rfl rfl)
theorem dX0_about_1 : decode cX0_about 1 = .ok (.ifCond .lt 9, 3) := dk_155 0 9 (dk_at dksX0_about_0 1 rfl rfl)
theorem dX0_about_4 : decode cX0_about 4 = .ok (.iload_n 2, 1) := dk_28 (dk_at dksX0_about_0 4 rfl rfl)
theorem dX0_about_5 : decode cX0_about 5 = .ok (.bipush 8, 2) := dk_16 8 (dk_at dksX0_about_0 5 rfl rfl)
theorem dX0_about_7 : decode cX0_about 7 = .ok (.if_icmp .le 6, 3) := dk_164 0 6 (dk_at dksX0_about_0 7 rfl rfl)
theorem dX0_about_10 : decode cX0_about 10 = .ok (.ldc 119, 2) := dk_18 119 (dk_at dksX0_about_0 10 rfl rfl)
theorem dX0_about_12 : decode cX0_about 12 = .ok (.ireturn, 1) := dk_172 (dk_at dksX0_about_0 12 rfl rfl)
theorem dX0_about_13 : decode cX0_about 13 = .ok (.aload_n 0, 1) := dk_42 (dk_at dksX0_about_0 13 rfl rfl)
theorem dX0_about_14 : decode cX0_about 14 = .ok (.iload_n 1, 1) := dk_27 (dk_at dksX0_about_0 14 rfl rfl)
theorem dX0_about_15 : decode cX0_about 15 = .ok (.invokevirtual 143, 3) := dk_182 0 143 (dk_at dksX0_about_0 15 rfl rfl)
theorem dX0_about_18 : decode cX0_about 18 = .ok (.ifCond .ne 10, 3) := dk_154 0 10 (dk_at dksX0_about_0 18 rfl rfl)
theorem dX0_about_21 : decode cX0_about 21 = .ok (.aload_n 0, 1) := dk_42 (dk_at dksX0_about_0 21 rfl rfl)
theorem dX0_about_22 : decode cX0_about 22 = .ok (.bipush 7, 2) := dk_16 7 (dk_at dksX0_about_0 22 rfl rfl)
theorem dX0_about_24 : decode cX0_about 24 = .ok (.invokevirtual 47, 3) := dk_182 0 47 (dk_at dksX0_about_1 0 rfl rfl)
theorem dX0_about_27 : decode cX0_about 27 = .ok (.ireturn, 1) := dk_172 (dk_at dksX0_about_1 3 rfl rfl)
theorem dX0_about_28 : decode cX0_about 28 = .ok (.aload_n 0, 1) := dk_42 (dk_at dksX0_about_1 4 rfl rfl)
theorem dX0_about_29 : decode cX0_about 29 = .ok (.getfield 18, 3) := dk_180 0 18 (dk_at dksX0_about_1 5 rfl rfl)
theorem dX0_about_32 : decode cX0_about 32 = .ok (.iload_n 1, 1) := dk_27 (dk_at dksX0_about_1 8 rfl rfl)
theorem dX0_about_33 : decode cX0_about 33 = .ok (.aaload, 1) := dk_50 (dk_at dksX0_about_1 9 rfl rfl)
theorem dX0_about_34 : decode cX0_about 34 = .ok (.getfield 96, 3) := dk_180 0 96 (dk_at dksX0_about_1 10 rfl rfl)
theorem dX0_about_37 : decode cX0_about 37 = .ok (.astore_n 3, 1) := dk_78 (dk_at dksX0_about_1 13 rfl rfl)
theorem dX0_about_38 : decode cX0_about 38 = .ok (.iload_n 2, 1) := dk_28 (dk_at dksX0_about_1 14 rfl rfl)
theorem dX0_about_39 : decode cX0_about 39 = .ok (.iconst 3, 1) := dk_6 (dk_at dksX0_about_1 15 rfl rfl)
theorem dX0_about_40 : decode cX0_about 40 = .ok (.if_icmp .ge 51, 3) := dk_162 0 51 (dk_at dksX0_about_1 16 rfl rfl)
theorem dX0_about_43 : decode cX0_about 43 = .ok (.aload_n 0, 1) := dk_42 (dk_at dksX0_about_1 19 rfl rfl)
theorem dX0_about_44 : decode cX0_about 44 = .ok (.iload_n 2, 1) := dk_28 (dk_at dksX0_about_1 20 rfl rfl)
theorem dX0_about_45 : decode cX0_about 45 = .ok (.ifCond .ne 18, 3) := dk_154 0 18 (dk_at dksX0_about_1 21 rfl rfl)
theorem dX0_about_48 : decode cX0_about 48 = .ok (.aload_n 0, 1) := dk_42 (dk_at dksX0_about_2 0 rfl rfl)
theorem dX0_about_49 : decode cX0_about 49 = .ok (.getfield 18, 3) := dk_180 0 18 (dk_at dksX0_about_2 1 rfl rfl)
theorem dX0_about_52 : decode cX0_about 52 = .ok (.iload_n 1, 1) := dk_27 (dk_at dksX0_about_2 4 rfl rfl)
theorem dX0_about_53 : decode cX0_about 53 = .ok (.aaload, 1) := dk_50 (dk_at dksX0_about_2 5 rfl rfl)
theorem dX0_about_54 : decode cX0_about 54 = .ok (.getfield 101, 3) := dk_180 0 101 (dk_at dksX0_about_2 6 rfl rfl)
theorem dX0_about_57 : decode cX0_about 57 = .ok (.invokestatic 62, 3) := dk_184 0 62 (dk_at dksX0_about_2 9 rfl rfl)
theorem dX0_about_60 : decode cX0_about 60 = .ok (.goto 27, 3) := dk_167 0 27 (dk_at dksX0_about_2 12 rfl rfl)
theorem dX0_about_63 : decode cX0_about 63 = .ok (.iload_n 2, 1) := dk_28 (dk_at dksX0_about_2 15 rfl rfl)
theorem dX0_about_64 : decode cX0_about 64 = .ok (.iconst 1, 1) := dk_4 (dk_at dksX0_about_2 16 rfl rfl)
theorem dX0_about_65 : decode cX0_about 65 = .ok (.if_icmp .ne 10, 3) := dk_160 0 10 (dk_at dksX0_about_2 17 rfl rfl)
theorem dX0_about_68 : decode cX0_about 68 = .ok (.aload_n 3, 1) := dk_45 (dk_at dksX0_about_2 20 rfl rfl)
theorem dX0_about_69 : decode cX0_about 69 = .ok (.getfield 108, 3) := dk_180 0 108 (dk_at dksX0_about_2 21 rfl rfl)
theorem dX0_about_72 : decode cX0_about 72 = .ok (.goto 15, 3) := dk_167 0 15 (dk_at dksX0_about_3 0 rfl rfl)
theorem dX0_about_75 : decode cX0_about 75 = .ok (.aload_n 0, 1) := dk_42 (dk_at dksX0_about_3 3 rfl rfl)
theorem dX0_about_76 : decode cX0_about 76 = .ok (.getfield 18, 3) := dk_180 0 18 (dk_at dksX0_about_3 4 rfl rfl)
theorem dX0_about_79 : decode cX0_about 79 = .ok (.iload_n 1, 1) := dk_27 (dk_at dksX0_about_3 7 rfl rfl)
theorem dX0_about_80 : decode cX0_about 80 = .ok (.aaload, 1) := dk_50 (dk_at dksX0_about_3 8 rfl rfl)
theorem dX0_about_81 : decode cX0_about 81 = .ok (.getfield 101, 3) := dk_180 0 101 (dk_at dksX0_about_3 9 rfl rfl)
theorem dX0_about_84 : decode cX0_about 84 = .ok (.invokestatic 205, 3) := dk_184 0 205 (dk_at dksX0_about_3 12 rfl rfl)
theorem dX0_about_87 : decode cX0_about 87 = .ok (.invokevirtual 114, 3) := dk_182 0 114 (dk_at dksX0_about_3 15 rfl rfl)
theorem dX0_about_90 : decode cX0_about 90 = .ok (.ireturn, 1) := dk_172 (dk_at dksX0_about_3 18 rfl rfl)
theorem dX0_about_91 : decode cX0_about 91 = .ok (.iload_n 2, 1) := dk_28 (dk_at dksX0_about_3 19 rfl rfl)
theorem dX0_about_92 : decode cX0_about 92 = .ok (.iconst 3, 1) := dk_6 (dk_at dksX0_about_3 20 rfl rfl)
theorem dX0_about_93 : decode cX0_about 93 = .ok (.isub, 1) := dk_100 (dk_at dksX0_about_3 21 rfl rfl)
theorem dX0_about_94 : decode cX0_about 94 = .ok (.iconst 2, 1) := dk_5 (dk_at dksX0_about_3 22 rfl rfl)
theorem dX0_about_95 : decode cX0_about 95 = .ok (.idiv, 1) := dk_108 (dk_at dksX0_about_3 23 rfl rfl)
theorem dX0_about_96 : decode cX0_about 96 = .ok (.istore 4, 2) := dk_54 4 (dk_at dksX0_about_4 0 rfl rfl)
theorem dX0_about_98 : decode cX0_about 98 = .ok (.iload 4, 2) := dk_21 4 (dk_at dksX0_about_4 2 rfl rfl)
theorem dX0_about_100 : decode cX0_about 100 = .ok (.aload_n 3, 1) := dk_45 (dk_at dksX0_about_4 4 rfl rfl)
theorem dX0_about_101 : decode cX0_about 101 = .ok (.getfield 108, 3) := dk_180 0 108 (dk_at dksX0_about_4 5 rfl rfl)
theorem dX0_about_104 : decode cX0_about 104 = .ok (.if_icmp .lt 10, 3) := dk_161 0 10 (dk_at dksX0_about_4 8 rfl rfl)
theorem dX0_about_107 : decode cX0_about 107 = .ok (.aload_n 0, 1) := dk_42 (dk_at dksX0_about_4 11 rfl rfl)
theorem dX0_about_108 : decode cX0_about 108 = .ok (.bipush 9, 2) := dk_16 9 (dk_at dksX0_about_4 12 rfl rfl)
theorem dX0_about_110 : decode cX0_about 110 = .ok (.invokevirtual 47, 3) := dk_182 0 47 (dk_at dksX0_about_4 14 rfl rfl)
theorem dX0_about_113 : decode cX0_about 113 = .ok (.ireturn, 1) := dk_172 (dk_at dksX0_about_4 17 rfl rfl)
theorem dX0_about_114 : decode cX0_about 114 = .ok (.aload_n 0, 1) := dk_42 (dk_at dksX0_about_4 18 rfl rfl)
theorem dX0_about_115 : decode cX0_about 115 = .ok (.iload_n 2, 1) := dk_28 (dk_at dksX0_about_4 19 rfl rfl)
theorem dX0_about_116 : decode cX0_about 116 = .ok (.iconst 2, 1) := dk_5 (dk_at dksX0_about_4 20 rfl rfl)
theorem dX0_about_117 : decode cX0_about 117 = .ok (.irem, 1) := dk_112 (dk_at dksX0_about_4 21 rfl rfl)
theorem dX0_about_118 : decode cX0_about 118 = .ok (.iconst 1, 1) := dk_4 (dk_at dksX0_about_4 22 rfl rfl)
theorem dX0_about_119 : decode cX0_about 119 = .ok (.if_icmp .ne 13, 3) := dk_160 0 13 (dk_at dksX0_about_5 0 rfl rfl)
theorem dX0_about_122 : decode cX0_about 122 = .ok (.aload_n 3, 1) := dk_45 (dk_at dksX0_about_5 3 rfl rfl)
theorem dX0_about_123 : decode cX0_about 123 = .ok (.getfield 105, 3) := dk_180 0 105 (dk_at dksX0_about_5 4 rfl rfl)
theorem dX0_about_126 : decode cX0_about 126 = .ok (.iload 4, 2) := dk_21 4 (dk_at dksX0_about_5 7 rfl rfl)
theorem dX0_about_128 : decode cX0_about 128 = .ok (.iaload, 1) := dk_46 (dk_at dksX0_about_5 9 rfl rfl)
theorem dX0_about_129 : decode cX0_about 129 = .ok (.goto 10, 3) := dk_167 0 10 (dk_at dksX0_about_5 10 rfl rfl)
theorem dX0_about_132 : decode cX0_about 132 = .ok (.aload_n 3, 1) := dk_45 (dk_at dksX0_about_5 13 rfl rfl)
theorem dX0_about_133 : decode cX0_about 133 = .ok (.getfield 111, 3) := dk_180 0 111 (dk_at dksX0_about_5 14 rfl rfl)
theorem dX0_about_136 : decode cX0_about 136 = .ok (.iload 4, 2) := dk_21 4 (dk_at dksX0_about_5 17 rfl rfl)
theorem dX0_about_138 : decode cX0_about 138 = .ok (.iaload, 1) := dk_46 (dk_at dksX0_about_5 19 rfl rfl)
theorem dX0_about_139 : decode cX0_about 139 = .ok (.invokevirtual 114, 3) := dk_182 0 114 (dk_at dksX0_about_5 20 rfl rfl)
theorem dX0_about_142 : decode cX0_about 142 = .ok (.ireturn, 1) := dk_172 (dk_at dksX0_about_5 23 rfl rfl)
abbrev cX0_itemsOf : ByteArray := prog_1_method_41_code
def yX0_itemsOf : MethodName := ⟨RX0, "itemsOf", "(Ljava/lang/Object;)I"⟩
def dkwX0_itemsOf_2 : List UInt8 := [25, 5, 190, 96, 60, 132, 4, 1, 167, 255, 226, 27, 172]
abbrev dktX0_itemsOf_2 : List UInt8 := dkwX0_itemsOf_2 ++ []
def dkwX0_itemsOf_1 : List UInt8 := [54, 4, 21, 4, 29, 162, 0, 30, 44, 21, 4, 50, 58, 5, 27, 25, 5, 199, 0, 7, 3, 167, 0, 6]
abbrev dktX0_itemsOf_1 : List UInt8 := dkwX0_itemsOf_1 ++ dktX0_itemsOf_2
def dkwX0_itemsOf_0 : List UInt8 := [42, 193, 0, 58, 154, 0, 8, 42, 184, 0, 147, 172, 3, 60, 42, 192, 0, 58, 77, 44, 190, 62, 3]
abbrev dktX0_itemsOf_0 : List UInt8 := dkwX0_itemsOf_0 ++ dktX0_itemsOf_1
theorem dksX0_itemsOf_0 : cX0_itemsOf.data.toList.drop 0 = dktX0_itemsOf_0 := by decide +kernel
theorem dksX0_itemsOf_1 : cX0_itemsOf.data.toList.drop 23 = dktX0_itemsOf_1 := dk_seg dksX0_itemsOf_0 23 rfl rfl
theorem dksX0_itemsOf_2 : cX0_itemsOf.data.toList.drop 47 = dktX0_itemsOf_2 := dk_seg dksX0_itemsOf_1 24 rfl rfl
theorem dX0_itemsOf_0 : decode cX0_itemsOf 0 = .ok (.aload_n 0, 1) := dk_42 (dk_at dksX0_itemsOf_0 0 rfl rfl)
theorem dX0_itemsOf_1 : decode cX0_itemsOf 1 = .ok (.instanceof 58, 3) := dk_193 0 58 (dk_at dksX0_itemsOf_0 1 rfl rfl)
theorem dX0_itemsOf_4 : decode cX0_itemsOf 4 = .ok (.ifCond .ne 8, 3) := dk_154 0 8 (dk_at dksX0_itemsOf_0 4 rfl rfl)
theorem dX0_itemsOf_7 : decode cX0_itemsOf 7 = .ok (.aload_n 0, 1) := dk_42 (dk_at dksX0_itemsOf_0 7 rfl rfl)
theorem dX0_itemsOf_8 : decode cX0_itemsOf 8 = .ok (.invokestatic 147, 3) := dk_184 0 147 (dk_at dksX0_itemsOf_0 8 rfl rfl)
theorem dX0_itemsOf_11 : decode cX0_itemsOf 11 = .ok (.ireturn, 1) := dk_172 (dk_at dksX0_itemsOf_0 11 rfl rfl)
theorem dX0_itemsOf_12 : decode cX0_itemsOf 12 = .ok (.iconst 0, 1) := dk_3 (dk_at dksX0_itemsOf_0 12 rfl rfl)
theorem dX0_itemsOf_13 : decode cX0_itemsOf 13 = .ok (.istore_n 1, 1) := dk_60 (dk_at dksX0_itemsOf_0 13 rfl rfl)
theorem dX0_itemsOf_14 : decode cX0_itemsOf 14 = .ok (.aload_n 0, 1) := dk_42 (dk_at dksX0_itemsOf_0 14 rfl rfl)
theorem dX0_itemsOf_15 : decode cX0_itemsOf 15 = .ok (.checkcast 58, 3) := dk_192 0 58 (dk_at dksX0_itemsOf_0 15 rfl rfl)
theorem dX0_itemsOf_18 : decode cX0_itemsOf 18 = .ok (.astore_n 2, 1) := dk_77 (dk_at dksX0_itemsOf_0 18 rfl rfl)
theorem dX0_itemsOf_19 : decode cX0_itemsOf 19 = .ok (.aload_n 2, 1) := dk_44 (dk_at dksX0_itemsOf_0 19 rfl rfl)
theorem dX0_itemsOf_20 : decode cX0_itemsOf 20 = .ok (.arraylength, 1) := dk_190 (dk_at dksX0_itemsOf_0 20 rfl rfl)
theorem dX0_itemsOf_21 : decode cX0_itemsOf 21 = .ok (.istore_n 3, 1) := dk_62 (dk_at dksX0_itemsOf_0 21 rfl rfl)
theorem dX0_itemsOf_22 : decode cX0_itemsOf 22 = .ok (.iconst 0, 1) := dk_3 (dk_at dksX0_itemsOf_0 22 rfl rfl)
theorem dX0_itemsOf_23 : decode cX0_itemsOf 23 = .ok (.istore 4, 2) := dk_54 4 (dk_at dksX0_itemsOf_1 0 rfl rfl)
theorem dX0_itemsOf_25 : decode cX0_itemsOf 25 = .ok (.iload 4, 2) := dk_21 4 (dk_at dksX0_itemsOf_1 2 rfl rfl)
theorem dX0_itemsOf_27 : decode cX0_itemsOf 27 = .ok (.iload_n 3, 1) := dk_29 (dk_at dksX0_itemsOf_1 4 rfl rfl)
theorem dX0_itemsOf_28 : decode cX0_itemsOf 28 = .ok (.if_icmp .ge 30, 3) := dk_162 0 30 (dk_at dksX0_itemsOf_1 5 rfl rfl)
theorem dX0_itemsOf_31 : decode cX0_itemsOf 31 = .ok (.aload_n 2, 1) := dk_44 (dk_at dksX0_itemsOf_1 8 rfl rfl)
theorem dX0_itemsOf_32 : decode cX0_itemsOf 32 = .ok (.iload 4, 2) := dk_21 4 (dk_at dksX0_itemsOf_1 9 rfl rfl)
theorem dX0_itemsOf_34 : decode cX0_itemsOf 34 = .ok (.aaload, 1) := dk_50 (dk_at dksX0_itemsOf_1 11 rfl rfl)
theorem dX0_itemsOf_35 : decode cX0_itemsOf 35 = .ok (.astore 5, 2) := dk_58 5 (dk_at dksX0_itemsOf_1 12 rfl rfl)
theorem dX0_itemsOf_37 : decode cX0_itemsOf 37 = .ok (.iload_n 1, 1) := dk_27 (dk_at dksX0_itemsOf_1 14 rfl rfl)
theorem dX0_itemsOf_38 : decode cX0_itemsOf 38 = .ok (.aload 5, 2) := dk_25 5 (dk_at dksX0_itemsOf_1 15 rfl rfl)
theorem dX0_itemsOf_40 : decode cX0_itemsOf 40 = .ok (.ifnonnull 7, 3) := dk_199 0 7 (dk_at dksX0_itemsOf_1 17 rfl rfl)
theorem dX0_itemsOf_43 : decode cX0_itemsOf 43 = .ok (.iconst 0, 1) := dk_3 (dk_at dksX0_itemsOf_1 20 rfl rfl)
theorem dX0_itemsOf_44 : decode cX0_itemsOf 44 = .ok (.goto 6, 3) := dk_167 0 6 (dk_at dksX0_itemsOf_1 21 rfl rfl)
theorem dX0_itemsOf_47 : decode cX0_itemsOf 47 = .ok (.aload 5, 2) := dk_25 5 (dk_at dksX0_itemsOf_2 0 rfl rfl)
theorem dX0_itemsOf_49 : decode cX0_itemsOf 49 = .ok (.arraylength, 1) := dk_190 (dk_at dksX0_itemsOf_2 2 rfl rfl)
theorem dX0_itemsOf_50 : decode cX0_itemsOf 50 = .ok (.iadd, 1) := dk_96 (dk_at dksX0_itemsOf_2 3 rfl rfl)
theorem dX0_itemsOf_51 : decode cX0_itemsOf 51 = .ok (.istore_n 1, 1) := dk_60 (dk_at dksX0_itemsOf_2 4 rfl rfl)
theorem dX0_itemsOf_52 : decode cX0_itemsOf 52 = .ok (.iinc 4 1, 3) := dk_132 4 1 (dk_at dksX0_itemsOf_2 5 rfl rfl)
theorem dX0_itemsOf_55 : decode cX0_itemsOf 55 = .ok (.goto (-30), 3) := dk_167 255 226 (dk_at dksX0_itemsOf_2 8 rfl rfl)
theorem dX0_itemsOf_58 : decode cX0_itemsOf 58 = .ok (.iload_n 1, 1) := dk_27 (dk_at dksX0_itemsOf_2 11 rfl rfl)
theorem dX0_itemsOf_59 : decode cX0_itemsOf 59 = .ok (.ireturn, 1) := dk_172 (dk_at dksX0_itemsOf_2 12 rfl rfl)
abbrev cX0_same : ByteArray := prog_1_method_44_code
def yX0_same : MethodName := ⟨RX0, "same", "(II)I"⟩
def dkwX0_same_4 : List UInt8 := [4, 167, 0, 4, 3, 182, 0, 114, 172]
abbrev dktX0_same_4 : List UInt8 := dkwX0_same_4 ++ []
def dkwX0_same_3 : List UInt8 := [45, 192, 0, 58, 25, 4, 192, 0, 58, 184, 0, 208, 153, 0, 16, 167, 0, 9, 45, 25, 4, 166, 0, 7]
abbrev dktX0_same_3 : List UInt8 := dkwX0_same_3 ++ dktX0_same_4
def dkwX0_same_2 : List UInt8 := [153, 0, 15, 25, 4, 193, 0, 58, 153, 0, 7, 4, 167, 0, 4, 3, 54, 5, 42, 21, 5, 153, 0, 21]
abbrev dktX0_same_2 : List UInt8 := dkwX0_same_2 ++ dktX0_same_3
def dkwX0_same_1 : List UInt8 := [180, 0, 18, 27, 50, 180, 0, 101, 78, 42, 180, 0, 18, 28, 50, 180, 0, 101, 58, 4, 45, 193, 0, 58]
abbrev dktX0_same_1 : List UInt8 := dkwX0_same_1 ++ dktX0_same_2
def dkwX0_same_0 : List UInt8 := [42, 27, 182, 0, 143, 153, 0, 11, 42, 28, 182, 0, 143, 154, 0, 10, 42, 16, 7, 182, 0, 47, 172, 42]
abbrev dktX0_same_0 : List UInt8 := dkwX0_same_0 ++ dktX0_same_1
theorem dksX0_same_0 : cX0_same.data.toList.drop 0 = dktX0_same_0 := by decide +kernel
theorem dksX0_same_1 : cX0_same.data.toList.drop 24 = dktX0_same_1 := dk_seg dksX0_same_0 24 rfl rfl
theorem dksX0_same_2 : cX0_same.data.toList.drop 48 = dktX0_same_2 := dk_seg dksX0_same_1 24 rfl rfl
theorem dksX0_same_3 : cX0_same.data.toList.drop 72 = dktX0_same_3 := dk_seg dksX0_same_2 24 rfl rfl
theorem dksX0_same_4 : cX0_same.data.toList.drop 96 = dktX0_same_4 := dk_seg dksX0_same_3 24 rfl rfl
theorem dX0_same_0 : decode cX0_same 0 = .ok (.aload_n 0, 1) := dk_42 (dk_at dksX0_same_0 0 rfl rfl)
theorem dX0_same_1 : decode cX0_same 1 = .ok (.iload_n 1, 1) := dk_27 (dk_at dksX0_same_0 1 rfl rfl)
theorem dX0_same_2 : decode cX0_same 2 = .ok (.invokevirtual 143, 3) := dk_182 0 143 (dk_at dksX0_same_0 2 rfl rfl)
theorem dX0_same_5 : decode cX0_same 5 = .ok (.ifCond .eq 11, 3) := dk_153 0 11 (dk_at dksX0_same_0 5 rfl rfl)
theorem dX0_same_8 : decode cX0_same 8 = .ok (.aload_n 0, 1) := dk_42 (dk_at dksX0_same_0 8 rfl rfl)
theorem dX0_same_9 : decode cX0_same 9 = .ok (.iload_n 2, 1) := dk_28 (dk_at dksX0_same_0 9 rfl rfl)
theorem dX0_same_10 : decode cX0_same 10 = .ok (.invokevirtual 143, 3) := dk_182 0 143 (dk_at dksX0_same_0 10 rfl rfl)
theorem dX0_same_13 : decode cX0_same 13 = .ok (.ifCond .ne 10, 3) := dk_154 0 10 (dk_at dksX0_same_0 13 rfl rfl)
theorem dX0_same_16 : decode cX0_same 16 = .ok (.aload_n 0, 1) := dk_42 (dk_at dksX0_same_0 16 rfl rfl)
theorem dX0_same_17 : decode cX0_same 17 = .ok (.bipush 7, 2) := dk_16 7 (dk_at dksX0_same_0 17 rfl rfl)
theorem dX0_same_19 : decode cX0_same 19 = .ok (.invokevirtual 47, 3) := dk_182 0 47 (dk_at dksX0_same_0 19 rfl rfl)
theorem dX0_same_22 : decode cX0_same 22 = .ok (.ireturn, 1) := dk_172 (dk_at dksX0_same_0 22 rfl rfl)
theorem dX0_same_23 : decode cX0_same 23 = .ok (.aload_n 0, 1) := dk_42 (dk_at dksX0_same_0 23 rfl rfl)
theorem dX0_same_24 : decode cX0_same 24 = .ok (.getfield 18, 3) := dk_180 0 18 (dk_at dksX0_same_1 0 rfl rfl)
theorem dX0_same_27 : decode cX0_same 27 = .ok (.iload_n 1, 1) := dk_27 (dk_at dksX0_same_1 3 rfl rfl)
theorem dX0_same_28 : decode cX0_same 28 = .ok (.aaload, 1) := dk_50 (dk_at dksX0_same_1 4 rfl rfl)
theorem dX0_same_29 : decode cX0_same 29 = .ok (.getfield 101, 3) := dk_180 0 101 (dk_at dksX0_same_1 5 rfl rfl)
theorem dX0_same_32 : decode cX0_same 32 = .ok (.astore_n 3, 1) := dk_78 (dk_at dksX0_same_1 8 rfl rfl)
theorem dX0_same_33 : decode cX0_same 33 = .ok (.aload_n 0, 1) := dk_42 (dk_at dksX0_same_1 9 rfl rfl)
theorem dX0_same_34 : decode cX0_same 34 = .ok (.getfield 18, 3) := dk_180 0 18 (dk_at dksX0_same_1 10 rfl rfl)
theorem dX0_same_37 : decode cX0_same 37 = .ok (.iload_n 2, 1) := dk_28 (dk_at dksX0_same_1 13 rfl rfl)
theorem dX0_same_38 : decode cX0_same 38 = .ok (.aaload, 1) := dk_50 (dk_at dksX0_same_1 14 rfl rfl)
theorem dX0_same_39 : decode cX0_same 39 = .ok (.getfield 101, 3) := dk_180 0 101 (dk_at dksX0_same_1 15 rfl rfl)
theorem dX0_same_42 : decode cX0_same 42 = .ok (.astore 4, 2) := dk_58 4 (dk_at dksX0_same_1 18 rfl rfl)
theorem dX0_same_44 : decode cX0_same 44 = .ok (.aload_n 3, 1) := dk_45 (dk_at dksX0_same_1 20 rfl rfl)
theorem dX0_same_45 : decode cX0_same 45 = .ok (.instanceof 58, 3) := dk_193 0 58 (dk_at dksX0_same_1 21 rfl rfl)
theorem dX0_same_48 : decode cX0_same 48 = .ok (.ifCond .eq 15, 3) := dk_153 0 15 (dk_at dksX0_same_2 0 rfl rfl)
theorem dX0_same_51 : decode cX0_same 51 = .ok (.aload 4, 2) := dk_25 4 (dk_at dksX0_same_2 3 rfl rfl)
theorem dX0_same_53 : decode cX0_same 53 = .ok (.instanceof 58, 3) := dk_193 0 58 (dk_at dksX0_same_2 5 rfl rfl)
theorem dX0_same_56 : decode cX0_same 56 = .ok (.ifCond .eq 7, 3) := dk_153 0 7 (dk_at dksX0_same_2 8 rfl rfl)
theorem dX0_same_59 : decode cX0_same 59 = .ok (.iconst 1, 1) := dk_4 (dk_at dksX0_same_2 11 rfl rfl)
theorem dX0_same_60 : decode cX0_same 60 = .ok (.goto 4, 3) := dk_167 0 4 (dk_at dksX0_same_2 12 rfl rfl)
theorem dX0_same_63 : decode cX0_same 63 = .ok (.iconst 0, 1) := dk_3 (dk_at dksX0_same_2 15 rfl rfl)
theorem dX0_same_64 : decode cX0_same 64 = .ok (.istore 5, 2) := dk_54 5 (dk_at dksX0_same_2 16 rfl rfl)
theorem dX0_same_66 : decode cX0_same 66 = .ok (.aload_n 0, 1) := dk_42 (dk_at dksX0_same_2 18 rfl rfl)
theorem dX0_same_67 : decode cX0_same 67 = .ok (.iload 5, 2) := dk_21 5 (dk_at dksX0_same_2 19 rfl rfl)
theorem dX0_same_69 : decode cX0_same 69 = .ok (.ifCond .eq 21, 3) := dk_153 0 21 (dk_at dksX0_same_2 21 rfl rfl)
theorem dX0_same_72 : decode cX0_same 72 = .ok (.aload_n 3, 1) := dk_45 (dk_at dksX0_same_3 0 rfl rfl)
theorem dX0_same_73 : decode cX0_same 73 = .ok (.checkcast 58, 3) := dk_192 0 58 (dk_at dksX0_same_3 1 rfl rfl)
theorem dX0_same_76 : decode cX0_same 76 = .ok (.aload 4, 2) := dk_25 4 (dk_at dksX0_same_3 4 rfl rfl)
theorem dX0_same_78 : decode cX0_same 78 = .ok (.checkcast 58, 3) := dk_192 0 58 (dk_at dksX0_same_3 6 rfl rfl)
theorem dX0_same_81 : decode cX0_same 81 = .ok (.invokestatic 208, 3) := dk_184 0 208 (dk_at dksX0_same_3 9 rfl rfl)
theorem dX0_same_84 : decode cX0_same 84 = .ok (.ifCond .eq 16, 3) := dk_153 0 16 (dk_at dksX0_same_3 12 rfl rfl)
theorem dX0_same_87 : decode cX0_same 87 = .ok (.goto 9, 3) := dk_167 0 9 (dk_at dksX0_same_3 15 rfl rfl)
theorem dX0_same_90 : decode cX0_same 90 = .ok (.aload_n 3, 1) := dk_45 (dk_at dksX0_same_3 18 rfl rfl)
theorem dX0_same_91 : decode cX0_same 91 = .ok (.aload 4, 2) := dk_25 4 (dk_at dksX0_same_3 19 rfl rfl)
theorem dX0_same_93 : decode cX0_same 93 = .ok (.if_acmp .ne 7, 3) := dk_166 0 7 (dk_at dksX0_same_3 21 rfl rfl)
theorem dX0_same_96 : decode cX0_same 96 = .ok (.iconst 1, 1) := dk_4 (dk_at dksX0_same_4 0 rfl rfl)
theorem dX0_same_97 : decode cX0_same 97 = .ok (.goto 4, 3) := dk_167 0 4 (dk_at dksX0_same_4 1 rfl rfl)
theorem dX0_same_100 : decode cX0_same 100 = .ok (.iconst 0, 1) := dk_3 (dk_at dksX0_same_4 4 rfl rfl)
theorem dX0_same_101 : decode cX0_same 101 = .ok (.invokevirtual 114, 3) := dk_182 0 114 (dk_at dksX0_same_4 5 rfl rfl)
theorem dX0_same_104 : decode cX0_same 104 = .ok (.ireturn, 1) := dk_172 (dk_at dksX0_same_4 8 rfl rfl)
abbrev cX0_sameRows : ByteArray := prog_1_method_43_code
def yX0_sameRows : MethodName := ⟨RX0, "sameRows", "([[I[[I)Z"⟩
def dkwX0_sameRows_2 : List UInt8 := [28, 172]
abbrev dktX0_sameRows_2 : List UInt8 := dkwX0_sameRows_2 ++ []
def dkwX0_sameRows_1 : List UInt8 := [162, 0, 24, 42, 29, 50, 43, 29, 50, 166, 0, 7, 4, 167, 0, 4, 3, 61, 132, 3, 1, 167, 255, 228]
abbrev dktX0_sameRows_1 : List UInt8 := dkwX0_sameRows_1 ++ dktX0_sameRows_2
def dkwX0_sameRows_0 : List UInt8 := [42, 190, 43, 190, 160, 0, 7, 4, 167, 0, 4, 3, 61, 3, 62, 28, 153, 0, 30, 29, 42, 190]
abbrev dktX0_sameRows_0 : List UInt8 := dkwX0_sameRows_0 ++ dktX0_sameRows_1
theorem dksX0_sameRows_0 : cX0_sameRows.data.toList.drop 0 = dktX0_sameRows_0 := by decide +kernel
theorem dksX0_sameRows_1 : cX0_sameRows.data.toList.drop 22 = dktX0_sameRows_1 := dk_seg dksX0_sameRows_0 22 rfl rfl
theorem dksX0_sameRows_2 : cX0_sameRows.data.toList.drop 46 = dktX0_sameRows_2 := dk_seg dksX0_sameRows_1 24 rfl rfl
theorem dX0_sameRows_0 : decode cX0_sameRows 0 = .ok (.aload_n 0, 1) := dk_42 (dk_at dksX0_sameRows_0 0 rfl rfl)
theorem dX0_sameRows_1 : decode cX0_sameRows 1 = .ok (.arraylength, 1) := dk_190 (dk_at dksX0_sameRows_0 1 rfl rfl)
theorem dX0_sameRows_2 : decode cX0_sameRows 2 = .ok (.aload_n 1, 1) := dk_43 (dk_at dksX0_sameRows_0 2 rfl rfl)
theorem dX0_sameRows_3 : decode cX0_sameRows 3 = .ok (.arraylength, 1) := dk_190 (dk_at dksX0_sameRows_0 3 rfl rfl)
theorem dX0_sameRows_4 : decode cX0_sameRows 4 = .ok (.if_icmp .ne 7, 3) := dk_160 0 7 (dk_at dksX0_sameRows_0 4 rfl rfl)
theorem dX0_sameRows_7 : decode cX0_sameRows 7 = .ok (.iconst 1, 1) := dk_4 (dk_at dksX0_sameRows_0 7 rfl rfl)
theorem dX0_sameRows_8 : decode cX0_sameRows 8 = .ok (.goto 4, 3) := dk_167 0 4 (dk_at dksX0_sameRows_0 8 rfl rfl)
theorem dX0_sameRows_11 : decode cX0_sameRows 11 = .ok (.iconst 0, 1) := dk_3 (dk_at dksX0_sameRows_0 11 rfl rfl)
theorem dX0_sameRows_12 : decode cX0_sameRows 12 = .ok (.istore_n 2, 1) := dk_61 (dk_at dksX0_sameRows_0 12 rfl rfl)
theorem dX0_sameRows_13 : decode cX0_sameRows 13 = .ok (.iconst 0, 1) := dk_3 (dk_at dksX0_sameRows_0 13 rfl rfl)
theorem dX0_sameRows_14 : decode cX0_sameRows 14 = .ok (.istore_n 3, 1) := dk_62 (dk_at dksX0_sameRows_0 14 rfl rfl)
theorem dX0_sameRows_15 : decode cX0_sameRows 15 = .ok (.iload_n 2, 1) := dk_28 (dk_at dksX0_sameRows_0 15 rfl rfl)
theorem dX0_sameRows_16 : decode cX0_sameRows 16 = .ok (.ifCond .eq 30, 3) := dk_153 0 30 (dk_at dksX0_sameRows_0 16 rfl rfl)
theorem dX0_sameRows_19 : decode cX0_sameRows 19 = .ok (.iload_n 3, 1) := dk_29 (dk_at dksX0_sameRows_0 19 rfl rfl)
theorem dX0_sameRows_20 : decode cX0_sameRows 20 = .ok (.aload_n 0, 1) := dk_42 (dk_at dksX0_sameRows_0 20 rfl rfl)
theorem dX0_sameRows_21 : decode cX0_sameRows 21 = .ok (.arraylength, 1) := dk_190 (dk_at dksX0_sameRows_0 21 rfl rfl)
theorem dX0_sameRows_22 : decode cX0_sameRows 22 = .ok (.if_icmp .ge 24, 3) := dk_162 0 24 (dk_at dksX0_sameRows_1 0 rfl rfl)
theorem dX0_sameRows_25 : decode cX0_sameRows 25 = .ok (.aload_n 0, 1) := dk_42 (dk_at dksX0_sameRows_1 3 rfl rfl)
theorem dX0_sameRows_26 : decode cX0_sameRows 26 = .ok (.iload_n 3, 1) := dk_29 (dk_at dksX0_sameRows_1 4 rfl rfl)
theorem dX0_sameRows_27 : decode cX0_sameRows 27 = .ok (.aaload, 1) := dk_50 (dk_at dksX0_sameRows_1 5 rfl rfl)
theorem dX0_sameRows_28 : decode cX0_sameRows 28 = .ok (.aload_n 1, 1) := dk_43 (dk_at dksX0_sameRows_1 6 rfl rfl)
theorem dX0_sameRows_29 : decode cX0_sameRows 29 = .ok (.iload_n 3, 1) := dk_29 (dk_at dksX0_sameRows_1 7 rfl rfl)
theorem dX0_sameRows_30 : decode cX0_sameRows 30 = .ok (.aaload, 1) := dk_50 (dk_at dksX0_sameRows_1 8 rfl rfl)
theorem dX0_sameRows_31 : decode cX0_sameRows 31 = .ok (.if_acmp .ne 7, 3) := dk_166 0 7 (dk_at dksX0_sameRows_1 9 rfl rfl)
theorem dX0_sameRows_34 : decode cX0_sameRows 34 = .ok (.iconst 1, 1) := dk_4 (dk_at dksX0_sameRows_1 12 rfl rfl)
theorem dX0_sameRows_35 : decode cX0_sameRows 35 = .ok (.goto 4, 3) := dk_167 0 4 (dk_at dksX0_sameRows_1 13 rfl rfl)
theorem dX0_sameRows_38 : decode cX0_sameRows 38 = .ok (.iconst 0, 1) := dk_3 (dk_at dksX0_sameRows_1 16 rfl rfl)
theorem dX0_sameRows_39 : decode cX0_sameRows 39 = .ok (.istore_n 2, 1) := dk_61 (dk_at dksX0_sameRows_1 17 rfl rfl)
theorem dX0_sameRows_40 : decode cX0_sameRows 40 = .ok (.iinc 3 1, 3) := dk_132 3 1 (dk_at dksX0_sameRows_1 18 rfl rfl)
theorem dX0_sameRows_43 : decode cX0_sameRows 43 = .ok (.goto (-28), 3) := dk_167 255 228 (dk_at dksX0_sameRows_1 21 rfl rfl)
theorem dX0_sameRows_46 : decode cX0_sameRows 46 = .ok (.iload_n 2, 1) := dk_28 (dk_at dksX0_sameRows_2 0 rfl rfl)
theorem dX0_sameRows_47 : decode cX0_sameRows 47 = .ok (.ireturn, 1) := dk_172 (dk_at dksX0_sameRows_2 1 rfl rfl)
abbrev cX0_compare : ByteArray := prog_1_method_45_code
def yX0_compare : MethodName := ⟨RX0, "compare", "(II)I"⟩
def dkwX0_compare_6 : List UInt8 := [2, 167, 0, 19, 4, 167, 0, 15, 45, 184, 0, 147, 25, 4, 184, 0, 147, 184, 0, 215, 182, 0, 114, 172]
abbrev dktX0_compare_6 : List UInt8 := dkwX0_compare_6 ++ []
def dkwX0_compare_5 : List UInt8 := [21, 6, 21, 5, 162, 0, 28, 45, 21, 6, 184, 0, 84, 25, 4, 21, 6, 184, 0, 84, 148, 156, 0, 7]
abbrev dktX0_compare_5 : List UInt8 := dkwX0_compare_5 ++ dktX0_compare_6
def dkwX0_compare_4 : List UInt8 := [21, 6, 184, 0, 84, 25, 4, 21, 6, 184, 0, 84, 148, 154, 0, 9, 132, 6, 1, 167, 255, 229, 42]
abbrev dktX0_compare_4 : List UInt8 := dkwX0_compare_4 ++ dktX0_compare_5
def dkwX0_compare_3 : List UInt8 := [184, 0, 147, 25, 4, 184, 0, 147, 184, 0, 212, 54, 5, 3, 54, 6, 21, 6, 21, 5, 162, 0, 26, 45]
abbrev dktX0_compare_3 : List UInt8 := dkwX0_compare_3 ++ dktX0_compare_4
def dkwX0_compare_2 : List UInt8 := [6, 162, 0, 15, 45, 184, 0, 62, 25, 4, 184, 0, 62, 159, 0, 9, 42, 5, 182, 0, 47, 172, 45]
abbrev dktX0_compare_2 : List UInt8 := dkwX0_compare_2 ++ dktX0_compare_3
def dkwX0_compare_1 : List UInt8 := [180, 0, 18, 27, 50, 180, 0, 101, 78, 42, 180, 0, 18, 28, 50, 180, 0, 101, 58, 4, 45, 184, 0, 62]
abbrev dktX0_compare_1 : List UInt8 := dkwX0_compare_1 ++ dktX0_compare_2
def dkwX0_compare_0 : List UInt8 := [42, 27, 182, 0, 143, 153, 0, 11, 42, 28, 182, 0, 143, 154, 0, 10, 42, 16, 7, 182, 0, 47, 172, 42]
abbrev dktX0_compare_0 : List UInt8 := dkwX0_compare_0 ++ dktX0_compare_1
theorem dksX0_compare_0 : cX0_compare.data.toList.drop 0 = dktX0_compare_0 := by decide +kernel
theorem dksX0_compare_1 : cX0_compare.data.toList.drop 24 = dktX0_compare_1 := dk_seg dksX0_compare_0 24 rfl rfl
theorem dksX0_compare_2 : cX0_compare.data.toList.drop 48 = dktX0_compare_2 := dk_seg dksX0_compare_1 24 rfl rfl
theorem dksX0_compare_3 : cX0_compare.data.toList.drop 71 = dktX0_compare_3 := dk_seg dksX0_compare_2 23 rfl rfl
theorem dksX0_compare_4 : cX0_compare.data.toList.drop 95 = dktX0_compare_4 := dk_seg dksX0_compare_3 24 rfl rfl
theorem dksX0_compare_5 : cX0_compare.data.toList.drop 118 = dktX0_compare_5 := dk_seg dksX0_compare_4 23 rfl rfl
theorem dksX0_compare_6 : cX0_compare.data.toList.drop 142 = dktX0_compare_6 := dk_seg dksX0_compare_5 24 rfl rfl
theorem dX0_compare_0 : decode cX0_compare 0 = .ok (.aload_n 0, 1) := dk_42 (dk_at dksX0_compare_0 0 rfl rfl)
theorem dX0_compare_1 : decode cX0_compare 1 = .ok (.iload_n 1, 1) := dk_27 (dk_at dksX0_compare_0 1 rfl rfl)
theorem dX0_compare_2 : decode cX0_compare 2 = .ok (.invokevirtual 143, 3) := dk_182 0 143 (dk_at dksX0_compare_0 2 rfl rfl)
theorem dX0_compare_5 : decode cX0_compare 5 = .ok (.ifCond .eq 11, 3) := dk_153 0 11 (dk_at dksX0_compare_0 5 rfl rfl)
theorem dX0_compare_8 : decode cX0_compare 8 = .ok (.aload_n 0, 1) := dk_42 (dk_at dksX0_compare_0 8 rfl rfl)
theorem dX0_compare_9 : decode cX0_compare 9 = .ok (.iload_n 2, 1) := dk_28 (dk_at dksX0_compare_0 9 rfl rfl)
theorem dX0_compare_10 : decode cX0_compare 10 = .ok (.invokevirtual 143, 3) := dk_182 0 143 (dk_at dksX0_compare_0 10 rfl rfl)
theorem dX0_compare_13 : decode cX0_compare 13 = .ok (.ifCond .ne 10, 3) := dk_154 0 10 (dk_at dksX0_compare_0 13 rfl rfl)
theorem dX0_compare_16 : decode cX0_compare 16 = .ok (.aload_n 0, 1) := dk_42 (dk_at dksX0_compare_0 16 rfl rfl)
theorem dX0_compare_17 : decode cX0_compare 17 = .ok (.bipush 7, 2) := dk_16 7 (dk_at dksX0_compare_0 17 rfl rfl)
theorem dX0_compare_19 : decode cX0_compare 19 = .ok (.invokevirtual 47, 3) := dk_182 0 47 (dk_at dksX0_compare_0 19 rfl rfl)
theorem dX0_compare_22 : decode cX0_compare 22 = .ok (.ireturn, 1) := dk_172 (dk_at dksX0_compare_0 22 rfl rfl)
theorem dX0_compare_23 : decode cX0_compare 23 = .ok (.aload_n 0, 1) := dk_42 (dk_at dksX0_compare_0 23 rfl rfl)
theorem dX0_compare_24 : decode cX0_compare 24 = .ok (.getfield 18, 3) := dk_180 0 18 (dk_at dksX0_compare_1 0 rfl rfl)
theorem dX0_compare_27 : decode cX0_compare 27 = .ok (.iload_n 1, 1) := dk_27 (dk_at dksX0_compare_1 3 rfl rfl)
theorem dX0_compare_28 : decode cX0_compare 28 = .ok (.aaload, 1) := dk_50 (dk_at dksX0_compare_1 4 rfl rfl)
theorem dX0_compare_29 : decode cX0_compare 29 = .ok (.getfield 101, 3) := dk_180 0 101 (dk_at dksX0_compare_1 5 rfl rfl)
theorem dX0_compare_32 : decode cX0_compare 32 = .ok (.astore_n 3, 1) := dk_78 (dk_at dksX0_compare_1 8 rfl rfl)
theorem dX0_compare_33 : decode cX0_compare 33 = .ok (.aload_n 0, 1) := dk_42 (dk_at dksX0_compare_1 9 rfl rfl)
theorem dX0_compare_34 : decode cX0_compare 34 = .ok (.getfield 18, 3) := dk_180 0 18 (dk_at dksX0_compare_1 10 rfl rfl)
theorem dX0_compare_37 : decode cX0_compare 37 = .ok (.iload_n 2, 1) := dk_28 (dk_at dksX0_compare_1 13 rfl rfl)
theorem dX0_compare_38 : decode cX0_compare 38 = .ok (.aaload, 1) := dk_50 (dk_at dksX0_compare_1 14 rfl rfl)
theorem dX0_compare_39 : decode cX0_compare 39 = .ok (.getfield 101, 3) := dk_180 0 101 (dk_at dksX0_compare_1 15 rfl rfl)
theorem dX0_compare_42 : decode cX0_compare 42 = .ok (.astore 4, 2) := dk_58 4 (dk_at dksX0_compare_1 18 rfl rfl)
theorem dX0_compare_44 : decode cX0_compare 44 = .ok (.aload_n 3, 1) := dk_45 (dk_at dksX0_compare_1 20 rfl rfl)
theorem dX0_compare_45 : decode cX0_compare 45 = .ok (.invokestatic 62, 3) := dk_184 0 62 (dk_at dksX0_compare_1 21 rfl rfl)
theorem dX0_compare_48 : decode cX0_compare 48 = .ok (.iconst 3, 1) := dk_6 (dk_at dksX0_compare_2 0 rfl rfl)
theorem dX0_compare_49 : decode cX0_compare 49 = .ok (.if_icmp .ge 15, 3) := dk_162 0 15 (dk_at dksX0_compare_2 1 rfl rfl)
theorem dX0_compare_52 : decode cX0_compare 52 = .ok (.aload_n 3, 1) := dk_45 (dk_at dksX0_compare_2 4 rfl rfl)
theorem dX0_compare_53 : decode cX0_compare 53 = .ok (.invokestatic 62, 3) := dk_184 0 62 (dk_at dksX0_compare_2 5 rfl rfl)
theorem dX0_compare_56 : decode cX0_compare 56 = .ok (.aload 4, 2) := dk_25 4 (dk_at dksX0_compare_2 8 rfl rfl)
theorem dX0_compare_58 : decode cX0_compare 58 = .ok (.invokestatic 62, 3) := dk_184 0 62 (dk_at dksX0_compare_2 10 rfl rfl)
theorem dX0_compare_61 : decode cX0_compare 61 = .ok (.if_icmp .eq 9, 3) := dk_159 0 9 (dk_at dksX0_compare_2 13 rfl rfl)
theorem dX0_compare_64 : decode cX0_compare 64 = .ok (.aload_n 0, 1) := dk_42 (dk_at dksX0_compare_2 16 rfl rfl)
theorem dX0_compare_65 : decode cX0_compare 65 = .ok (.iconst 2, 1) := dk_5 (dk_at dksX0_compare_2 17 rfl rfl)
theorem dX0_compare_66 : decode cX0_compare 66 = .ok (.invokevirtual 47, 3) := dk_182 0 47 (dk_at dksX0_compare_2 18 rfl rfl)
theorem dX0_compare_69 : decode cX0_compare 69 = .ok (.ireturn, 1) := dk_172 (dk_at dksX0_compare_2 21 rfl rfl)
theorem dX0_compare_70 : decode cX0_compare 70 = .ok (.aload_n 3, 1) := dk_45 (dk_at dksX0_compare_2 22 rfl rfl)
theorem dX0_compare_71 : decode cX0_compare 71 = .ok (.invokestatic 147, 3) := dk_184 0 147 (dk_at dksX0_compare_3 0 rfl rfl)
theorem dX0_compare_74 : decode cX0_compare 74 = .ok (.aload 4, 2) := dk_25 4 (dk_at dksX0_compare_3 3 rfl rfl)
theorem dX0_compare_76 : decode cX0_compare 76 = .ok (.invokestatic 147, 3) := dk_184 0 147 (dk_at dksX0_compare_3 5 rfl rfl)
theorem dX0_compare_79 : decode cX0_compare 79 = .ok (.invokestatic 212, 3) := dk_184 0 212 (dk_at dksX0_compare_3 8 rfl rfl)
theorem dX0_compare_82 : decode cX0_compare 82 = .ok (.istore 5, 2) := dk_54 5 (dk_at dksX0_compare_3 11 rfl rfl)
theorem dX0_compare_84 : decode cX0_compare 84 = .ok (.iconst 0, 1) := dk_3 (dk_at dksX0_compare_3 13 rfl rfl)
theorem dX0_compare_85 : decode cX0_compare 85 = .ok (.istore 6, 2) := dk_54 6 (dk_at dksX0_compare_3 14 rfl rfl)
theorem dX0_compare_87 : decode cX0_compare 87 = .ok (.iload 6, 2) := dk_21 6 (dk_at dksX0_compare_3 16 rfl rfl)
theorem dX0_compare_89 : decode cX0_compare 89 = .ok (.iload 5, 2) := dk_21 5 (dk_at dksX0_compare_3 18 rfl rfl)
theorem dX0_compare_91 : decode cX0_compare 91 = .ok (.if_icmp .ge 26, 3) := dk_162 0 26 (dk_at dksX0_compare_3 20 rfl rfl)
theorem dX0_compare_94 : decode cX0_compare 94 = .ok (.aload_n 3, 1) := dk_45 (dk_at dksX0_compare_3 23 rfl rfl)
theorem dX0_compare_95 : decode cX0_compare 95 = .ok (.iload 6, 2) := dk_21 6 (dk_at dksX0_compare_4 0 rfl rfl)
theorem dX0_compare_97 : decode cX0_compare 97 = .ok (.invokestatic 84, 3) := dk_184 0 84 (dk_at dksX0_compare_4 2 rfl rfl)
theorem dX0_compare_100 : decode cX0_compare 100 = .ok (.aload 4, 2) := dk_25 4 (dk_at dksX0_compare_4 5 rfl rfl)
theorem dX0_compare_102 : decode cX0_compare 102 = .ok (.iload 6, 2) := dk_21 6 (dk_at dksX0_compare_4 7 rfl rfl)
theorem dX0_compare_104 : decode cX0_compare 104 = .ok (.invokestatic 84, 3) := dk_184 0 84 (dk_at dksX0_compare_4 9 rfl rfl)
theorem dX0_compare_107 : decode cX0_compare 107 = .ok (.lcmp, 1) := dk_148 (dk_at dksX0_compare_4 12 rfl rfl)
theorem dX0_compare_108 : decode cX0_compare 108 = .ok (.ifCond .ne 9, 3) := dk_154 0 9 (dk_at dksX0_compare_4 13 rfl rfl)
theorem dX0_compare_111 : decode cX0_compare 111 = .ok (.iinc 6 1, 3) := dk_132 6 1 (dk_at dksX0_compare_4 16 rfl rfl)
theorem dX0_compare_114 : decode cX0_compare 114 = .ok (.goto (-27), 3) := dk_167 255 229 (dk_at dksX0_compare_4 19 rfl rfl)
theorem dX0_compare_117 : decode cX0_compare 117 = .ok (.aload_n 0, 1) := dk_42 (dk_at dksX0_compare_4 22 rfl rfl)
theorem dX0_compare_118 : decode cX0_compare 118 = .ok (.iload 6, 2) := dk_21 6 (dk_at dksX0_compare_5 0 rfl rfl)
theorem dX0_compare_120 : decode cX0_compare 120 = .ok (.iload 5, 2) := dk_21 5 (dk_at dksX0_compare_5 2 rfl rfl)
theorem dX0_compare_122 : decode cX0_compare 122 = .ok (.if_icmp .ge 28, 3) := dk_162 0 28 (dk_at dksX0_compare_5 4 rfl rfl)
theorem dX0_compare_125 : decode cX0_compare 125 = .ok (.aload_n 3, 1) := dk_45 (dk_at dksX0_compare_5 7 rfl rfl)
theorem dX0_compare_126 : decode cX0_compare 126 = .ok (.iload 6, 2) := dk_21 6 (dk_at dksX0_compare_5 8 rfl rfl)
theorem dX0_compare_128 : decode cX0_compare 128 = .ok (.invokestatic 84, 3) := dk_184 0 84 (dk_at dksX0_compare_5 10 rfl rfl)
theorem dX0_compare_131 : decode cX0_compare 131 = .ok (.aload 4, 2) := dk_25 4 (dk_at dksX0_compare_5 13 rfl rfl)
theorem dX0_compare_133 : decode cX0_compare 133 = .ok (.iload 6, 2) := dk_21 6 (dk_at dksX0_compare_5 15 rfl rfl)
theorem dX0_compare_135 : decode cX0_compare 135 = .ok (.invokestatic 84, 3) := dk_184 0 84 (dk_at dksX0_compare_5 17 rfl rfl)
theorem dX0_compare_138 : decode cX0_compare 138 = .ok (.lcmp, 1) := dk_148 (dk_at dksX0_compare_5 20 rfl rfl)
theorem dX0_compare_139 : decode cX0_compare 139 = .ok (.ifCond .ge 7, 3) := dk_156 0 7 (dk_at dksX0_compare_5 21 rfl rfl)
theorem dX0_compare_142 : decode cX0_compare 142 = .ok (.iconst (-1), 1) := dk_2 (dk_at dksX0_compare_6 0 rfl rfl)
theorem dX0_compare_143 : decode cX0_compare 143 = .ok (.goto 19, 3) := dk_167 0 19 (dk_at dksX0_compare_6 1 rfl rfl)
theorem dX0_compare_146 : decode cX0_compare 146 = .ok (.iconst 1, 1) := dk_4 (dk_at dksX0_compare_6 4 rfl rfl)
theorem dX0_compare_147 : decode cX0_compare 147 = .ok (.goto 15, 3) := dk_167 0 15 (dk_at dksX0_compare_6 5 rfl rfl)
theorem dX0_compare_150 : decode cX0_compare 150 = .ok (.aload_n 3, 1) := dk_45 (dk_at dksX0_compare_6 8 rfl rfl)
theorem dX0_compare_151 : decode cX0_compare 151 = .ok (.invokestatic 147, 3) := dk_184 0 147 (dk_at dksX0_compare_6 9 rfl rfl)
theorem dX0_compare_154 : decode cX0_compare 154 = .ok (.aload 4, 2) := dk_25 4 (dk_at dksX0_compare_6 12 rfl rfl)
theorem dX0_compare_156 : decode cX0_compare 156 = .ok (.invokestatic 147, 3) := dk_184 0 147 (dk_at dksX0_compare_6 14 rfl rfl)
theorem dX0_compare_159 : decode cX0_compare 159 = .ok (.invokestatic 215, 3) := dk_184 0 215 (dk_at dksX0_compare_6 17 rfl rfl)
theorem dX0_compare_162 : decode cX0_compare 162 = .ok (.invokevirtual 114, 3) := dk_182 0 114 (dk_at dksX0_compare_6 20 rfl rfl)
theorem dX0_compare_165 : decode cX0_compare 165 = .ok (.ireturn, 1) := dk_172 (dk_at dksX0_compare_6 23 rfl rfl)
abbrev cX0_clear : ByteArray := prog_1_method_46_code
def yX0_clear : MethodName := ⟨RX0, "clear", "()I"⟩
def dkwX0_clear_2 : List UInt8 := [181, 0, 192, 42, 3, 181, 0, 44, 42, 2, 181, 0, 22, 27, 172]
abbrev dktX0_clear_2 : List UInt8 := dkwX0_clear_2 ++ []
def dkwX0_clear_1 : List UInt8 := [181, 0, 101, 132, 2, 1, 167, 255, 235, 42, 3, 181, 0, 51, 42, 180, 0, 10, 3, 181, 0, 108, 42, 3]
abbrev dktX0_clear_1 : List UInt8 := dkwX0_clear_1 ++ dktX0_clear_2
def dkwX0_clear_0 : List UInt8 := [42, 180, 0, 51, 60, 3, 61, 28, 42, 180, 0, 51, 162, 0, 19, 42, 180, 0, 18, 28, 50, 1]
abbrev dktX0_clear_0 : List UInt8 := dkwX0_clear_0 ++ dktX0_clear_1
theorem dksX0_clear_0 : cX0_clear.data.toList.drop 0 = dktX0_clear_0 := by decide +kernel
theorem dksX0_clear_1 : cX0_clear.data.toList.drop 22 = dktX0_clear_1 := dk_seg dksX0_clear_0 22 rfl rfl
theorem dksX0_clear_2 : cX0_clear.data.toList.drop 46 = dktX0_clear_2 := dk_seg dksX0_clear_1 24 rfl rfl
theorem dX0_clear_0 : decode cX0_clear 0 = .ok (.aload_n 0, 1) := dk_42 (dk_at dksX0_clear_0 0 rfl rfl)
theorem dX0_clear_1 : decode cX0_clear 1 = .ok (.getfield 51, 3) := dk_180 0 51 (dk_at dksX0_clear_0 1 rfl rfl)
theorem dX0_clear_4 : decode cX0_clear 4 = .ok (.istore_n 1, 1) := dk_60 (dk_at dksX0_clear_0 4 rfl rfl)
theorem dX0_clear_5 : decode cX0_clear 5 = .ok (.iconst 0, 1) := dk_3 (dk_at dksX0_clear_0 5 rfl rfl)
theorem dX0_clear_6 : decode cX0_clear 6 = .ok (.istore_n 2, 1) := dk_61 (dk_at dksX0_clear_0 6 rfl rfl)
theorem dX0_clear_7 : decode cX0_clear 7 = .ok (.iload_n 2, 1) := dk_28 (dk_at dksX0_clear_0 7 rfl rfl)
theorem dX0_clear_8 : decode cX0_clear 8 = .ok (.aload_n 0, 1) := dk_42 (dk_at dksX0_clear_0 8 rfl rfl)
theorem dX0_clear_9 : decode cX0_clear 9 = .ok (.getfield 51, 3) := dk_180 0 51 (dk_at dksX0_clear_0 9 rfl rfl)
theorem dX0_clear_12 : decode cX0_clear 12 = .ok (.if_icmp .ge 19, 3) := dk_162 0 19 (dk_at dksX0_clear_0 12 rfl rfl)
theorem dX0_clear_15 : decode cX0_clear 15 = .ok (.aload_n 0, 1) := dk_42 (dk_at dksX0_clear_0 15 rfl rfl)
theorem dX0_clear_16 : decode cX0_clear 16 = .ok (.getfield 18, 3) := dk_180 0 18 (dk_at dksX0_clear_0 16 rfl rfl)
theorem dX0_clear_19 : decode cX0_clear 19 = .ok (.iload_n 2, 1) := dk_28 (dk_at dksX0_clear_0 19 rfl rfl)
theorem dX0_clear_20 : decode cX0_clear 20 = .ok (.aaload, 1) := dk_50 (dk_at dksX0_clear_0 20 rfl rfl)
theorem dX0_clear_21 : decode cX0_clear 21 = .ok (.aconst_null, 1) := dk_1 (dk_at dksX0_clear_0 21 rfl rfl)
theorem dX0_clear_22 : decode cX0_clear 22 = .ok (.putfield 101, 3) := dk_181 0 101 (dk_at dksX0_clear_1 0 rfl rfl)
theorem dX0_clear_25 : decode cX0_clear 25 = .ok (.iinc 2 1, 3) := dk_132 2 1 (dk_at dksX0_clear_1 3 rfl rfl)
theorem dX0_clear_28 : decode cX0_clear 28 = .ok (.goto (-21), 3) := dk_167 255 235 (dk_at dksX0_clear_1 6 rfl rfl)
theorem dX0_clear_31 : decode cX0_clear 31 = .ok (.aload_n 0, 1) := dk_42 (dk_at dksX0_clear_1 9 rfl rfl)
theorem dX0_clear_32 : decode cX0_clear 32 = .ok (.iconst 0, 1) := dk_3 (dk_at dksX0_clear_1 10 rfl rfl)
theorem dX0_clear_33 : decode cX0_clear 33 = .ok (.putfield 51, 3) := dk_181 0 51 (dk_at dksX0_clear_1 11 rfl rfl)
theorem dX0_clear_36 : decode cX0_clear 36 = .ok (.aload_n 0, 1) := dk_42 (dk_at dksX0_clear_1 14 rfl rfl)
theorem dX0_clear_37 : decode cX0_clear 37 = .ok (.getfield 10, 3) := dk_180 0 10 (dk_at dksX0_clear_1 15 rfl rfl)
theorem dX0_clear_40 : decode cX0_clear 40 = .ok (.iconst 0, 1) := dk_3 (dk_at dksX0_clear_1 18 rfl rfl)
theorem dX0_clear_41 : decode cX0_clear 41 = .ok (.putfield 108, 3) := dk_181 0 108 (dk_at dksX0_clear_1 19 rfl rfl)
theorem dX0_clear_44 : decode cX0_clear 44 = .ok (.aload_n 0, 1) := dk_42 (dk_at dksX0_clear_1 22 rfl rfl)
theorem dX0_clear_45 : decode cX0_clear 45 = .ok (.iconst 0, 1) := dk_3 (dk_at dksX0_clear_1 23 rfl rfl)
theorem dX0_clear_46 : decode cX0_clear 46 = .ok (.putfield 192, 3) := dk_181 0 192 (dk_at dksX0_clear_2 0 rfl rfl)
theorem dX0_clear_49 : decode cX0_clear 49 = .ok (.aload_n 0, 1) := dk_42 (dk_at dksX0_clear_2 3 rfl rfl)
theorem dX0_clear_50 : decode cX0_clear 50 = .ok (.iconst 0, 1) := dk_3 (dk_at dksX0_clear_2 4 rfl rfl)
theorem dX0_clear_51 : decode cX0_clear 51 = .ok (.putfield 44, 3) := dk_181 0 44 (dk_at dksX0_clear_2 5 rfl rfl)
theorem dX0_clear_54 : decode cX0_clear 54 = .ok (.aload_n 0, 1) := dk_42 (dk_at dksX0_clear_2 8 rfl rfl)
theorem dX0_clear_55 : decode cX0_clear 55 = .ok (.iconst (-1), 1) := dk_2 (dk_at dksX0_clear_2 9 rfl rfl)
theorem dX0_clear_56 : decode cX0_clear 56 = .ok (.putfield 22, 3) := dk_181 0 22 (dk_at dksX0_clear_2 10 rfl rfl)
theorem dX0_clear_59 : decode cX0_clear 59 = .ok (.iload_n 1, 1) := dk_27 (dk_at dksX0_clear_2 13 rfl rfl)
theorem dX0_clear_60 : decode cX0_clear 60 = .ok (.ireturn, 1) := dk_172 (dk_at dksX0_clear_2 14 rfl rfl)
theorem q28 : (Jvm.Cond.initialized "ArrayMaker") ∈ lw_all := lw_g (lw_at lw_m1 1 rfl) rfl
theorem q47 : (Jvm.Cond.instantiable "ArrayMaker" (11 : Nat)) ∈ lw_all := lw_g (lw_at lw_m1 20 rfl) rfl
theorem q49 : (Jvm.Cond.instanceMethod ({ cls := "ArrayMaker", name := "<init>", desc := "()V" } : Jvm.MethodName)) ∈ lw_all := lw_g (lw_at lw_m1 22 rfl) rfl
theorem q50 : (Jvm.Cond.code ({ cls := "ArrayMaker", name := "<init>", desc := "()V" } : Jvm.MethodName) prog_1_method_1_code (2 : Nat) (Option.none : Option Jvm.ClassFile.FieldType)) ∈ lw_all := lw_g (lw_at lw_m1 23 rfl) rfl
theorem q51 : (Jvm.Cond.methodLink "ArrayMaker" (1 : Nat) ({ cls := "java/lang/Object", name := "<init>", desc := "()V" } : Jvm.MethodName)) ∈ lw_all := lw_g (lw_at lw_m1 24 rfl) rfl
theorem q54 : (Jvm.Cond.classLink "ArrayMaker" (7 : Nat) "ArrayMaker$Shape") ∈ lw_all := lw_g (lw_at lw_m1 27 rfl) rfl
theorem q56 : (Jvm.Cond.methodLinkNest "ArrayMaker" (9 : Nat) ({ cls := "ArrayMaker$Shape", name := "<init>", desc := "()V" } : Jvm.MethodName) "ArrayMaker") ∈ lw_tbl := lw_at lw_m1 29 rfl
theorem q61 : (Jvm.Cond.fieldLinkNest "ArrayMaker" (108 : Nat) "ArrayMaker$Shape" "many" "I" "ArrayMaker") ∈ lw_tbl := lw_at lw_m1 34 rfl
theorem q63 : (Jvm.Cond.fieldLinkNest "ArrayMaker" (105 : Nat) "ArrayMaker$Shape" "low" "[I" "ArrayMaker") ∈ lw_tbl := lw_at lw_m1 36 rfl
theorem q65 : (Jvm.Cond.fieldLinkNest "ArrayMaker" (111 : Nat) "ArrayMaker$Shape" "high" "[I" "ArrayMaker") ∈ lw_tbl := lw_at lw_m1 38 rfl
theorem q74 : (Jvm.Cond.classLink "ArrayMaker" (16 : Nat) "ArrayMaker$Seen") ∈ lw_all := lw_g (lw_at lw_m1 47 rfl) rfl
theorem q77 : (Jvm.Cond.methodLinkNest "ArrayMaker" (43 : Nat) ({ cls := "ArrayMaker$Seen", name := "<init>", desc := "()V" } : Jvm.MethodName) "ArrayMaker") ∈ lw_tbl := lw_at lw_m1 50 rfl
theorem q84 : (Jvm.Cond.fieldLinkNest "ArrayMaker" (96 : Nat) "ArrayMaker$Seen" "shape" "LArrayMaker$Shape;" "ArrayMaker") ∈ lw_tbl := lw_at lw_m1 57 rfl
theorem q85 : (Jvm.Cond.fieldLinkNest "ArrayMaker" (101 : Nat) "ArrayMaker$Seen" "row" "Ljava/lang/Object;" "ArrayMaker") ∈ lw_tbl := lw_at lw_m1 58 rfl
theorem q92 : (Jvm.Cond.fieldLink "ArrayMaker" (10 : Nat) "ArrayMaker" "shape" "LArrayMaker$Shape;") ∈ lw_all := lw_g (lw_at lw_m1 65 rfl) rfl
theorem q93 : (Jvm.Cond.fieldLink "ArrayMaker" (18 : Nat) "ArrayMaker" "arrays" "[LArrayMaker$Seen;") ∈ lw_all := lw_g (lw_at lw_m1 66 rfl) rfl
theorem q94 : (Jvm.Cond.fieldLink "ArrayMaker" (51 : Nat) "ArrayMaker" "made" "I") ∈ lw_all := lw_g (lw_at lw_m1 67 rfl) rfl
theorem q95 : (Jvm.Cond.fieldLink "ArrayMaker" (44 : Nat) "ArrayMaker" "code" "I") ∈ lw_all := lw_g (lw_at lw_m1 68 rfl) rfl
theorem q96 : (Jvm.Cond.fieldLink "ArrayMaker" (22 : Nat) "ArrayMaker" "which" "I") ∈ lw_all := lw_g (lw_at lw_m1 69 rfl) rfl
theorem q97 : (Jvm.Cond.fieldLink "ArrayMaker" (26 : Nat) "ArrayMaker" "lines" "[I") ∈ lw_all := lw_g (lw_at lw_m1 70 rfl) rfl
theorem q98 : (Jvm.Cond.fieldLink "ArrayMaker" (30 : Nat) "ArrayMaker" "numbers" "[J") ∈ lw_all := lw_g (lw_at lw_m1 71 rfl) rfl
theorem q99 : (Jvm.Cond.fieldLink "ArrayMaker" (192 : Nat) "ArrayMaker" "listed" "I") ∈ lw_all := lw_g (lw_at lw_m1 72 rfl) rfl
theorem q100 : (Jvm.Cond.fieldLink "ArrayMaker" (34 : Nat) "ArrayMaker" "index" "[I") ∈ lw_all := lw_g (lw_at lw_m1 73 rfl) rfl
theorem q101 : (Jvm.Cond.fieldLink "ArrayMaker" (37 : Nat) "ArrayMaker" "other" "[I") ∈ lw_all := lw_g (lw_at lw_m1 74 rfl) rfl
theorem q102 : (Jvm.Cond.fieldLink "ArrayMaker" (40 : Nat) "ArrayMaker" "turned" "LArrayMaker$Shape;") ∈ lw_all := lw_g (lw_at lw_m1 75 rfl) rfl
theorem q103 : (Jvm.Cond.laysFinal "ArrayMaker" "ArrayMaker" "shape" "LArrayMaker$Shape;") ∈ lw_all := lw_g (lw_at lw_m1 76 rfl) rfl
theorem q104 : (Jvm.Cond.soleField "ArrayMaker" "shape") ∈ lw_all := lw_g (lw_at lw_m1 77 rfl) rfl
theorem q105 : (Jvm.Cond.laysFinal "ArrayMaker" "ArrayMaker" "arrays" "[LArrayMaker$Seen;") ∈ lw_all := lw_g (lw_at lw_m1 78 rfl) rfl
theorem q106 : (Jvm.Cond.soleField "ArrayMaker" "arrays") ∈ lw_all := lw_g (lw_at lw_m1 79 rfl) rfl
theorem q107 : (Jvm.Cond.lays "ArrayMaker" "ArrayMaker" "made" "I") ∈ lw_all := lw_g (lw_at lw_m1 80 rfl) rfl
theorem q108 : (Jvm.Cond.soleField "ArrayMaker" "made") ∈ lw_all := lw_g (lw_at lw_m1 81 rfl) rfl
theorem q109 : (Jvm.Cond.lays "ArrayMaker" "ArrayMaker" "code" "I") ∈ lw_all := lw_g (lw_at lw_m1 82 rfl) rfl
theorem q110 : (Jvm.Cond.soleField "ArrayMaker" "code") ∈ lw_all := lw_g (lw_at lw_m1 83 rfl) rfl
theorem q111 : (Jvm.Cond.lays "ArrayMaker" "ArrayMaker" "which" "I") ∈ lw_all := lw_g (lw_at lw_m1 84 rfl) rfl
theorem q112 : (Jvm.Cond.soleField "ArrayMaker" "which") ∈ lw_all := lw_g (lw_at lw_m1 85 rfl) rfl
theorem q113 : (Jvm.Cond.laysFinal "ArrayMaker" "ArrayMaker" "lines" "[I") ∈ lw_all := lw_g (lw_at lw_m1 86 rfl) rfl
theorem q114 : (Jvm.Cond.soleField "ArrayMaker" "lines") ∈ lw_all := lw_g (lw_at lw_m1 87 rfl) rfl
theorem q115 : (Jvm.Cond.laysFinal "ArrayMaker" "ArrayMaker" "numbers" "[J") ∈ lw_all := lw_g (lw_at lw_m1 88 rfl) rfl
theorem q116 : (Jvm.Cond.soleField "ArrayMaker" "numbers") ∈ lw_all := lw_g (lw_at lw_m1 89 rfl) rfl
theorem q117 : (Jvm.Cond.lays "ArrayMaker" "ArrayMaker" "listed" "I") ∈ lw_all := lw_g (lw_at lw_m1 90 rfl) rfl
theorem q118 : (Jvm.Cond.soleField "ArrayMaker" "listed") ∈ lw_all := lw_g (lw_at lw_m1 91 rfl) rfl
theorem q119 : (Jvm.Cond.laysFinal "ArrayMaker" "ArrayMaker" "index" "[I") ∈ lw_all := lw_g (lw_at lw_m1 92 rfl) rfl
theorem q120 : (Jvm.Cond.soleField "ArrayMaker" "index") ∈ lw_all := lw_g (lw_at lw_m1 93 rfl) rfl
theorem q121 : (Jvm.Cond.laysFinal "ArrayMaker" "ArrayMaker" "other" "[I") ∈ lw_all := lw_g (lw_at lw_m1 94 rfl) rfl
theorem q122 : (Jvm.Cond.soleField "ArrayMaker" "other") ∈ lw_all := lw_g (lw_at lw_m1 95 rfl) rfl
theorem q123 : (Jvm.Cond.laysFinal "ArrayMaker" "ArrayMaker" "turned" "LArrayMaker$Shape;") ∈ lw_all := lw_g (lw_at lw_m1 96 rfl) rfl
theorem q124 : (Jvm.Cond.soleField "ArrayMaker" "turned") ∈ lw_all := lw_g (lw_at lw_m1 97 rfl) rfl
theorem q125 : (Jvm.Cond.superclass "ArrayMaker" "java/lang/Object") ∈ lw_all := lw_g (lw_at lw_m1 98 rfl) rfl
theorem q127 : (Jvm.Cond.instanceMethod ({ cls := "ArrayMaker", name := "code", desc := "()I" } : Jvm.MethodName)) ∈ lw_all := lw_g (lw_at lw_m1 100 rfl) rfl
theorem q128 : (Jvm.Cond.selects "ArrayMaker" ({ cls := "ArrayMaker", name := "code", desc := "()I" } : Jvm.MethodName) ({ cls := "ArrayMaker", name := "code", desc := "()I" } : Jvm.MethodName)) ∈ lw_all := lw_g (lw_at lw_m1 101 rfl) rfl
theorem q129 : (Jvm.Cond.code ({ cls := "ArrayMaker", name := "code", desc := "()I" } : Jvm.MethodName) prog_1_method_14_code (1 : Nat) (Option.some Jvm.ClassFile.FieldType.int)) ∈ lw_all := lw_g (lw_at lw_m1 102 rfl) rfl
theorem q131 : (Jvm.Cond.instanceMethod ({ cls := "ArrayMaker", name := "which", desc := "()I" } : Jvm.MethodName)) ∈ lw_all := lw_g (lw_at lw_m1 104 rfl) rfl
theorem q132 : (Jvm.Cond.selects "ArrayMaker" ({ cls := "ArrayMaker", name := "which", desc := "()I" } : Jvm.MethodName) ({ cls := "ArrayMaker", name := "which", desc := "()I" } : Jvm.MethodName)) ∈ lw_all := lw_g (lw_at lw_m1 105 rfl) rfl
theorem q133 : (Jvm.Cond.code ({ cls := "ArrayMaker", name := "which", desc := "()I" } : Jvm.MethodName) prog_1_method_15_code (1 : Nat) (Option.some Jvm.ClassFile.FieldType.int)) ∈ lw_all := lw_g (lw_at lw_m1 106 rfl) rfl
theorem q135 : (Jvm.Cond.instanceMethod ({ cls := "ArrayMaker", name := "range", desc := "(II)I" } : Jvm.MethodName)) ∈ lw_all := lw_g (lw_at lw_m1 108 rfl) rfl
theorem q136 : (Jvm.Cond.selects "ArrayMaker" ({ cls := "ArrayMaker", name := "range", desc := "(II)I" } : Jvm.MethodName) ({ cls := "ArrayMaker", name := "range", desc := "(II)I" } : Jvm.MethodName)) ∈ lw_all := lw_g (lw_at lw_m1 109 rfl) rfl
theorem q137 : (Jvm.Cond.codeWith ({ cls := "ArrayMaker", name := "range", desc := "(II)I" } : Jvm.MethodName) prog_1_method_16_code (4 : Nat) (Option.some Jvm.ClassFile.FieldType.int) [((0 : Nat), (50 : Nat), (51 : Nat), (117 : Nat))]) ∈ lw_all := lw_g (lw_at lw_m1 110 rfl) rfl
theorem q138 : (Jvm.Cond.classLink "ArrayMaker" (117 : Nat) "java/lang/ArrayIndexOutOfBoundsException") ∈ lw_all := lw_g (lw_at lw_m1 111 rfl) rfl
theorem q229 : (Jvm.Cond.methodLink "ArrayMaker" (114 : Nat) ({ cls := "ArrayMaker", name := "done", desc := "(I)I" } : Jvm.MethodName)) ∈ lw_all := lw_g (lw_at lw_m1 202 rfl) rfl
theorem q230 : (Jvm.Cond.privateMethod ({ cls := "ArrayMaker", name := "done", desc := "(I)I" } : Jvm.MethodName)) ∈ lw_tbl := lw_at lw_m1 203 rfl
theorem q231 : (Jvm.Cond.instanceMethod ({ cls := "ArrayMaker", name := "done", desc := "(I)I" } : Jvm.MethodName)) ∈ lw_all := lw_g (lw_at lw_m1 204 rfl) rfl
theorem q232 : (Jvm.Cond.code ({ cls := "ArrayMaker", name := "done", desc := "(I)I" } : Jvm.MethodName) prog_1_method_4_code (2 : Nat) (Option.some Jvm.ClassFile.FieldType.int)) ∈ lw_all := lw_g (lw_at lw_m1 205 rfl) rfl
theorem q233 : (Jvm.Cond.methodLink "ArrayMaker" (47 : Nat) ({ cls := "ArrayMaker", name := "fail", desc := "(I)I" } : Jvm.MethodName)) ∈ lw_all := lw_g (lw_at lw_m1 206 rfl) rfl
theorem q234 : (Jvm.Cond.privateMethod ({ cls := "ArrayMaker", name := "fail", desc := "(I)I" } : Jvm.MethodName)) ∈ lw_tbl := lw_at lw_m1 207 rfl
theorem q235 : (Jvm.Cond.instanceMethod ({ cls := "ArrayMaker", name := "fail", desc := "(I)I" } : Jvm.MethodName)) ∈ lw_all := lw_g (lw_at lw_m1 208 rfl) rfl
theorem q236 : (Jvm.Cond.code ({ cls := "ArrayMaker", name := "fail", desc := "(I)I" } : Jvm.MethodName) prog_1_method_2_code (2 : Nat) (Option.some Jvm.ClassFile.FieldType.int)) ∈ lw_all := lw_g (lw_at lw_m1 209 rfl) rfl
theorem q238 : (Jvm.Cond.instanceMethod ({ cls := "ArrayMaker", name := "shapeless", desc := "()I" } : Jvm.MethodName)) ∈ lw_all := lw_g (lw_at lw_m1 211 rfl) rfl
theorem q239 : (Jvm.Cond.selects "ArrayMaker" ({ cls := "ArrayMaker", name := "shapeless", desc := "()I" } : Jvm.MethodName) ({ cls := "ArrayMaker", name := "shapeless", desc := "()I" } : Jvm.MethodName)) ∈ lw_all := lw_g (lw_at lw_m1 212 rfl) rfl
theorem q240 : (Jvm.Cond.code ({ cls := "ArrayMaker", name := "shapeless", desc := "()I" } : Jvm.MethodName) prog_1_method_17_code (2 : Nat) (Option.some Jvm.ClassFile.FieldType.int)) ∈ lw_all := lw_g (lw_at lw_m1 213 rfl) rfl
theorem q242 : (Jvm.Cond.instanceMethod ({ cls := "ArrayMaker", name := "make", desc := "(I)I" } : Jvm.MethodName)) ∈ lw_all := lw_g (lw_at lw_m1 215 rfl) rfl
theorem q243 : (Jvm.Cond.selects "ArrayMaker" ({ cls := "ArrayMaker", name := "make", desc := "(I)I" } : Jvm.MethodName) ({ cls := "ArrayMaker", name := "make", desc := "(I)I" } : Jvm.MethodName)) ∈ lw_all := lw_g (lw_at lw_m1 216 rfl) rfl
theorem q244 : (Jvm.Cond.code ({ cls := "ArrayMaker", name := "make", desc := "(I)I" } : Jvm.MethodName) prog_1_method_19_code (5 : Nat) (Option.some Jvm.ClassFile.FieldType.int)) ∈ lw_all := lw_g (lw_at lw_m1 217 rfl) rfl
theorem q245 : (Jvm.Cond.constant "ArrayMaker" (119 : Nat) (-2000000001 : Int32)) ∈ lw_all := lw_g (lw_at lw_m1 218 rfl) rfl
theorem q246 : (Jvm.Cond.methodLink "ArrayMaker" (120 : Nat) ({ cls := "ArrayMaker$Shape", name := "items", desc := "()I" } : Jvm.MethodName)) ∈ lw_all := lw_g (lw_at lw_m1 219 rfl) rfl
theorem q261 : (Jvm.Cond.methodLink "ArrayMaker" (124 : Nat) ({ cls := "ArrayMaker$Shape", name := "length", desc := "(I)J" } : Jvm.MethodName)) ∈ lw_all := lw_g (lw_at lw_m1 234 rfl) rfl
theorem q262 : (Jvm.Cond.constantLong "ArrayMaker" (128 : Nat) (500 : Int64)) ∈ lw_all := lw_g (lw_at lw_m1 235 rfl) rfl
theorem q263 : (Jvm.Cond.methodLink "ArrayMaker" (130 : Nat) ({ cls := "ArrayMaker", name := "freshTable", desc := "(II)Ljava/lang/Object;" } : Jvm.MethodName)) ∈ lw_all := lw_g (lw_at lw_m1 236 rfl) rfl
theorem q264 : (Jvm.Cond.static ({ cls := "ArrayMaker", name := "freshTable", desc := "(II)Ljava/lang/Object;" } : Jvm.MethodName)) ∈ lw_all := lw_g (lw_at lw_m1 237 rfl) rfl
theorem q265 : (Jvm.Cond.code ({ cls := "ArrayMaker", name := "freshTable", desc := "(II)Ljava/lang/Object;" } : Jvm.MethodName) prog_1_method_18_code (4 : Nat) (Option.some (Jvm.ClassFile.FieldType.object "java/lang/Object"))) ∈ lw_all := lw_g (lw_at lw_m1 238 rfl) rfl
theorem q266 : (Jvm.Cond.classLink "ArrayMaker" (56 : Nat) "[I") ∈ lw_all := lw_g (lw_at lw_m1 239 rfl) rfl
theorem q268 : (Jvm.Cond.methodLink "ArrayMaker" (134 : Nat) ({ cls := "ArrayMaker", name := "fresh", desc := "(II)Ljava/lang/Object;" } : Jvm.MethodName)) ∈ lw_all := lw_g (lw_at lw_m2 1 rfl) rfl
theorem q269 : (Jvm.Cond.static ({ cls := "ArrayMaker", name := "fresh", desc := "(II)Ljava/lang/Object;" } : Jvm.MethodName)) ∈ lw_all := lw_g (lw_at lw_m2 2 rfl) rfl
theorem q270 : (Jvm.Cond.code ({ cls := "ArrayMaker", name := "fresh", desc := "(II)Ljava/lang/Object;" } : Jvm.MethodName) prog_1_method_7_code (2 : Nat) (Option.some (Jvm.ClassFile.FieldType.object "java/lang/Object"))) ∈ lw_all := lw_g (lw_at lw_m2 3 rfl) rfl
theorem q271 : (Jvm.Cond.classLink "ArrayMaker" (60 : Nat) "ArrayMaker$Box") ∈ lw_all := lw_g (lw_at lw_m2 4 rfl) rfl
theorem q273 : (Jvm.Cond.methodLink "ArrayMaker" (137 : Nat) ({ cls := "ArrayMaker", name := "keep", desc := "(LArrayMaker$Shape;Ljava/lang/Object;)I" } : Jvm.MethodName)) ∈ lw_all := lw_g (lw_at lw_m2 6 rfl) rfl
theorem q274 : (Jvm.Cond.privateMethod ({ cls := "ArrayMaker", name := "keep", desc := "(LArrayMaker$Shape;Ljava/lang/Object;)I" } : Jvm.MethodName)) ∈ lw_tbl := lw_at lw_m2 7 rfl
theorem q275 : (Jvm.Cond.instanceMethod ({ cls := "ArrayMaker", name := "keep", desc := "(LArrayMaker$Shape;Ljava/lang/Object;)I" } : Jvm.MethodName)) ∈ lw_all := lw_g (lw_at lw_m2 8 rfl) rfl
theorem q276 : (Jvm.Cond.code ({ cls := "ArrayMaker", name := "keep", desc := "(LArrayMaker$Shape;Ljava/lang/Object;)I" } : Jvm.MethodName) prog_1_method_13_code (3 : Nat) (Option.some Jvm.ClassFile.FieldType.int)) ∈ lw_all := lw_g (lw_at lw_m2 9 rfl) rfl
theorem q277 : (Jvm.Cond.methodLink "ArrayMaker" (97 : Nat) ({ cls := "ArrayMaker$Shape", name := "set", desc := "(LArrayMaker$Shape;)V" } : Jvm.MethodName)) ∈ lw_all := lw_g (lw_at lw_m2 10 rfl) rfl
theorem q285 : (Jvm.Cond.instanceMethod ({ cls := "ArrayMaker", name := "raw", desc := "(II)I" } : Jvm.MethodName)) ∈ lw_all := lw_g (lw_at lw_m2 18 rfl) rfl
theorem q286 : (Jvm.Cond.selects "ArrayMaker" ({ cls := "ArrayMaker", name := "raw", desc := "(II)I" } : Jvm.MethodName) ({ cls := "ArrayMaker", name := "raw", desc := "(II)I" } : Jvm.MethodName)) ∈ lw_all := lw_g (lw_at lw_m2 19 rfl) rfl
theorem q287 : (Jvm.Cond.codeWith ({ cls := "ArrayMaker", name := "raw", desc := "(II)I" } : Jvm.MethodName) prog_1_method_20_code (5 : Nat) (Option.some Jvm.ClassFile.FieldType.int) [((12 : Nat), (24 : Nat), (114 : Nat), (141 : Nat)), ((25 : Nat), (46 : Nat), (114 : Nat), (141 : Nat)), ((47 : Nat), (113 : Nat), (114 : Nat), (141 : Nat))]) ∈ lw_all := lw_g (lw_at lw_m2 20 rfl) rfl
theorem q288 : (Jvm.Cond.classLink "ArrayMaker" (141 : Nat) "java/lang/NegativeArraySizeException") ∈ lw_all := lw_g (lw_at lw_m2 21 rfl) rfl
theorem q303 : (Jvm.Cond.instanceMethod ({ cls := "ArrayMaker", name := "see", desc := "(I)I" } : Jvm.MethodName)) ∈ lw_all := lw_g (lw_at lw_m2 36 rfl) rfl
theorem q304 : (Jvm.Cond.selects "ArrayMaker" ({ cls := "ArrayMaker", name := "see", desc := "(I)I" } : Jvm.MethodName) ({ cls := "ArrayMaker", name := "see", desc := "(I)I" } : Jvm.MethodName)) ∈ lw_all := lw_g (lw_at lw_m2 37 rfl) rfl
theorem q305 : (Jvm.Cond.code ({ cls := "ArrayMaker", name := "see", desc := "(I)I" } : Jvm.MethodName) prog_1_method_21_code (4 : Nat) (Option.some Jvm.ClassFile.FieldType.int)) ∈ lw_all := lw_g (lw_at lw_m2 38 rfl) rfl
theorem q306 : (Jvm.Cond.methodLink "ArrayMaker" (143 : Nat) ({ cls := "ArrayMaker", name := "isArray", desc := "(I)Z" } : Jvm.MethodName)) ∈ lw_all := lw_g (lw_at lw_m2 39 rfl) rfl
theorem q307 : (Jvm.Cond.privateMethod ({ cls := "ArrayMaker", name := "isArray", desc := "(I)Z" } : Jvm.MethodName)) ∈ lw_tbl := lw_at lw_m2 40 rfl
theorem q308 : (Jvm.Cond.instanceMethod ({ cls := "ArrayMaker", name := "isArray", desc := "(I)Z" } : Jvm.MethodName)) ∈ lw_all := lw_g (lw_at lw_m2 41 rfl) rfl
theorem q309 : (Jvm.Cond.code ({ cls := "ArrayMaker", name := "isArray", desc := "(I)Z" } : Jvm.MethodName) prog_1_method_5_code (2 : Nat) (Option.some Jvm.ClassFile.FieldType.boolean)) ∈ lw_all := lw_g (lw_at lw_m2 42 rfl) rfl
theorem q310 : (Jvm.Cond.classLink "ArrayMaker" (58 : Nat) "[[I") ∈ lw_all := lw_g (lw_at lw_m2 43 rfl) rfl
theorem q311 : (Jvm.Cond.methodLink "ArrayMaker" (147 : Nat) ({ cls := "ArrayMaker", name := "sizeOf", desc := "(Ljava/lang/Object;)I" } : Jvm.MethodName)) ∈ lw_all := lw_g (lw_at lw_m2 44 rfl) rfl
theorem q312 : (Jvm.Cond.static ({ cls := "ArrayMaker", name := "sizeOf", desc := "(Ljava/lang/Object;)I" } : Jvm.MethodName)) ∈ lw_all := lw_g (lw_at lw_m2 45 rfl) rfl
theorem q313 : (Jvm.Cond.code ({ cls := "ArrayMaker", name := "sizeOf", desc := "(Ljava/lang/Object;)I" } : Jvm.MethodName) prog_1_method_8_code (1 : Nat) (Option.some Jvm.ClassFile.FieldType.int)) ∈ lw_all := lw_g (lw_at lw_m2 46 rfl) rfl
theorem q314 : (Jvm.Cond.methodLink "ArrayMaker" (62 : Nat) ({ cls := "ArrayMaker", name := "kindOf", desc := "(Ljava/lang/Object;)I" } : Jvm.MethodName)) ∈ lw_all := lw_g (lw_at lw_m2 47 rfl) rfl
theorem q315 : (Jvm.Cond.static ({ cls := "ArrayMaker", name := "kindOf", desc := "(Ljava/lang/Object;)I" } : Jvm.MethodName)) ∈ lw_all := lw_g (lw_at lw_m2 48 rfl) rfl
theorem q316 : (Jvm.Cond.code ({ cls := "ArrayMaker", name := "kindOf", desc := "(Ljava/lang/Object;)I" } : Jvm.MethodName) prog_1_method_6_code (1 : Nat) (Option.some Jvm.ClassFile.FieldType.int)) ∈ lw_all := lw_g (lw_at lw_m2 49 rfl) rfl
theorem q317 : (Jvm.Cond.classLink "ArrayMaker" (54 : Nat) "[B") ∈ lw_all := lw_g (lw_at lw_m2 50 rfl) rfl
theorem q318 : (Jvm.Cond.classLink "ArrayMaker" (57 : Nat) "[J") ∈ lw_all := lw_g (lw_at lw_m2 51 rfl) rfl
theorem q319 : (Jvm.Cond.classLink "ArrayMaker" (66 : Nat) "[LArrayMaker$Box;") ∈ lw_all := lw_g (lw_at lw_m2 52 rfl) rfl
theorem q321 : (Jvm.Cond.instanceMethod ({ cls := "ArrayMaker", name := "turn", desc := "(I)I" } : Jvm.MethodName)) ∈ lw_all := lw_g (lw_at lw_m2 54 rfl) rfl
theorem q322 : (Jvm.Cond.selects "ArrayMaker" ({ cls := "ArrayMaker", name := "turn", desc := "(I)I" } : Jvm.MethodName) ({ cls := "ArrayMaker", name := "turn", desc := "(I)I" } : Jvm.MethodName)) ∈ lw_all := lw_g (lw_at lw_m2 55 rfl) rfl
theorem q323 : (Jvm.Cond.code ({ cls := "ArrayMaker", name := "turn", desc := "(I)I" } : Jvm.MethodName) prog_1_method_23_code (7 : Nat) (Option.some Jvm.ClassFile.FieldType.int)) ∈ lw_all := lw_g (lw_at lw_m2 56 rfl) rfl
theorem q324 : (Jvm.Cond.methodLink "ArrayMaker" (156 : Nat) ({ cls := "ArrayMaker$Shape", name := "first", desc := "([I)V" } : Jvm.MethodName)) ∈ lw_all := lw_g (lw_at lw_m2 57 rfl) rfl
theorem q328 : (Jvm.Cond.methodLink "ArrayMaker" (160 : Nat) ({ cls := "ArrayMaker$Shape", name := "place", desc := "([I)I" } : Jvm.MethodName)) ∈ lw_all := lw_g (lw_at lw_m2 61 rfl) rfl
theorem q332 : (Jvm.Cond.methodLink "ArrayMaker" (164 : Nat) ({ cls := "ArrayMaker", name := "copy", desc := "(Ljava/lang/Object;ILjava/lang/Object;I)V" } : Jvm.MethodName)) ∈ lw_all := lw_g (lw_at lw_m2 65 rfl) rfl
theorem q333 : (Jvm.Cond.static ({ cls := "ArrayMaker", name := "copy", desc := "(Ljava/lang/Object;ILjava/lang/Object;I)V" } : Jvm.MethodName)) ∈ lw_all := lw_g (lw_at lw_m2 66 rfl) rfl
theorem q334 : (Jvm.Cond.code ({ cls := "ArrayMaker", name := "copy", desc := "(Ljava/lang/Object;ILjava/lang/Object;I)V" } : Jvm.MethodName) prog_1_method_22_code (4 : Nat) (Option.none : Option Jvm.ClassFile.FieldType)) ∈ lw_all := lw_g (lw_at lw_m2 67 rfl) rfl
theorem q335 : (Jvm.Cond.methodLink "ArrayMaker" (150 : Nat) ({ cls := "java/lang/System", name := "arraycopy", desc := "(Ljava/lang/Object;ILjava/lang/Object;II)V" } : Jvm.MethodName)) ∈ lw_all := lw_g (lw_at lw_m2 68 rfl) rfl
theorem q336 : (Jvm.Cond.methodLink "ArrayMaker" (168 : Nat) ({ cls := "ArrayMaker$Shape", name := "next", desc := "([I)V" } : Jvm.MethodName)) ∈ lw_all := lw_g (lw_at lw_m2 69 rfl) rfl
theorem q341 : (Jvm.Cond.instanceMethod ({ cls := "ArrayMaker", name := "cut", desc := "(I)I" } : Jvm.MethodName)) ∈ lw_all := lw_g (lw_at lw_m2 74 rfl) rfl
theorem q342 : (Jvm.Cond.selects "ArrayMaker" ({ cls := "ArrayMaker", name := "cut", desc := "(I)I" } : Jvm.MethodName) ({ cls := "ArrayMaker", name := "cut", desc := "(I)I" } : Jvm.MethodName)) ∈ lw_all := lw_g (lw_at lw_m2 75 rfl) rfl
theorem q343 : (Jvm.Cond.code ({ cls := "ArrayMaker", name := "cut", desc := "(I)I" } : Jvm.MethodName) prog_1_method_24_code (8 : Nat) (Option.some Jvm.ClassFile.FieldType.int)) ∈ lw_all := lw_g (lw_at lw_m2 76 rfl) rfl
theorem q344 : (Jvm.Cond.methodLink "ArrayMaker" (171 : Nat) ({ cls := "ArrayMaker$Shape", name := "beyond", desc := "([I)I" } : Jvm.MethodName)) ∈ lw_all := lw_g (lw_at lw_m2 77 rfl) rfl
theorem q352 : (Jvm.Cond.methodLink "ArrayMaker" (174 : Nat) ({ cls := "ArrayMaker", name := "beyond", desc := "(I)I" } : Jvm.MethodName)) ∈ lw_all := lw_g (lw_at lw_m2 85 rfl) rfl
theorem q353 : (Jvm.Cond.privateMethod ({ cls := "ArrayMaker", name := "beyond", desc := "(I)I" } : Jvm.MethodName)) ∈ lw_tbl := lw_at lw_m2 86 rfl
theorem q354 : (Jvm.Cond.instanceMethod ({ cls := "ArrayMaker", name := "beyond", desc := "(I)I" } : Jvm.MethodName)) ∈ lw_all := lw_g (lw_at lw_m2 87 rfl) rfl
theorem q355 : (Jvm.Cond.code ({ cls := "ArrayMaker", name := "beyond", desc := "(I)I" } : Jvm.MethodName) prog_1_method_3_code (2 : Nat) (Option.some Jvm.ClassFile.FieldType.int)) ∈ lw_all := lw_g (lw_at lw_m2 88 rfl) rfl
theorem q357 : (Jvm.Cond.instanceMethod ({ cls := "ArrayMaker", name := "deep", desc := "(I)I" } : Jvm.MethodName)) ∈ lw_all := lw_g (lw_at lw_m2 90 rfl) rfl
theorem q358 : (Jvm.Cond.selects "ArrayMaker" ({ cls := "ArrayMaker", name := "deep", desc := "(I)I" } : Jvm.MethodName) ({ cls := "ArrayMaker", name := "deep", desc := "(I)I" } : Jvm.MethodName)) ∈ lw_all := lw_g (lw_at lw_m2 91 rfl) rfl
theorem q359 : (Jvm.Cond.codeWith ({ cls := "ArrayMaker", name := "deep", desc := "(I)I" } : Jvm.MethodName) prog_1_method_25_code (8 : Nat) (Option.some Jvm.ClassFile.FieldType.int) [((25 : Nat), (52 : Nat), (168 : Nat), (176 : Nat)), ((53 : Nat), (70 : Nat), (168 : Nat), (176 : Nat)), ((71 : Nat), (86 : Nat), (168 : Nat), (176 : Nat)), ((87 : Nat), (167 : Nat), (168 : Nat), (176 : Nat))]) ∈ lw_all := lw_g (lw_at lw_m2 92 rfl) rfl
theorem q360 : (Jvm.Cond.classLink "ArrayMaker" (176 : Nat) "java/lang/ClassCastException") ∈ lw_all := lw_g (lw_at lw_m2 93 rfl) rfl
theorem q375 : (Jvm.Cond.instanceMethod ({ cls := "ArrayMaker", name := "flat", desc := "(I)I" } : Jvm.MethodName)) ∈ lw_all := lw_g (lw_at lw_m2 108 rfl) rfl
theorem q376 : (Jvm.Cond.selects "ArrayMaker" ({ cls := "ArrayMaker", name := "flat", desc := "(I)I" } : Jvm.MethodName) ({ cls := "ArrayMaker", name := "flat", desc := "(I)I" } : Jvm.MethodName)) ∈ lw_all := lw_g (lw_at lw_m2 109 rfl) rfl
theorem q377 : (Jvm.Cond.codeWith ({ cls := "ArrayMaker", name := "flat", desc := "(I)I" } : Jvm.MethodName) prog_1_method_26_code (10 : Nat) (Option.some Jvm.ClassFile.FieldType.int) [((25 : Nat), (82 : Nat), (176 : Nat), (176 : Nat)), ((83 : Nat), (104 : Nat), (176 : Nat), (176 : Nat)), ((105 : Nat), (175 : Nat), (176 : Nat), (176 : Nat)), ((25 : Nat), (82 : Nat), (183 : Nat), (178 : Nat)), ((83 : Nat), (104 : Nat), (183 : Nat), (178 : Nat)), ((105 : Nat), (175 : Nat), (183 : Nat), (178 : Nat))]) ∈ lw_all := lw_g (lw_at lw_m2 110 rfl) rfl
theorem q378 : (Jvm.Cond.classLink "ArrayMaker" (178 : Nat) "java/lang/NullPointerException") ∈ lw_all := lw_g (lw_at lw_m2 111 rfl) rfl
theorem q404 : (Jvm.Cond.instanceMethod ({ cls := "ArrayMaker", name := "ragged", desc := "(III)I" } : Jvm.MethodName)) ∈ lw_all := lw_g (lw_at lw_m2 137 rfl) rfl
theorem q405 : (Jvm.Cond.selects "ArrayMaker" ({ cls := "ArrayMaker", name := "ragged", desc := "(III)I" } : Jvm.MethodName) ({ cls := "ArrayMaker", name := "ragged", desc := "(III)I" } : Jvm.MethodName)) ∈ lw_all := lw_g (lw_at lw_m2 138 rfl) rfl
theorem q406 : (Jvm.Cond.codeWith ({ cls := "ArrayMaker", name := "ragged", desc := "(III)I" } : Jvm.MethodName) prog_1_method_27_code (6 : Nat) (Option.some Jvm.ClassFile.FieldType.int) [((26 : Nat), (55 : Nat), (89 : Nat), (176 : Nat)), ((56 : Nat), (67 : Nat), (89 : Nat), (176 : Nat)), ((68 : Nat), (88 : Nat), (89 : Nat), (176 : Nat)), ((26 : Nat), (55 : Nat), (97 : Nat), (141 : Nat)), ((56 : Nat), (67 : Nat), (97 : Nat), (141 : Nat)), ((68 : Nat), (88 : Nat), (97 : Nat), (141 : Nat))]) ∈ lw_all := lw_g (lw_at lw_m2 139 rfl) rfl
theorem q407 : (Jvm.Cond.methodLink "ArrayMaker" (180 : Nat) ({ cls := "ArrayMaker$Shape", name := "has", desc := "(II)Z" } : Jvm.MethodName)) ∈ lw_all := lw_g (lw_at lw_m2 140 rfl) rfl
theorem q409 : (Jvm.Cond.instanceMethod ({ cls := "ArrayMaker", name := "without", desc := "(II)I" } : Jvm.MethodName)) ∈ lw_all := lw_g (lw_at lw_m2 142 rfl) rfl
theorem q410 : (Jvm.Cond.selects "ArrayMaker" ({ cls := "ArrayMaker", name := "without", desc := "(II)I" } : Jvm.MethodName) ({ cls := "ArrayMaker", name := "without", desc := "(II)I" } : Jvm.MethodName)) ∈ lw_all := lw_g (lw_at lw_m2 143 rfl) rfl
theorem q411 : (Jvm.Cond.codeWith ({ cls := "ArrayMaker", name := "without", desc := "(II)I" } : Jvm.MethodName) prog_1_method_28_code (5 : Nat) (Option.some Jvm.ClassFile.FieldType.int) [((25 : Nat), (53 : Nat), (72 : Nat), (176 : Nat)), ((54 : Nat), (71 : Nat), (72 : Nat), (176 : Nat))]) ∈ lw_all := lw_g (lw_at lw_m2 144 rfl) rfl
theorem q413 : (Jvm.Cond.instanceMethod ({ cls := "ArrayMaker", name := "tie", desc := "(IIII)I" } : Jvm.MethodName)) ∈ lw_all := lw_g (lw_at lw_m2 146 rfl) rfl
theorem q414 : (Jvm.Cond.selects "ArrayMaker" ({ cls := "ArrayMaker", name := "tie", desc := "(IIII)I" } : Jvm.MethodName) ({ cls := "ArrayMaker", name := "tie", desc := "(IIII)I" } : Jvm.MethodName)) ∈ lw_all := lw_g (lw_at lw_m2 147 rfl) rfl
theorem q415 : (Jvm.Cond.codeWith ({ cls := "ArrayMaker", name := "tie", desc := "(IIII)I" } : Jvm.MethodName) prog_1_method_29_code (9 : Nat) (Option.some Jvm.ClassFile.FieldType.int) [((45 : Nat), (88 : Nat), (137 : Nat), (176 : Nat)), ((89 : Nat), (105 : Nat), (137 : Nat), (176 : Nat)), ((106 : Nat), (136 : Nat), (137 : Nat), (176 : Nat))]) ∈ lw_all := lw_g (lw_at lw_m2 148 rfl) rfl
theorem q417 : (Jvm.Cond.instanceMethod ({ cls := "ArrayMaker", name := "get", desc := "(IIII)J" } : Jvm.MethodName)) ∈ lw_all := lw_g (lw_at lw_m2 150 rfl) rfl
theorem q418 : (Jvm.Cond.selects "ArrayMaker" ({ cls := "ArrayMaker", name := "get", desc := "(IIII)J" } : Jvm.MethodName) ({ cls := "ArrayMaker", name := "get", desc := "(IIII)J" } : Jvm.MethodName)) ∈ lw_all := lw_g (lw_at lw_m2 151 rfl) rfl
theorem q419 : (Jvm.Cond.codeWith ({ cls := "ArrayMaker", name := "get", desc := "(IIII)J" } : Jvm.MethodName) prog_1_method_32_code (10 : Nat) (Option.some Jvm.ClassFile.FieldType.long) [((46 : Nat), (70 : Nat), (153 : Nat), (178 : Nat)), ((71 : Nat), (103 : Nat), (153 : Nat), (178 : Nat)), ((104 : Nat), (128 : Nat), (153 : Nat), (178 : Nat)), ((129 : Nat), (152 : Nat), (153 : Nat), (178 : Nat)), ((46 : Nat), (70 : Nat), (162 : Nat), (117 : Nat)), ((71 : Nat), (103 : Nat), (162 : Nat), (117 : Nat)), ((104 : Nat), (128 : Nat), (162 : Nat), (117 : Nat)), ((129 : Nat), (152 : Nat), (162 : Nat), (117 : Nat))]) ∈ lw_all := lw_g (lw_at lw_m2 152 rfl) rfl
theorem q420 : (Jvm.Cond.methodLink "ArrayMaker" (184 : Nat) ({ cls := "ArrayMaker", name := "lay", desc := "(III)V" } : Jvm.MethodName)) ∈ lw_all := lw_g (lw_at lw_m2 153 rfl) rfl
theorem q421 : (Jvm.Cond.privateMethod ({ cls := "ArrayMaker", name := "lay", desc := "(III)V" } : Jvm.MethodName)) ∈ lw_tbl := lw_at lw_m2 154 rfl
theorem q422 : (Jvm.Cond.instanceMethod ({ cls := "ArrayMaker", name := "lay", desc := "(III)V" } : Jvm.MethodName)) ∈ lw_all := lw_g (lw_at lw_m2 155 rfl) rfl
theorem q423 : (Jvm.Cond.code ({ cls := "ArrayMaker", name := "lay", desc := "(III)V" } : Jvm.MethodName) prog_1_method_30_code (4 : Nat) (Option.none : Option Jvm.ClassFile.FieldType)) ∈ lw_all := lw_g (lw_at lw_m2 156 rfl) rfl
theorem q424 : (Jvm.Cond.methodLink "ArrayMaker" (188 : Nat) ({ cls := "ArrayMaker", name := "within", desc := "(LArrayMaker$Shape;I)I" } : Jvm.MethodName)) ∈ lw_all := lw_g (lw_at lw_m2 157 rfl) rfl
theorem q425 : (Jvm.Cond.static ({ cls := "ArrayMaker", name := "within", desc := "(LArrayMaker$Shape;I)I" } : Jvm.MethodName)) ∈ lw_all := lw_g (lw_at lw_m2 158 rfl) rfl
theorem q426 : (Jvm.Cond.code ({ cls := "ArrayMaker", name := "within", desc := "(LArrayMaker$Shape;I)I" } : Jvm.MethodName) prog_1_method_31_code (4 : Nat) (Option.some Jvm.ClassFile.FieldType.int)) ∈ lw_all := lw_g (lw_at lw_m2 159 rfl) rfl
theorem q427 : (Jvm.Cond.methodLink "ArrayMaker" (84 : Nat) ({ cls := "ArrayMaker", name := "at", desc := "(Ljava/lang/Object;I)J" } : Jvm.MethodName)) ∈ lw_all := lw_g (lw_at lw_m2 160 rfl) rfl
theorem q428 : (Jvm.Cond.static ({ cls := "ArrayMaker", name := "at", desc := "(Ljava/lang/Object;I)J" } : Jvm.MethodName)) ∈ lw_all := lw_g (lw_at lw_m2 161 rfl) rfl
theorem q429 : (Jvm.Cond.code ({ cls := "ArrayMaker", name := "at", desc := "(Ljava/lang/Object;I)J" } : Jvm.MethodName) prog_1_method_9_code (2 : Nat) (Option.some Jvm.ClassFile.FieldType.long)) ∈ lw_all := lw_g (lw_at lw_m2 162 rfl) rfl
theorem q431 : (Jvm.Cond.instanceMethod ({ cls := "ArrayMaker", name := "put", desc := "(IIIIJ)I" } : Jvm.MethodName)) ∈ lw_all := lw_g (lw_at lw_m2 164 rfl) rfl
theorem q432 : (Jvm.Cond.selects "ArrayMaker" ({ cls := "ArrayMaker", name := "put", desc := "(IIIIJ)I" } : Jvm.MethodName) ({ cls := "ArrayMaker", name := "put", desc := "(IIIIJ)I" } : Jvm.MethodName)) ∈ lw_all := lw_g (lw_at lw_m2 165 rfl) rfl
theorem q433 : (Jvm.Cond.codeWith ({ cls := "ArrayMaker", name := "put", desc := "(IIIIJ)I" } : Jvm.MethodName) prog_1_method_33_code (10 : Nat) (Option.some Jvm.ClassFile.FieldType.int) [((45 : Nat), (68 : Nat), (146 : Nat), (178 : Nat)), ((69 : Nat), (99 : Nat), (146 : Nat), (178 : Nat)), ((100 : Nat), (123 : Nat), (146 : Nat), (178 : Nat)), ((124 : Nat), (145 : Nat), (146 : Nat), (178 : Nat)), ((45 : Nat), (68 : Nat), (154 : Nat), (117 : Nat)), ((69 : Nat), (99 : Nat), (154 : Nat), (117 : Nat)), ((100 : Nat), (123 : Nat), (154 : Nat), (117 : Nat)), ((124 : Nat), (145 : Nat), (154 : Nat), (117 : Nat))]) ∈ lw_all := lw_g (lw_at lw_m2 166 rfl) rfl
theorem q434 : (Jvm.Cond.methodLink "ArrayMaker" (92 : Nat) ({ cls := "ArrayMaker", name := "put", desc := "(Ljava/lang/Object;IJ)V" } : Jvm.MethodName)) ∈ lw_all := lw_g (lw_at lw_m2 167 rfl) rfl
theorem q435 : (Jvm.Cond.static ({ cls := "ArrayMaker", name := "put", desc := "(Ljava/lang/Object;IJ)V" } : Jvm.MethodName)) ∈ lw_all := lw_g (lw_at lw_m2 168 rfl) rfl
theorem q436 : (Jvm.Cond.code ({ cls := "ArrayMaker", name := "put", desc := "(Ljava/lang/Object;IJ)V" } : Jvm.MethodName) prog_1_method_10_code (4 : Nat) (Option.none : Option Jvm.ClassFile.FieldType)) ∈ lw_all := lw_g (lw_at lw_m2 169 rfl) rfl
theorem q438 : (Jvm.Cond.methodLink "ArrayMaker" (72 : Nat) ({ cls := "ArrayMaker$Box", name := "<init>", desc := "(J)V" } : Jvm.MethodName)) ∈ lw_all := lw_g (lw_at lw_m2 171 rfl) rfl
theorem q443 : (Jvm.Cond.fieldLinkNest "ArrayMaker" (68 : Nat) "ArrayMaker$Box" "number" "J" "ArrayMaker") ∈ lw_tbl := lw_at lw_m2 176 rfl
theorem q448 : (Jvm.Cond.instanceMethod ({ cls := "ArrayMaker", name := "empty", desc := "(IIII)I" } : Jvm.MethodName)) ∈ lw_all := lw_g (lw_at lw_m2 181 rfl) rfl
theorem q449 : (Jvm.Cond.selects "ArrayMaker" ({ cls := "ArrayMaker", name := "empty", desc := "(IIII)I" } : Jvm.MethodName) ({ cls := "ArrayMaker", name := "empty", desc := "(IIII)I" } : Jvm.MethodName)) ∈ lw_all := lw_g (lw_at lw_m2 182 rfl) rfl
theorem q450 : (Jvm.Cond.codeWith ({ cls := "ArrayMaker", name := "empty", desc := "(IIII)I" } : Jvm.MethodName) prog_1_method_34_code (7 : Nat) (Option.some Jvm.ClassFile.FieldType.int) [((23 : Nat), (67 : Nat), (94 : Nat), (176 : Nat)), ((68 : Nat), (93 : Nat), (94 : Nat), (176 : Nat))]) ∈ lw_all := lw_g (lw_at lw_m2 183 rfl) rfl
theorem q452 : (Jvm.Cond.instanceMethod ({ cls := "ArrayMaker", name := "pair", desc := "(IIIJ)I" } : Jvm.MethodName)) ∈ lw_all := lw_g (lw_at lw_m2 185 rfl) rfl
theorem q453 : (Jvm.Cond.selects "ArrayMaker" ({ cls := "ArrayMaker", name := "pair", desc := "(IIIJ)I" } : Jvm.MethodName) ({ cls := "ArrayMaker", name := "pair", desc := "(IIIJ)I" } : Jvm.MethodName)) ∈ lw_all := lw_g (lw_at lw_m2 186 rfl) rfl
theorem q454 : (Jvm.Cond.code ({ cls := "ArrayMaker", name := "pair", desc := "(IIIJ)I" } : Jvm.MethodName) prog_1_method_35_code (6 : Nat) (Option.some Jvm.ClassFile.FieldType.int)) ∈ lw_all := lw_g (lw_at lw_m2 187 rfl) rfl
theorem q456 : (Jvm.Cond.instanceMethod ({ cls := "ArrayMaker", name := "gather", desc := "(II)I" } : Jvm.MethodName)) ∈ lw_all := lw_g (lw_at lw_m2 189 rfl) rfl
theorem q457 : (Jvm.Cond.selects "ArrayMaker" ({ cls := "ArrayMaker", name := "gather", desc := "(II)I" } : Jvm.MethodName) ({ cls := "ArrayMaker", name := "gather", desc := "(II)I" } : Jvm.MethodName)) ∈ lw_all := lw_g (lw_at lw_m2 190 rfl) rfl
theorem q458 : (Jvm.Cond.codeWith ({ cls := "ArrayMaker", name := "gather", desc := "(II)I" } : Jvm.MethodName) prog_1_method_36_code (7 : Nat) (Option.some Jvm.ClassFile.FieldType.int) [((64 : Nat), (116 : Nat), (147 : Nat), (199 : Nat)), ((117 : Nat), (144 : Nat), (147 : Nat), (199 : Nat))]) ∈ lw_all := lw_g (lw_at lw_m2 191 rfl) rfl
theorem q459 : (Jvm.Cond.classLink "ArrayMaker" (199 : Nat) "java/lang/ArithmeticException") ∈ lw_all := lw_g (lw_at lw_m2 192 rfl) rfl
theorem q473 : (Jvm.Cond.methodLink "ArrayMaker" (195 : Nat) ({ cls := "ArrayMaker", name := "join", desc := "(Ljava/lang/Object;IJI)V" } : Jvm.MethodName)) ∈ lw_all := lw_g (lw_at lw_m2 206 rfl) rfl
theorem q474 : (Jvm.Cond.static ({ cls := "ArrayMaker", name := "join", desc := "(Ljava/lang/Object;IJI)V" } : Jvm.MethodName)) ∈ lw_all := lw_g (lw_at lw_m2 207 rfl) rfl
theorem q475 : (Jvm.Cond.code ({ cls := "ArrayMaker", name := "join", desc := "(Ljava/lang/Object;IJI)V" } : Jvm.MethodName) prog_1_method_12_code (6 : Nat) (Option.none : Option Jvm.ClassFile.FieldType)) ∈ lw_all := lw_g (lw_at lw_m2 208 rfl) rfl
theorem q476 : (Jvm.Cond.methodLink "ArrayMaker" (88 : Nat) ({ cls := "ArrayMaker", name := "joined", desc := "(JJI)J" } : Jvm.MethodName)) ∈ lw_all := lw_g (lw_at lw_m2 209 rfl) rfl
theorem q477 : (Jvm.Cond.static ({ cls := "ArrayMaker", name := "joined", desc := "(JJI)J" } : Jvm.MethodName)) ∈ lw_all := lw_g (lw_at lw_m2 210 rfl) rfl
theorem q478 : (Jvm.Cond.code ({ cls := "ArrayMaker", name := "joined", desc := "(JJI)J" } : Jvm.MethodName) prog_1_method_11_code (5 : Nat) (Option.some Jvm.ClassFile.FieldType.long)) ∈ lw_all := lw_g (lw_at lw_m2 211 rfl) rfl
theorem q479 : (Jvm.Cond.methodLink "ArrayMaker" (75 : Nat) ({ cls := "java/lang/Math", name := "max", desc := "(JJ)J" } : Jvm.MethodName)) ∈ lw_all := lw_g (lw_at lw_m2 212 rfl) rfl
theorem q480 : (Jvm.Cond.methodLink "ArrayMaker" (81 : Nat) ({ cls := "java/lang/Math", name := "min", desc := "(JJ)J" } : Jvm.MethodName)) ∈ lw_all := lw_g (lw_at lw_m2 213 rfl) rfl
theorem q482 : (Jvm.Cond.instanceMethod ({ cls := "ArrayMaker", name := "join", desc := "(III)I" } : Jvm.MethodName)) ∈ lw_all := lw_g (lw_at lw_m2 215 rfl) rfl
theorem q483 : (Jvm.Cond.selects "ArrayMaker" ({ cls := "ArrayMaker", name := "join", desc := "(III)I" } : Jvm.MethodName) ({ cls := "ArrayMaker", name := "join", desc := "(III)I" } : Jvm.MethodName)) ∈ lw_all := lw_g (lw_at lw_m2 216 rfl) rfl
theorem q484 : (Jvm.Cond.codeWith ({ cls := "ArrayMaker", name := "join", desc := "(III)I" } : Jvm.MethodName) prog_1_method_37_code (8 : Nat) (Option.some Jvm.ClassFile.FieldType.int) [((112 : Nat), (143 : Nat), (146 : Nat), (178 : Nat)), ((112 : Nat), (143 : Nat), (156 : Nat), (199 : Nat))]) ∈ lw_all := lw_g (lw_at lw_m2 217 rfl) rfl
theorem q486 : (Jvm.Cond.instanceMethod ({ cls := "ArrayMaker", name := "sum", desc := "(I)J" } : Jvm.MethodName)) ∈ lw_all := lw_g (lw_at lw_m2 219 rfl) rfl
theorem q487 : (Jvm.Cond.selects "ArrayMaker" ({ cls := "ArrayMaker", name := "sum", desc := "(I)J" } : Jvm.MethodName) ({ cls := "ArrayMaker", name := "sum", desc := "(I)J" } : Jvm.MethodName)) ∈ lw_all := lw_g (lw_at lw_m2 220 rfl) rfl
theorem q488 : (Jvm.Cond.code ({ cls := "ArrayMaker", name := "sum", desc := "(I)J" } : Jvm.MethodName) prog_1_method_39_code (9 : Nat) (Option.some Jvm.ClassFile.FieldType.long)) ∈ lw_all := lw_g (lw_at lw_m2 221 rfl) rfl
theorem q489 : (Jvm.Cond.methodLink "ArrayMaker" (201 : Nat) ({ cls := "ArrayMaker", name := "sumOf", desc := "(Ljava/lang/Object;)J" } : Jvm.MethodName)) ∈ lw_all := lw_g (lw_at lw_m2 222 rfl) rfl
theorem q490 : (Jvm.Cond.static ({ cls := "ArrayMaker", name := "sumOf", desc := "(Ljava/lang/Object;)J" } : Jvm.MethodName)) ∈ lw_all := lw_g (lw_at lw_m2 223 rfl) rfl
theorem q491 : (Jvm.Cond.code ({ cls := "ArrayMaker", name := "sumOf", desc := "(Ljava/lang/Object;)J" } : Jvm.MethodName) prog_1_method_38_code (5 : Nat) (Option.some Jvm.ClassFile.FieldType.long)) ∈ lw_all := lw_g (lw_at lw_m2 224 rfl) rfl
theorem q493 : (Jvm.Cond.instanceMethod ({ cls := "ArrayMaker", name := "mean", desc := "(I)J" } : Jvm.MethodName)) ∈ lw_all := lw_g (lw_at lw_m2 226 rfl) rfl
theorem q494 : (Jvm.Cond.selects "ArrayMaker" ({ cls := "ArrayMaker", name := "mean", desc := "(I)J" } : Jvm.MethodName) ({ cls := "ArrayMaker", name := "mean", desc := "(I)J" } : Jvm.MethodName)) ∈ lw_all := lw_g (lw_at lw_m2 227 rfl) rfl
theorem q495 : (Jvm.Cond.codeWith ({ cls := "ArrayMaker", name := "mean", desc := "(I)J" } : Jvm.MethodName) prog_1_method_40_code (5 : Nat) (Option.some Jvm.ClassFile.FieldType.long) [((41 : Nat), (58 : Nat), (59 : Nat), (199 : Nat))]) ∈ lw_all := lw_g (lw_at lw_m2 228 rfl) rfl
theorem q497 : (Jvm.Cond.instanceMethod ({ cls := "ArrayMaker", name := "about", desc := "(II)I" } : Jvm.MethodName)) ∈ lw_all := lw_g (lw_at lw_m2 230 rfl) rfl
theorem q498 : (Jvm.Cond.selects "ArrayMaker" ({ cls := "ArrayMaker", name := "about", desc := "(II)I" } : Jvm.MethodName) ({ cls := "ArrayMaker", name := "about", desc := "(II)I" } : Jvm.MethodName)) ∈ lw_all := lw_g (lw_at lw_m2 231 rfl) rfl
theorem q499 : (Jvm.Cond.code ({ cls := "ArrayMaker", name := "about", desc := "(II)I" } : Jvm.MethodName) prog_1_method_42_code (5 : Nat) (Option.some Jvm.ClassFile.FieldType.int)) ∈ lw_all := lw_g (lw_at lw_m2 232 rfl) rfl
theorem q500 : (Jvm.Cond.methodLink "ArrayMaker" (205 : Nat) ({ cls := "ArrayMaker", name := "itemsOf", desc := "(Ljava/lang/Object;)I" } : Jvm.MethodName)) ∈ lw_all := lw_g (lw_at lw_m2 233 rfl) rfl
theorem q501 : (Jvm.Cond.static ({ cls := "ArrayMaker", name := "itemsOf", desc := "(Ljava/lang/Object;)I" } : Jvm.MethodName)) ∈ lw_all := lw_g (lw_at lw_m2 234 rfl) rfl
theorem q502 : (Jvm.Cond.code ({ cls := "ArrayMaker", name := "itemsOf", desc := "(Ljava/lang/Object;)I" } : Jvm.MethodName) prog_1_method_41_code (6 : Nat) (Option.some Jvm.ClassFile.FieldType.int)) ∈ lw_all := lw_g (lw_at lw_m2 235 rfl) rfl
theorem q504 : (Jvm.Cond.instanceMethod ({ cls := "ArrayMaker", name := "same", desc := "(II)I" } : Jvm.MethodName)) ∈ lw_all := lw_g (lw_at lw_m2 237 rfl) rfl
theorem q505 : (Jvm.Cond.selects "ArrayMaker" ({ cls := "ArrayMaker", name := "same", desc := "(II)I" } : Jvm.MethodName) ({ cls := "ArrayMaker", name := "same", desc := "(II)I" } : Jvm.MethodName)) ∈ lw_all := lw_g (lw_at lw_m2 238 rfl) rfl
theorem q506 : (Jvm.Cond.code ({ cls := "ArrayMaker", name := "same", desc := "(II)I" } : Jvm.MethodName) prog_1_method_44_code (6 : Nat) (Option.some Jvm.ClassFile.FieldType.int)) ∈ lw_all := lw_g (lw_at lw_m2 239 rfl) rfl
theorem q507 : (Jvm.Cond.methodLink "ArrayMaker" (208 : Nat) ({ cls := "ArrayMaker", name := "sameRows", desc := "([[I[[I)Z" } : Jvm.MethodName)) ∈ lw_all := lw_g (lw_at lw_m3 0 rfl) rfl
theorem q508 : (Jvm.Cond.static ({ cls := "ArrayMaker", name := "sameRows", desc := "([[I[[I)Z" } : Jvm.MethodName)) ∈ lw_all := lw_g (lw_at lw_m3 1 rfl) rfl
theorem q509 : (Jvm.Cond.code ({ cls := "ArrayMaker", name := "sameRows", desc := "([[I[[I)Z" } : Jvm.MethodName) prog_1_method_43_code (4 : Nat) (Option.some Jvm.ClassFile.FieldType.boolean)) ∈ lw_all := lw_g (lw_at lw_m3 2 rfl) rfl
theorem q511 : (Jvm.Cond.instanceMethod ({ cls := "ArrayMaker", name := "compare", desc := "(II)I" } : Jvm.MethodName)) ∈ lw_all := lw_g (lw_at lw_m3 4 rfl) rfl
theorem q512 : (Jvm.Cond.selects "ArrayMaker" ({ cls := "ArrayMaker", name := "compare", desc := "(II)I" } : Jvm.MethodName) ({ cls := "ArrayMaker", name := "compare", desc := "(II)I" } : Jvm.MethodName)) ∈ lw_all := lw_g (lw_at lw_m3 5 rfl) rfl
theorem q513 : (Jvm.Cond.code ({ cls := "ArrayMaker", name := "compare", desc := "(II)I" } : Jvm.MethodName) prog_1_method_45_code (7 : Nat) (Option.some Jvm.ClassFile.FieldType.int)) ∈ lw_all := lw_g (lw_at lw_m3 6 rfl) rfl
theorem q514 : (Jvm.Cond.methodLink "ArrayMaker" (212 : Nat) ({ cls := "java/lang/Math", name := "min", desc := "(II)I" } : Jvm.MethodName)) ∈ lw_all := lw_g (lw_at lw_m3 7 rfl) rfl
theorem q517 : (Jvm.Cond.methodLink "ArrayMaker" (215 : Nat) ({ cls := "java/lang/Integer", name := "compare", desc := "(II)I" } : Jvm.MethodName)) ∈ lw_all := lw_g (lw_at lw_m3 10 rfl) rfl
theorem q521 : (Jvm.Cond.instanceMethod ({ cls := "ArrayMaker", name := "clear", desc := "()I" } : Jvm.MethodName)) ∈ lw_all := lw_g (lw_at lw_m3 14 rfl) rfl
theorem q522 : (Jvm.Cond.selects "ArrayMaker" ({ cls := "ArrayMaker", name := "clear", desc := "()I" } : Jvm.MethodName) ({ cls := "ArrayMaker", name := "clear", desc := "()I" } : Jvm.MethodName)) ∈ lw_all := lw_g (lw_at lw_m3 15 rfl) rfl
theorem q523 : (Jvm.Cond.code ({ cls := "ArrayMaker", name := "clear", desc := "()I" } : Jvm.MethodName) prog_1_method_46_code (3 : Nat) (Option.some Jvm.ClassFile.FieldType.int)) ∈ lw_all := lw_g (lw_at lw_m3 16 rfl) rfl
theorem in_X0 : ∀ w ∈ wsX00, w ∈ lw_all := lw_in wsX00 [103, 105, 107, 109, 111, 113, 115, 117, 119, 121, 123] (by decide +kernel) (by decide +kernel)
end
section
set_option maxRecDepth 100000
/-! THE WALK OVER A MEMORY THAT IS A MAP: what the heap holds above the law's start is told by a map from addresses to cells -/
abbrev Mem : Type := Nat → Option va_E
/-- the law's start, the classes' numbers and slots, the array classes' numbers -/
abbrev Gl : Type := State × va_G × (Nat → ClassId)
abbrev Cx : Type := Program × Launch × Env × Room × State × MethodId × Array Value × List Frame × Method × Code
/-- a method: code, locals, own class, answer's type, room, name, handlers -/
abbrev Mi : Type := ByteArray × Nat × String × Option FieldType × Room × String × List (Nat × Nat × Nat × Nat)
def amCl : List vw_C := [(RX0, TX0, 11), (RX1, TX1, 3), (RX2, TX2, 2), (RX3, TX3, 25), (RX4, TX4, 1)]
def amTy (g : Gl) : List (ClassId × FieldType) := [(g.2.2 0, .int), (g.2.2 1, .long), (g.2.2 2, .byte), (g.2.2 3, .boolean), (g.2.2 4, .object RX2), (g.2.2 5, .object RX4), (g.2.2 6, .array .int)]
/-- what is known of the law's start -/
def Start (g : Gl) (l : Launch) : Prop := va_K g.2.1 amCl (amTy g) g.1 ∧ (∃ b : Nat, (∀ w ∈ lw_tbl, w.before #[Value.ref b] g.1 = true) ∧ (Jvm.Cond.and given_1 narrow_1).before #[Value.ref b] g.1 = true) ∧ modulesRight_1 g.1 = true ∧ l.flags = flags0
def Ok (κ : Cx) (g : Gl) (mi : Mi) : Prop := match κ with
  | (p, l, _, R, s, m, args, _, meth, c) => p.tables.exec = Jvm.exec ∧ c.code = mi.1 ∧ c.maxLocals = mi.2.1 ∧ s.vm.findClass mi.2.2.1 = some m.cls ∧ (∀ w ∈ lw_all, w.before args s = true) ∧ meth.locks = false ∧ meth.sig.returnType = mi.2.2.2.1 ∧ R = mi.2.2.2.2.1 ∧ g.1.WarmedH s.vm ∧ Start g l ∧ meth.name = mi.2.2.2.2.2.1 ∧ c.exceptionTable.toList.map (fun h => (h.startPc, h.endPc, h.handlerPc, h.catchType)) = mi.2.2.2.2.2.2
/-- the heap: below the law's start as it was; above, what the map says -/
def mP (g : Gl) (μ : Mem) (H : Heap) : Prop := (∀ q : Nat, q < g.1.heap.size → H[q]? = g.1.heap[q]?) ∧ ∀ (a : Nat) (e : va_E), μ a = some e → g.1.heap.size ≤ a ∧ va_at g.2.1 amCl (a, e) H
theorem mP.size {g : Gl} {μ : Mem} {H : Heap} (h : mP g μ H) : g.1.heap.size ≤ H.size := by
  rcases Nat.eq_zero_or_pos g.1.heap.size with e | e
  · omega
  · have h1 := h.1 (g.1.heap.size - 1) (by omega)
    rw [Array.getElem?_eq_getElem (by omega : g.1.heap.size - 1 < g.1.heap.size)] at h1
    have h2 := (Array.getElem?_eq_some_iff.mp h1).1
    omega
theorem mP.lt {g : Gl} {μ : Mem} {H : Heap} (h : mP g μ H) {a : Nat} {e : va_E} (ha : μ a = some e) : a < H.size := (h.2 a e ha).2.lt
theorem mP.fresh {g : Gl} {μ : Mem} {H : Heap} (h : mP g μ H) : μ H.size = none := by
  cases e : μ H.size with
  | none => rfl
  | some x => exact absurd (h.lt e) (Nat.lt_irrefl _)
theorem mP.put {g : Gl} {μ : Mem} {H H1 : Heap} {a : Nat} {e0 e : va_E} (h : mP g μ H) (ha : μ a = some e0) (he : va_at g.2.1 amCl (a, e) H1) (oq : ∀ q : Nat, q ≠ a → H1[q]? = H[q]?) : mP g (va_up μ a (some e)) H1 := by
  have hge := (h.2 a e0 ha).1
  refine ⟨fun q hq => ?_, fun x y hx => ?_⟩
  · rw [oq q (by omega)]; exact h.1 q hq
  · by_cases hxa : x = a
    · subst hxa
      rw [va_up_self] at hx
      cases hx
      exact ⟨hge, he⟩
    · rw [va_up_ne _ _ hxa] at hx
      exact ⟨(h.2 x y hx).1, (h.2 x y hx).2.kept (oq x hxa)⟩
theorem mP.push {g : Gl} {μ : Mem} {H H1 : Heap} {e : va_E} (h : mP g μ H) (he : va_at g.2.1 amCl (H.size, e) H1) (oq : ∀ q : Nat, q < H.size → H1[q]? = H[q]?) : mP g (va_up μ H.size (some e)) H1 := by
  have hge := h.size
  refine ⟨fun q hq => ?_, fun x y hx => ?_⟩
  · rw [oq q (by omega)]; exact h.1 q hq
  · by_cases hxa : x = H.size
    · subst hxa
      rw [va_up_self] at hx
      cases hx
      exact ⟨hge, he⟩
    · rw [va_up_ne _ _ hxa] at hx
      exact ⟨(h.2 x y hx).1, (h.2 x y hx).2.kept (oq x (h.lt hx))⟩
/-- more cells than the map tells -/
theorem mP.more {g : Gl} {μ : Mem} {H H1 : Heap} (h : mP g μ H) (oq : ∀ q : Nat, q < H.size → H1[q]? = H[q]?) : mP g μ H1 := by
  have hge := h.size
  refine ⟨fun q hq => ?_, fun x y hx => ?_⟩
  · rw [oq q (by omega)]; exact h.1 q hq
  · exact ⟨(h.2 x y hx).1, (h.2 x y hx).2.kept (oq x (h.lt hx))⟩
theorem mP.sub {g : Gl} {μ μ' : Mem} {H : Heap} (h : mP g μ H) (hs : ∀ a e, μ' a = some e → μ a = some e) : mP g μ' H := ⟨h.1, fun a e ha => h.2 a e (hs a e ha)⟩
theorem lc_app {n : Nat} {locs L : List Loc} (h : ∀ q ∈ locs, n ≤ q.base) (h2 : ∀ q ∈ L, n ≤ q.base) : ∀ q ∈ locs ++ L, n ≤ q.base := fun q hq => by
  rcases List.mem_append.mp hq with h1 | h1
  · exact h q h1
  · exact h2 q h1
theorem lc_one {n a i : Nat} (h : n ≤ a) : ∀ q ∈ ([⟨a, i⟩] : List Loc), n ≤ q.base := fun q hq => by
  rw [List.mem_singleton.mp hq]; exact h
/-- THE WALK: from here, with this memory, these locals and this stack, the method comes to Q -/
def V (κ : Cx) (g : Gl) (mi : Mi) (Q : State → Prop) (μ : Mem) (nc ns pc : Nat) (lv : List (Nat × Value)) (st : List Value) : Prop := match κ with
  | (p, l, e, R, s, m, args, below, meth, c) => Ok (p, l, e, R, s, m, args, below, meth, c) g mi → ∀ (H : Heap) (locs : List Loc) (ls : Array Slot), mP g μ H → (∀ q ∈ locs, g.1.heap.size ≤ q.base) → lv_has ls mi.2.1 lv → W p l e R s m args below meth c H locs nc ns Q (F0 m pc ls st)
section
variable {κ : Cx} {g : Gl} {mi : Mi} {Q : State → Prop} {μ : Mem} {nc ns pc : Nat} {lv : List (Nat × Value)} {st : List Value}
theorem v_iconst {n : Int} {v : Int32} (hd : decode mi.1 pc = .ok (.iconst n, 1)) (hv : Int32.ofInt n = v) (kk : V κ g mi Q μ nc ns (pc + 1) lv (.int v :: st)) : V κ g mi Q μ nc ns pc lv (st) := by
  obtain ⟨p, l, e, R, s, m, args, below, meth, c⟩ := κ
  intro hO H locs ls hP hL hl
  exact lv_iconst hO.1 hO.2.1 hd hv (kk hO H locs ls hP hL hl)
theorem v_bipush {n : Int} {v : Int32} (hd : decode mi.1 pc = .ok (.bipush n, 2)) (hv : (Int8.ofInt n).toInt32 = v) (kk : V κ g mi Q μ nc ns (pc + 2) lv (.int v :: st)) : V κ g mi Q μ nc ns pc lv (st) := by
  obtain ⟨p, l, e, R, s, m, args, below, meth, c⟩ := κ
  intro hO H locs ls hP hL hl
  exact lv_bipush hO.1 hO.2.1 hd hv (kk hO H locs ls hP hL hl)
theorem v_sipush {n : Int} {v : Int32} (hd : decode mi.1 pc = .ok (.sipush n, 3)) (hv : (Int16.ofInt n).toInt32 = v) (kk : V κ g mi Q μ nc ns (pc + 3) lv (.int v :: st)) : V κ g mi Q μ nc ns pc lv (st) := by
  obtain ⟨p, l, e, R, s, m, args, below, meth, c⟩ := κ
  intro hO H locs ls hP hL hl
  exact lv_sipush hO.1 hO.2.1 hd hv (kk hO H locs ls hP hL hl)
theorem v_lconst {n : Fin 2} {v : Int64} (hd : decode mi.1 pc = .ok (.lconst n, 1)) (hv : Int64.ofNat (n : Nat) = v) (kk : V κ g mi Q μ nc ns (pc + 1) lv (.long v :: st)) : V κ g mi Q μ nc ns pc lv (st) := by
  obtain ⟨p, l, e, R, s, m, args, below, meth, c⟩ := κ
  intro hO H locs ls hP hL hl
  exact lv_lconst hO.1 hO.2.1 hd hv (kk hO H locs ls hP hL hl)
theorem v_iload_n {k : Fin 4} {i : Nat} {x : Int32} (hd : decode mi.1 pc = .ok (.iload_n k, 1)) (hi : (k : Nat) = i) (j : Nat) (hj : lv[j]? = some (i, .int x)) (kk : V κ g mi Q μ nc ns (pc + 1) lv (.int x :: st)) : V κ g mi Q μ nc ns pc lv (st) := by
  obtain ⟨p, l, e, R, s, m, args, below, meth, c⟩ := κ
  intro hO H locs ls hP hL hl
  exact lv_iload_n hO.1 hO.2.1 hd hi (lv_at hl j hj) (kk hO H locs ls hP hL hl)
theorem v_iload {i : Nat} {x : Int32} (hd : decode mi.1 pc = .ok (.iload i, 2)) (j : Nat) (hj : lv[j]? = some (i, .int x)) (kk : V κ g mi Q μ nc ns (pc + 2) lv (.int x :: st)) : V κ g mi Q μ nc ns pc lv (st) := by
  obtain ⟨p, l, e, R, s, m, args, below, meth, c⟩ := κ
  intro hO H locs ls hP hL hl
  exact lv_iload hO.1 hO.2.1 hd (lv_at hl j hj) (kk hO H locs ls hP hL hl)
theorem v_lload_n {k : Fin 4} {i : Nat} {x : Int64} (hd : decode mi.1 pc = .ok (.lload_n k, 1)) (hi : (k : Nat) = i) (j : Nat) (hj : lv[j]? = some (i, .long x)) (kk : V κ g mi Q μ nc ns (pc + 1) lv (.long x :: st)) : V κ g mi Q μ nc ns pc lv (st) := by
  obtain ⟨p, l, e, R, s, m, args, below, meth, c⟩ := κ
  intro hO H locs ls hP hL hl
  exact lv_lload_n hO.1 hO.2.1 hd hi (lv_at hl j hj) (kk hO H locs ls hP hL hl)
theorem v_lload {i : Nat} {x : Int64} (hd : decode mi.1 pc = .ok (.lload i, 2)) (j : Nat) (hj : lv[j]? = some (i, .long x)) (kk : V κ g mi Q μ nc ns (pc + 2) lv (.long x :: st)) : V κ g mi Q μ nc ns pc lv (st) := by
  obtain ⟨p, l, e, R, s, m, args, below, meth, c⟩ := κ
  intro hO H locs ls hP hL hl
  exact lv_lload hO.1 hO.2.1 hd (lv_at hl j hj) (kk hO H locs ls hP hL hl)
theorem v_aload_n {k : Fin 4} {i : Nat} {x : Nat} (hd : decode mi.1 pc = .ok (.aload_n k, 1)) (hi : (k : Nat) = i) (j : Nat) (hj : lv[j]? = some (i, .ref x)) (kk : V κ g mi Q μ nc ns (pc + 1) lv (.ref x :: st)) : V κ g mi Q μ nc ns pc lv (st) := by
  obtain ⟨p, l, e, R, s, m, args, below, meth, c⟩ := κ
  intro hO H locs ls hP hL hl
  exact lv_aload_n hO.1 hO.2.1 hd hi (lv_at hl j hj) (kk hO H locs ls hP hL hl)
theorem v_aload {i : Nat} {x : Nat} (hd : decode mi.1 pc = .ok (.aload i, 2)) (j : Nat) (hj : lv[j]? = some (i, .ref x)) (kk : V κ g mi Q μ nc ns (pc + 2) lv (.ref x :: st)) : V κ g mi Q μ nc ns pc lv (st) := by
  obtain ⟨p, l, e, R, s, m, args, below, meth, c⟩ := κ
  intro hO H locs ls hP hL hl
  exact lv_aload hO.1 hO.2.1 hd (lv_at hl j hj) (kk hO H locs ls hP hL hl)
theorem v_istore_n {k : Fin 4} {i : Nat} {x : Int32} {lv' : List (Nat × Value)} (hd : decode mi.1 pc = .ok (.istore_n k, 1)) (hi : (k : Nat) = i) (hn : i < mi.2.1) (hl' : (i, Value.int x) :: lv.filter (fun q => !(q.1 == i) && !(q.1 + 1 == i && q.2.category == 2)) = lv') (kk : V κ g mi Q μ nc ns (pc + 1) lv' st) : V κ g mi Q μ nc ns pc lv (Value.int x :: st) := by
  obtain ⟨p, l, e, R, s, m, args, below, meth, c⟩ := κ
  intro hO H locs ls hP hL hl
  exact lv_istore_n hO.1 hO.2.1 hd hi hl hn hl' (fun ls hl => kk hO H locs ls hP hL hl)
theorem v_istore {i : Nat} {x : Int32} {lv' : List (Nat × Value)} (hd : decode mi.1 pc = .ok (.istore i, 2)) (hn : i < mi.2.1) (hl' : (i, Value.int x) :: lv.filter (fun q => !(q.1 == i) && !(q.1 + 1 == i && q.2.category == 2)) = lv') (kk : V κ g mi Q μ nc ns (pc + 2) lv' st) : V κ g mi Q μ nc ns pc lv (Value.int x :: st) := by
  obtain ⟨p, l, e, R, s, m, args, below, meth, c⟩ := κ
  intro hO H locs ls hP hL hl
  exact lv_istore hO.1 hO.2.1 hd hl hn hl' (fun ls hl => kk hO H locs ls hP hL hl)
theorem v_astore_n {k : Fin 4} {i : Nat} {x : Nat} {lv' : List (Nat × Value)} (hd : decode mi.1 pc = .ok (.astore_n k, 1)) (hi : (k : Nat) = i) (hn : i < mi.2.1) (hl' : (i, Value.ref x) :: lv.filter (fun q => !(q.1 == i) && !(q.1 + 1 == i && q.2.category == 2)) = lv') (kk : V κ g mi Q μ nc ns (pc + 1) lv' st) : V κ g mi Q μ nc ns pc lv (Value.ref x :: st) := by
  obtain ⟨p, l, e, R, s, m, args, below, meth, c⟩ := κ
  intro hO H locs ls hP hL hl
  exact lv_astore_n hO.1 hO.2.1 hd hi hl hn hl' (fun ls hl => kk hO H locs ls hP hL hl)
theorem v_astore {i : Nat} {x : Nat} {lv' : List (Nat × Value)} (hd : decode mi.1 pc = .ok (.astore i, 2)) (hn : i < mi.2.1) (hl' : (i, Value.ref x) :: lv.filter (fun q => !(q.1 == i) && !(q.1 + 1 == i && q.2.category == 2)) = lv') (kk : V κ g mi Q μ nc ns (pc + 2) lv' st) : V κ g mi Q μ nc ns pc lv (Value.ref x :: st) := by
  obtain ⟨p, l, e, R, s, m, args, below, meth, c⟩ := κ
  intro hO H locs ls hP hL hl
  exact lv_astore hO.1 hO.2.1 hd hl hn hl' (fun ls hl => kk hO H locs ls hP hL hl)
theorem v_iadd {x y v : Int32} (hd : decode mi.1 pc = .ok (.iadd, 1)) (hv : x + y = v) (kk : V κ g mi Q μ nc ns (pc + 1) lv (.int v :: st)) : V κ g mi Q μ nc ns pc lv (.int y :: .int x :: st) := by
  obtain ⟨p, l, e, R, s, m, args, below, meth, c⟩ := κ
  intro hO H locs ls hP hL hl
  subst hv
  exact lv_iadd hO.1 hO.2.1 hd (kk hO H locs ls hP hL hl)
theorem v_isub {x y v : Int32} (hd : decode mi.1 pc = .ok (.isub, 1)) (hv : x - y = v) (kk : V κ g mi Q μ nc ns (pc + 1) lv (.int v :: st)) : V κ g mi Q μ nc ns pc lv (.int y :: .int x :: st) := by
  obtain ⟨p, l, e, R, s, m, args, below, meth, c⟩ := κ
  intro hO H locs ls hP hL hl
  subst hv
  exact lv_isub hO.1 hO.2.1 hd (kk hO H locs ls hP hL hl)
theorem v_imul {x y v : Int32} (hd : decode mi.1 pc = .ok (.imul, 1)) (hv : x * y = v) (kk : V κ g mi Q μ nc ns (pc + 1) lv (.int v :: st)) : V κ g mi Q μ nc ns pc lv (.int y :: .int x :: st) := by
  obtain ⟨p, l, e, R, s, m, args, below, meth, c⟩ := κ
  intro hO H locs ls hP hL hl
  subst hv
  exact lv_imul hO.1 hO.2.1 hd (kk hO H locs ls hP hL hl)
theorem v_iand {x y v : Int32} (hd : decode mi.1 pc = .ok (.iand, 1)) (hv : x &&& y = v) (kk : V κ g mi Q μ nc ns (pc + 1) lv (.int v :: st)) : V κ g mi Q μ nc ns pc lv (.int y :: .int x :: st) := by
  obtain ⟨p, l, e, R, s, m, args, below, meth, c⟩ := κ
  intro hO H locs ls hP hL hl
  subst hv
  exact lv_iand hO.1 hO.2.1 hd (kk hO H locs ls hP hL hl)
theorem v_ior {x y v : Int32} (hd : decode mi.1 pc = .ok (.ior, 1)) (hv : x ||| y = v) (kk : V κ g mi Q μ nc ns (pc + 1) lv (.int v :: st)) : V κ g mi Q μ nc ns pc lv (.int y :: .int x :: st) := by
  obtain ⟨p, l, e, R, s, m, args, below, meth, c⟩ := κ
  intro hO H locs ls hP hL hl
  subst hv
  exact lv_ior hO.1 hO.2.1 hd (kk hO H locs ls hP hL hl)
theorem v_ixor {x y v : Int32} (hd : decode mi.1 pc = .ok (.ixor, 1)) (hv : x ^^^ y = v) (kk : V κ g mi Q μ nc ns (pc + 1) lv (.int v :: st)) : V κ g mi Q μ nc ns pc lv (.int y :: .int x :: st) := by
  obtain ⟨p, l, e, R, s, m, args, below, meth, c⟩ := κ
  intro hO H locs ls hP hL hl
  subst hv
  exact lv_ixor hO.1 hO.2.1 hd (kk hO H locs ls hP hL hl)
theorem v_idiv {x y v : Int32} (hd : decode mi.1 pc = .ok (.idiv, 1)) (hne : ¬ y = 0) (hv : x / y = v) (kk : V κ g mi Q μ nc ns (pc + 1) lv (.int v :: st)) : V κ g mi Q μ nc ns pc lv (.int y :: .int x :: st) := by
  obtain ⟨p, l, e, R, s, m, args, below, meth, c⟩ := κ
  intro hO H locs ls hP hL hl
  subst hv
  exact lv_idiv hO.1 hO.2.1 hd hne (kk hO H locs ls hP hL hl)
theorem v_irem {x y v : Int32} (hd : decode mi.1 pc = .ok (.irem, 1)) (hne : ¬ y = 0) (hv : x - x / y * y = v) (kk : V κ g mi Q μ nc ns (pc + 1) lv (.int v :: st)) : V κ g mi Q μ nc ns pc lv (.int y :: .int x :: st) := by
  obtain ⟨p, l, e, R, s, m, args, below, meth, c⟩ := κ
  intro hO H locs ls hP hL hl
  subst hv
  exact lv_irem hO.1 hO.2.1 hd hne (kk hO H locs ls hP hL hl)
theorem v_ineg {x v : Int32} (hd : decode mi.1 pc = .ok (.ineg, 1)) (hv : -x = v) (kk : V κ g mi Q μ nc ns (pc + 1) lv (.int v :: st)) : V κ g mi Q μ nc ns pc lv (.int x :: st) := by
  obtain ⟨p, l, e, R, s, m, args, below, meth, c⟩ := κ
  intro hO H locs ls hP hL hl
  subst hv
  exact lv_ineg hO.1 hO.2.1 hd (kk hO H locs ls hP hL hl)
theorem v_ladd {x y v : Int64} (hd : decode mi.1 pc = .ok (.ladd, 1)) (hv : x + y = v) (kk : V κ g mi Q μ nc ns (pc + 1) lv (.long v :: st)) : V κ g mi Q μ nc ns pc lv (.long y :: .long x :: st) := by
  obtain ⟨p, l, e, R, s, m, args, below, meth, c⟩ := κ
  intro hO H locs ls hP hL hl
  subst hv
  exact lv_ladd hO.1 hO.2.1 hd (kk hO H locs ls hP hL hl)
theorem v_lsub {x y v : Int64} (hd : decode mi.1 pc = .ok (.lsub, 1)) (hv : x - y = v) (kk : V κ g mi Q μ nc ns (pc + 1) lv (.long v :: st)) : V κ g mi Q μ nc ns pc lv (.long y :: .long x :: st) := by
  obtain ⟨p, l, e, R, s, m, args, below, meth, c⟩ := κ
  intro hO H locs ls hP hL hl
  subst hv
  exact lv_lsub hO.1 hO.2.1 hd (kk hO H locs ls hP hL hl)
theorem v_lmul {x y v : Int64} (hd : decode mi.1 pc = .ok (.lmul, 1)) (hv : x * y = v) (kk : V κ g mi Q μ nc ns (pc + 1) lv (.long v :: st)) : V κ g mi Q μ nc ns pc lv (.long y :: .long x :: st) := by
  obtain ⟨p, l, e, R, s, m, args, below, meth, c⟩ := κ
  intro hO H locs ls hP hL hl
  subst hv
  exact lv_lmul hO.1 hO.2.1 hd (kk hO H locs ls hP hL hl)
theorem v_land {x y v : Int64} (hd : decode mi.1 pc = .ok (.land, 1)) (hv : x &&& y = v) (kk : V κ g mi Q μ nc ns (pc + 1) lv (.long v :: st)) : V κ g mi Q μ nc ns pc lv (.long y :: .long x :: st) := by
  obtain ⟨p, l, e, R, s, m, args, below, meth, c⟩ := κ
  intro hO H locs ls hP hL hl
  subst hv
  exact lv_land hO.1 hO.2.1 hd (kk hO H locs ls hP hL hl)
theorem v_lor {x y v : Int64} (hd : decode mi.1 pc = .ok (.lor, 1)) (hv : x ||| y = v) (kk : V κ g mi Q μ nc ns (pc + 1) lv (.long v :: st)) : V κ g mi Q μ nc ns pc lv (.long y :: .long x :: st) := by
  obtain ⟨p, l, e, R, s, m, args, below, meth, c⟩ := κ
  intro hO H locs ls hP hL hl
  subst hv
  exact lv_lor hO.1 hO.2.1 hd (kk hO H locs ls hP hL hl)
theorem v_lxor {x y v : Int64} (hd : decode mi.1 pc = .ok (.lxor, 1)) (hv : x ^^^ y = v) (kk : V κ g mi Q μ nc ns (pc + 1) lv (.long v :: st)) : V κ g mi Q μ nc ns pc lv (.long y :: .long x :: st) := by
  obtain ⟨p, l, e, R, s, m, args, below, meth, c⟩ := κ
  intro hO H locs ls hP hL hl
  subst hv
  exact lv_lxor hO.1 hO.2.1 hd (kk hO H locs ls hP hL hl)
theorem v_ldiv {x y v : Int64} (hd : decode mi.1 pc = .ok (.ldiv, 1)) (hne : ¬ y = 0) (hv : x / y = v) (kk : V κ g mi Q μ nc ns (pc + 1) lv (.long v :: st)) : V κ g mi Q μ nc ns pc lv (.long y :: .long x :: st) := by
  obtain ⟨p, l, e, R, s, m, args, below, meth, c⟩ := κ
  intro hO H locs ls hP hL hl
  subst hv
  exact lv_ldiv hO.1 hO.2.1 hd hne (kk hO H locs ls hP hL hl)
theorem v_lrem {x y v : Int64} (hd : decode mi.1 pc = .ok (.lrem, 1)) (hne : ¬ y = 0) (hv : x - x / y * y = v) (kk : V κ g mi Q μ nc ns (pc + 1) lv (.long v :: st)) : V κ g mi Q μ nc ns pc lv (.long y :: .long x :: st) := by
  obtain ⟨p, l, e, R, s, m, args, below, meth, c⟩ := κ
  intro hO H locs ls hP hL hl
  subst hv
  exact lv_lrem hO.1 hO.2.1 hd hne (kk hO H locs ls hP hL hl)
theorem v_i2l {x : Int32} {v : Int64} (hd : decode mi.1 pc = .ok (.i2l, 1)) (hv : x.toInt64 = v) (kk : V κ g mi Q μ nc ns (pc + 1) lv (.long v :: st)) : V κ g mi Q μ nc ns pc lv (.int x :: st) := by
  obtain ⟨p, l, e, R, s, m, args, below, meth, c⟩ := κ
  intro hO H locs ls hP hL hl
  exact lv_i2l hO.1 hO.2.1 hd hv (kk hO H locs ls hP hL hl)
theorem v_l2i {x : Int64} {v : Int32} (hd : decode mi.1 pc = .ok (.l2i, 1)) (hv : x.toInt32 = v) (kk : V κ g mi Q μ nc ns (pc + 1) lv (.int v :: st)) : V κ g mi Q μ nc ns pc lv (.long x :: st) := by
  obtain ⟨p, l, e, R, s, m, args, below, meth, c⟩ := κ
  intro hO H locs ls hP hL hl
  exact lv_l2i hO.1 hO.2.1 hd hv (kk hO H locs ls hP hL hl)
theorem v_i2b {x v : Int32} (hd : decode mi.1 pc = .ok (.i2b, 1)) (hv : x.toInt8.toInt32 = v) (kk : V κ g mi Q μ nc ns (pc + 1) lv (.int v :: st)) : V κ g mi Q μ nc ns pc lv (.int x :: st) := by
  obtain ⟨p, l, e, R, s, m, args, below, meth, c⟩ := κ
  intro hO H locs ls hP hL hl
  exact lv_i2b hO.1 hO.2.1 hd hv (kk hO H locs ls hP hL hl)
theorem v_lshl {x v : Int64} {y : Int32} (hd : decode mi.1 pc = .ok (.lshl, 1)) (hv : x <<< (y.toInt64 &&& 63) = v) (kk : V κ g mi Q μ nc ns (pc + 1) lv (.long v :: st)) : V κ g mi Q μ nc ns pc lv (.int y :: .long x :: st) := by
  obtain ⟨p, l, e, R, s, m, args, below, meth, c⟩ := κ
  intro hO H locs ls hP hL hl
  exact lv_lshl hO.1 hO.2.1 hd hv (kk hO H locs ls hP hL hl)
theorem v_lcmp {x y : Int64} (hd : decode mi.1 pc = .ok (.lcmp, 1)) (kk : V κ g mi Q μ nc ns (pc + 1) lv (.int (lg_cmp x y) :: st)) : V κ g mi Q μ nc ns pc lv (.long y :: .long x :: st) := by
  obtain ⟨p, l, e, R, s, m, args, below, meth, c⟩ := κ
  intro hO H locs ls hP hL hl
  exact W.lcmp hO.1 hO.2.1 hd (kk hO H locs ls hP hL hl)
theorem v_dup {va : Value} (hd : decode mi.1 pc = .ok (.dup, 1)) (h : va.category = 1) (kk : V κ g mi Q μ nc ns (pc + 1) lv (va :: va :: st)) : V κ g mi Q μ nc ns pc lv (va :: st) := by
  obtain ⟨p, l, e, R, s, m, args, below, meth, c⟩ := κ
  intro hO H locs ls hP hL hl
  exact lv_dup hO.1 hO.2.1 hd h (kk hO H locs ls hP hL hl)
theorem v_pop {va : Value} (hd : decode mi.1 pc = .ok (.pop, 1)) (h : va.category = 1) (kk : V κ g mi Q μ nc ns (pc + 1) lv (st)) : V κ g mi Q μ nc ns pc lv (va :: st) := by
  obtain ⟨p, l, e, R, s, m, args, below, meth, c⟩ := κ
  intro hO H locs ls hP hL hl
  exact lv_pop hO.1 hO.2.1 hd h (kk hO H locs ls hP hL hl)
theorem v_dup_x1 {va vb : Value} (hd : decode mi.1 pc = .ok (.dup_x1, 1)) (h : va.category = 1) (h2 : vb.category = 1) (kk : V κ g mi Q μ nc ns (pc + 1) lv (va :: vb :: va :: st)) : V κ g mi Q μ nc ns pc lv (va :: vb :: st) := by
  obtain ⟨p, l, e, R, s, m, args, below, meth, c⟩ := κ
  intro hO H locs ls hP hL hl
  exact lv_dup_x1 hO.1 hO.2.1 hd h h2 (kk hO H locs ls hP hL hl)
theorem v_dup2 {va vb : Value} (hd : decode mi.1 pc = .ok (.dup2, 1)) (h : va.category = 1) (h2 : vb.category = 1) (kk : V κ g mi Q μ nc ns (pc + 1) lv (va :: vb :: va :: vb :: st)) : V κ g mi Q μ nc ns pc lv (va :: vb :: st) := by
  obtain ⟨p, l, e, R, s, m, args, below, meth, c⟩ := κ
  intro hO H locs ls hP hL hl
  exact lv_dup2_11 hO.1 hO.2.1 hd h h2 (kk hO H locs ls hP hL hl)
theorem v_null  (hd : decode mi.1 pc = .ok (.aconst_null, 1)) (kk : V κ g mi Q μ nc ns (pc + 1) lv (.null :: st)) : V κ g mi Q μ nc ns pc lv (st) := by
  obtain ⟨p, l, e, R, s, m, args, below, meth, c⟩ := κ
  intro hO H locs ls hP hL hl
  exact lv_null hO.1 hO.2.1 hd (kk hO H locs ls hP hL hl)
theorem v_icmp_eq {x y : Int32} {off : Int} {tgt : Nat} (hd : decode mi.1 pc = .ok (.if_icmp .eq off, 3)) (ht : (pc : Int) + off = (tgt : Int)) (kt : x = y → V κ g mi Q μ nc ns tgt lv st) (kf : ¬ x = y → V κ g mi Q μ nc ns (pc + 3) lv st) : V κ g mi Q μ nc ns pc lv (.int y :: .int x :: st) := by
  obtain ⟨p, l, e, R, s, m, args, below, meth, c⟩ := κ
  intro hO H locs ls hP hL hl
  exact lv_icmp_eq hO.1 hO.2.1 hd ht (fun h => kt h hO H locs ls hP hL hl) (fun h => kf h hO H locs ls hP hL hl)
theorem v_if_eq {x : Int32} {off : Int} {tgt : Nat} (hd : decode mi.1 pc = .ok (.ifCond .eq off, 3)) (ht : (pc : Int) + off = (tgt : Int)) (kt : x = 0 → V κ g mi Q μ nc ns tgt lv st) (kf : ¬ x = 0 → V κ g mi Q μ nc ns (pc + 3) lv st) : V κ g mi Q μ nc ns pc lv (.int x :: st) := by
  obtain ⟨p, l, e, R, s, m, args, below, meth, c⟩ := κ
  intro hO H locs ls hP hL hl
  exact lv_if_eq hO.1 hO.2.1 hd ht (fun h => kt h hO H locs ls hP hL hl) (fun h => kf h hO H locs ls hP hL hl)
theorem v_icmp_ne {x y : Int32} {off : Int} {tgt : Nat} (hd : decode mi.1 pc = .ok (.if_icmp .ne off, 3)) (ht : (pc : Int) + off = (tgt : Int)) (kt : ¬ x = y → V κ g mi Q μ nc ns tgt lv st) (kf : x = y → V κ g mi Q μ nc ns (pc + 3) lv st) : V κ g mi Q μ nc ns pc lv (.int y :: .int x :: st) := by
  obtain ⟨p, l, e, R, s, m, args, below, meth, c⟩ := κ
  intro hO H locs ls hP hL hl
  exact lv_icmp_ne hO.1 hO.2.1 hd ht (fun h => kt h hO H locs ls hP hL hl) (fun h => kf h hO H locs ls hP hL hl)
theorem v_if_ne {x : Int32} {off : Int} {tgt : Nat} (hd : decode mi.1 pc = .ok (.ifCond .ne off, 3)) (ht : (pc : Int) + off = (tgt : Int)) (kt : ¬ x = 0 → V κ g mi Q μ nc ns tgt lv st) (kf : x = 0 → V κ g mi Q μ nc ns (pc + 3) lv st) : V κ g mi Q μ nc ns pc lv (.int x :: st) := by
  obtain ⟨p, l, e, R, s, m, args, below, meth, c⟩ := κ
  intro hO H locs ls hP hL hl
  exact lv_if_ne hO.1 hO.2.1 hd ht (fun h => kt h hO H locs ls hP hL hl) (fun h => kf h hO H locs ls hP hL hl)
theorem v_icmp_lt {x y : Int32} {off : Int} {tgt : Nat} (hd : decode mi.1 pc = .ok (.if_icmp .lt off, 3)) (ht : (pc : Int) + off = (tgt : Int)) (kt : x < y → V κ g mi Q μ nc ns tgt lv st) (kf : ¬ x < y → V κ g mi Q μ nc ns (pc + 3) lv st) : V κ g mi Q μ nc ns pc lv (.int y :: .int x :: st) := by
  obtain ⟨p, l, e, R, s, m, args, below, meth, c⟩ := κ
  intro hO H locs ls hP hL hl
  exact lv_icmp_lt hO.1 hO.2.1 hd ht (fun h => kt h hO H locs ls hP hL hl) (fun h => kf h hO H locs ls hP hL hl)
theorem v_if_lt {x : Int32} {off : Int} {tgt : Nat} (hd : decode mi.1 pc = .ok (.ifCond .lt off, 3)) (ht : (pc : Int) + off = (tgt : Int)) (kt : x < 0 → V κ g mi Q μ nc ns tgt lv st) (kf : ¬ x < 0 → V κ g mi Q μ nc ns (pc + 3) lv st) : V κ g mi Q μ nc ns pc lv (.int x :: st) := by
  obtain ⟨p, l, e, R, s, m, args, below, meth, c⟩ := κ
  intro hO H locs ls hP hL hl
  exact lv_if_lt hO.1 hO.2.1 hd ht (fun h => kt h hO H locs ls hP hL hl) (fun h => kf h hO H locs ls hP hL hl)
theorem v_icmp_ge {x y : Int32} {off : Int} {tgt : Nat} (hd : decode mi.1 pc = .ok (.if_icmp .ge off, 3)) (ht : (pc : Int) + off = (tgt : Int)) (kt : y ≤ x → V κ g mi Q μ nc ns tgt lv st) (kf : ¬ y ≤ x → V κ g mi Q μ nc ns (pc + 3) lv st) : V κ g mi Q μ nc ns pc lv (.int y :: .int x :: st) := by
  obtain ⟨p, l, e, R, s, m, args, below, meth, c⟩ := κ
  intro hO H locs ls hP hL hl
  exact lv_icmp_ge hO.1 hO.2.1 hd ht (fun h => kt h hO H locs ls hP hL hl) (fun h => kf h hO H locs ls hP hL hl)
theorem v_if_ge {x : Int32} {off : Int} {tgt : Nat} (hd : decode mi.1 pc = .ok (.ifCond .ge off, 3)) (ht : (pc : Int) + off = (tgt : Int)) (kt : 0 ≤ x → V κ g mi Q μ nc ns tgt lv st) (kf : ¬ 0 ≤ x → V κ g mi Q μ nc ns (pc + 3) lv st) : V κ g mi Q μ nc ns pc lv (.int x :: st) := by
  obtain ⟨p, l, e, R, s, m, args, below, meth, c⟩ := κ
  intro hO H locs ls hP hL hl
  exact lv_if_ge hO.1 hO.2.1 hd ht (fun h => kt h hO H locs ls hP hL hl) (fun h => kf h hO H locs ls hP hL hl)
theorem v_icmp_gt {x y : Int32} {off : Int} {tgt : Nat} (hd : decode mi.1 pc = .ok (.if_icmp .gt off, 3)) (ht : (pc : Int) + off = (tgt : Int)) (kt : y < x → V κ g mi Q μ nc ns tgt lv st) (kf : ¬ y < x → V κ g mi Q μ nc ns (pc + 3) lv st) : V κ g mi Q μ nc ns pc lv (.int y :: .int x :: st) := by
  obtain ⟨p, l, e, R, s, m, args, below, meth, c⟩ := κ
  intro hO H locs ls hP hL hl
  exact lv_icmp_gt hO.1 hO.2.1 hd ht (fun h => kt h hO H locs ls hP hL hl) (fun h => kf h hO H locs ls hP hL hl)
theorem v_if_gt {x : Int32} {off : Int} {tgt : Nat} (hd : decode mi.1 pc = .ok (.ifCond .gt off, 3)) (ht : (pc : Int) + off = (tgt : Int)) (kt : 0 < x → V κ g mi Q μ nc ns tgt lv st) (kf : ¬ 0 < x → V κ g mi Q μ nc ns (pc + 3) lv st) : V κ g mi Q μ nc ns pc lv (.int x :: st) := by
  obtain ⟨p, l, e, R, s, m, args, below, meth, c⟩ := κ
  intro hO H locs ls hP hL hl
  exact lv_if_gt hO.1 hO.2.1 hd ht (fun h => kt h hO H locs ls hP hL hl) (fun h => kf h hO H locs ls hP hL hl)
theorem v_icmp_le {x y : Int32} {off : Int} {tgt : Nat} (hd : decode mi.1 pc = .ok (.if_icmp .le off, 3)) (ht : (pc : Int) + off = (tgt : Int)) (kt : x ≤ y → V κ g mi Q μ nc ns tgt lv st) (kf : ¬ x ≤ y → V κ g mi Q μ nc ns (pc + 3) lv st) : V κ g mi Q μ nc ns pc lv (.int y :: .int x :: st) := by
  obtain ⟨p, l, e, R, s, m, args, below, meth, c⟩ := κ
  intro hO H locs ls hP hL hl
  exact lv_icmp_le hO.1 hO.2.1 hd ht (fun h => kt h hO H locs ls hP hL hl) (fun h => kf h hO H locs ls hP hL hl)
theorem v_if_le {x : Int32} {off : Int} {tgt : Nat} (hd : decode mi.1 pc = .ok (.ifCond .le off, 3)) (ht : (pc : Int) + off = (tgt : Int)) (kt : x ≤ 0 → V κ g mi Q μ nc ns tgt lv st) (kf : ¬ x ≤ 0 → V κ g mi Q μ nc ns (pc + 3) lv st) : V κ g mi Q μ nc ns pc lv (.int x :: st) := by
  obtain ⟨p, l, e, R, s, m, args, below, meth, c⟩ := κ
  intro hO H locs ls hP hL hl
  exact lv_if_le hO.1 hO.2.1 hd ht (fun h => kt h hO H locs ls hP hL hl) (fun h => kf h hO H locs ls hP hL hl)
theorem v_goto {off : Int} {tgt : Nat} (hd : decode mi.1 pc = .ok (.goto off, 3)) (ht : (pc : Int) + off = (tgt : Int)) (kk : V κ g mi Q μ nc ns tgt lv st) : V κ g mi Q μ nc ns pc lv st := by
  obtain ⟨p, l, e, R, s, m, args, below, meth, c⟩ := κ
  intro hO H locs ls hP hL hl
  exact lv_goto hO.1 hO.2.1 hd ht (kk hO H locs ls hP hL hl)
theorem v_ifnonnull {a : Nat} {off : Int} {tgt : Nat} (hd : decode mi.1 pc = .ok (.ifnonnull off, 3)) (ht : (pc : Int) + off = (tgt : Int)) (kk : V κ g mi Q μ nc ns tgt lv st) : V κ g mi Q μ nc ns pc lv (.ref a :: st) := by
  obtain ⟨p, l, e, R, s, m, args, below, meth, c⟩ := κ
  intro hO H locs ls hP hL hl
  exact lv_ifnonnull hO.1 hO.2.1 hd ht (kk hO H locs ls hP hL hl)
theorem v_ifnull {a : Nat} {off : Int} (hd : decode mi.1 pc = .ok (.ifnull off, 3)) (kk : V κ g mi Q μ nc ns (pc + 3) lv st) : V κ g mi Q μ nc ns pc lv (.ref a :: st) := by
  obtain ⟨p, l, e, R, s, m, args, below, meth, c⟩ := κ
  intro hO H locs ls hP hL hl
  exact lv_ifnull hO.1 hO.2.1 hd (kk hO H locs ls hP hL hl)
theorem v_ifnullN {off : Int} {tgt : Nat} (hd : decode mi.1 pc = .ok (.ifnull off, 3)) (ht : (pc : Int) + off = (tgt : Int)) (kk : V κ g mi Q μ nc ns tgt lv st) : V κ g mi Q μ nc ns pc lv (.null :: st) := by
  obtain ⟨p, l, e, R, s, m, args, below, meth, c⟩ := κ
  intro hO H locs ls hP hL hl
  exact lv_ifnullN hO.1 hO.2.1 hd ht (kk hO H locs ls hP hL hl)
theorem v_ifnonnullN {off : Int} (hd : decode mi.1 pc = .ok (.ifnonnull off, 3)) (kk : V κ g mi Q μ nc ns (pc + 3) lv st) : V κ g mi Q μ nc ns pc lv (.null :: st) := by
  obtain ⟨p, l, e, R, s, m, args, below, meth, c⟩ := κ
  intro hO H locs ls hP hL hl
  exact lv_ifnonnullN hO.1 hO.2.1 hd (kk hO H locs ls hP hL hl)
theorem v_iinc {i : Nat} {n : Int} {x v : Int32} {lv' : List (Nat × Value)} (hd : decode mi.1 pc = .ok (.iinc i n, 3)) (j : Nat) (hj : lv[j]? = some (i, .int x)) (hv : x + Int32.ofInt n = v) (hn : i < mi.2.1) (hl' : (i, Value.int v) :: lv.filter (fun q => !(q.1 == i) && !(q.1 + 1 == i && q.2.category == 2)) = lv') (kk : V κ g mi Q μ nc ns (pc + 3) lv' st) : V κ g mi Q μ nc ns pc lv st := by
  obtain ⟨p, l, e, R, s, m, args, below, meth, c⟩ := κ
  intro hO H locs ls hP hL hl
  exact lv_iinc hO.1 hO.2.1 hd hl hj hv hn hl' (fun ls hl => kk hO H locs ls hP hL hl)
theorem v_lstore_n {k : Fin 4} {i : Nat} {x : Int64} {lv' : List (Nat × Value)} (hd : decode mi.1 pc = .ok (.lstore_n k, 1)) (hi : (k : Nat) = i) (hn : i + 1 < mi.2.1) (hl' : (i, Value.long x) :: lv.filter (fun q => !(q.1 == i) && (!(q.1 == i + 1) && !(q.1 + 1 == i && q.2.category == 2))) = lv') (kk : V κ g mi Q μ nc ns (pc + 1) lv' st) : V κ g mi Q μ nc ns pc lv (.long x :: st) := by
  obtain ⟨p, l, e, R, s, m, args, below, meth, c⟩ := κ
  intro hO H locs ls hP hL hl
  exact lv_lstore_n hO.1 hO.2.1 hd hi hl hn hl' (fun ls hl => kk hO H locs ls hP hL hl)
theorem v_lstore {i : Nat} {x : Int64} {lv' : List (Nat × Value)} (hd : decode mi.1 pc = .ok (.lstore i, 2)) (hn : i + 1 < mi.2.1) (hl' : (i, Value.long x) :: lv.filter (fun q => !(q.1 == i) && (!(q.1 == i + 1) && !(q.1 + 1 == i && q.2.category == 2))) = lv') (kk : V κ g mi Q μ nc ns (pc + 2) lv' st) : V κ g mi Q μ nc ns pc lv (.long x :: st) := by
  obtain ⟨p, l, e, R, s, m, args, below, meth, c⟩ := κ
  intro hO H locs ls hP hL hl
  exact lv_lstore hO.1 hO.2.1 hd hl hn hl' (fun ls hl => kk hO H locs ls hP hL hl)
/-! references that may be null -/
theorem v_aload_nQ {k : Fin 4} {i : Nat} {r : Option Nat} (hd : decode mi.1 pc = .ok (.aload_n k, 1)) (hi : (k : Nat) = i) (j : Nat) (hj : lv[j]? = some (i, va_rf r)) (kk : V κ g mi Q μ nc ns (pc + 1) lv (va_rf r :: st)) : V κ g mi Q μ nc ns pc lv st := by
  obtain ⟨p, l, e, R, s, m, args, below, meth, c⟩ := κ
  intro hO H locs ls hP hL hl
  cases r with
  | none => exact lv_aload_nN hO.1 hO.2.1 hd hi (lv_at hl j hj) (kk hO H locs ls hP hL hl)
  | some a => exact lv_aload_n hO.1 hO.2.1 hd hi (lv_at hl j hj) (kk hO H locs ls hP hL hl)
theorem v_aloadQ {i : Nat} {r : Option Nat} (hd : decode mi.1 pc = .ok (.aload i, 2)) (j : Nat) (hj : lv[j]? = some (i, va_rf r)) (kk : V κ g mi Q μ nc ns (pc + 2) lv (va_rf r :: st)) : V κ g mi Q μ nc ns pc lv st := by
  obtain ⟨p, l, e, R, s, m, args, below, meth, c⟩ := κ
  intro hO H locs ls hP hL hl
  cases r with
  | none => exact lv_aloadN hO.1 hO.2.1 hd (lv_at hl j hj) (kk hO H locs ls hP hL hl)
  | some a => exact lv_aload hO.1 hO.2.1 hd (lv_at hl j hj) (kk hO H locs ls hP hL hl)
theorem v_astore_nQ {k : Fin 4} {i : Nat} {r : Option Nat} {lv' : List (Nat × Value)} (hd : decode mi.1 pc = .ok (.astore_n k, 1)) (hi : (k : Nat) = i) (hn : i < mi.2.1) (hl' : (i, va_rf r) :: lv.filter (fun q => !(q.1 == i) && !(q.1 + 1 == i && q.2.category == 2)) = lv') (kk : V κ g mi Q μ nc ns (pc + 1) lv' st) : V κ g mi Q μ nc ns pc lv (va_rf r :: st) := by
  obtain ⟨p, l, e, R, s, m, args, below, meth, c⟩ := κ
  intro hO H locs ls hP hL hl
  cases r with
  | none => exact lv_astore_nN hO.1 hO.2.1 hd hi hl hn hl' (fun ls hl => kk hO H locs ls hP hL hl)
  | some a => exact lv_astore_n hO.1 hO.2.1 hd hi hl hn hl' (fun ls hl => kk hO H locs ls hP hL hl)
theorem v_astoreQ {i : Nat} {r : Option Nat} {lv' : List (Nat × Value)} (hd : decode mi.1 pc = .ok (.astore i, 2)) (hn : i < mi.2.1) (hl' : (i, va_rf r) :: lv.filter (fun q => !(q.1 == i) && !(q.1 + 1 == i && q.2.category == 2)) = lv') (kk : V κ g mi Q μ nc ns (pc + 2) lv' st) : V κ g mi Q μ nc ns pc lv (va_rf r :: st) := by
  obtain ⟨p, l, e, R, s, m, args, below, meth, c⟩ := κ
  intro hO H locs ls hP hL hl
  cases r with
  | none => exact lv_astoreN hO.1 hO.2.1 hd hl hn hl' (fun ls hl => kk hO H locs ls hP hL hl)
  | some a => exact lv_astore hO.1 hO.2.1 hd hl hn hl' (fun ls hl => kk hO H locs ls hP hL hl)
theorem v_ifnonnullQ {r : Option Nat} {off : Int} {tgt : Nat} (hd : decode mi.1 pc = .ok (.ifnonnull off, 3)) (ht : (pc : Int) + off = (tgt : Int)) (ks : ∀ a, r = some a → V κ g mi Q μ nc ns tgt lv st) (kn : r = none → V κ g mi Q μ nc ns (pc + 3) lv st) : V κ g mi Q μ nc ns pc lv (va_rf r :: st) := by
  cases r with
  | none => exact v_ifnonnullN hd (kn rfl)
  | some a => exact v_ifnonnull (a := a) hd ht (ks a rfl)
theorem v_acmp_eq {rx ry : Option Nat} {off : Int} {tgt : Nat} (hd : decode mi.1 pc = .ok (.if_acmp .eq off, 3)) (ht : (pc : Int) + off = (tgt : Int)) (kt : rx = ry → V κ g mi Q μ nc ns tgt lv st) (kf : ¬ rx = ry → V κ g mi Q μ nc ns (pc + 3) lv st) : V κ g mi Q μ nc ns pc lv (va_rf ry :: va_rf rx :: st) := by
  obtain ⟨p, l, e, R, s, m, args, below, meth, c⟩ := κ
  intro hO H locs ls hP hL hl
  exact lv_acmp_eq hO.1 hO.2.1 hd ht (fun h => kt h hO H locs ls hP hL hl) (fun h => kf h hO H locs ls hP hL hl)
theorem v_acmp_ne {rx ry : Option Nat} {off : Int} {tgt : Nat} (hd : decode mi.1 pc = .ok (.if_acmp .ne off, 3)) (ht : (pc : Int) + off = (tgt : Int)) (kt : ¬ rx = ry → V κ g mi Q μ nc ns tgt lv st) (kf : rx = ry → V κ g mi Q μ nc ns (pc + 3) lv st) : V κ g mi Q μ nc ns pc lv (va_rf ry :: va_rf rx :: st) := by
  obtain ⟨p, l, e, R, s, m, args, below, meth, c⟩ := κ
  intro hO H locs ls hP hL hl
  exact lv_acmp_ne hO.1 hO.2.1 hd ht (fun h => kt h hO H locs ls hP hL hl) (fun h => kf h hO H locs ls hP hL hl)
/-! switches, constants -/
theorem v_tableOut {dflt lo hi : Int} {offs : Array Int} {len : Nat} {x : Int32} {tgt : Nat} (hd : decode mi.1 pc = .ok (.tableswitch dflt lo hi offs, len)) (h : x.toInt < lo ∨ hi < x.toInt) (ht : (pc : Int) + dflt = (tgt : Int)) (kk : V κ g mi Q μ nc ns tgt lv st) : V κ g mi Q μ nc ns pc lv (.int x :: st) := by
  obtain ⟨p, l, e, R, s, m, args, below, meth, c⟩ := κ
  intro hO H locs ls hP hL hl
  exact lv_tableOut hO.1 hO.2.1 hd h ht (kk hO H locs ls hP hL hl)
theorem v_tableIn {dflt lo hi : Int} {offs : Array Int} {len : Nat} {x : Int32} {off : Int} {tgt : Nat} (hd : decode mi.1 pc = .ok (.tableswitch dflt lo hi offs, len)) (h1 : ¬ x.toInt < lo) (h2 : ¬ hi < x.toInt) (ho : offs[(x.toInt - lo).toNat]? = some off) (ht : (pc : Int) + off = (tgt : Int)) (kk : V κ g mi Q μ nc ns tgt lv st) : V κ g mi Q μ nc ns pc lv (.int x :: st) := by
  obtain ⟨p, l, e, R, s, m, args, below, meth, c⟩ := κ
  intro hO H locs ls hP hL hl
  exact lv_tableIn hO.1 hO.2.1 hd h1 h2 ho ht (kk hO H locs ls hP hL hl)
theorem v_ldc {index : Nat} {v : Int32} (hd : decode mi.1 pc = .ok (.ldc index, 2)) (hc : Cond.constant mi.2.2.1 index v ∈ lw_all) (kk : V κ g mi Q μ nc ns (pc + 2) lv (.int v :: st)) : V κ g mi Q μ nc ns pc lv st := by
  obtain ⟨p, l, e, R, s, m, args, below, meth, c⟩ := κ
  intro hO H locs ls hP hL hl
  exact lv_ldc hO.1 hO.2.1 hO.2.2.2.1 (hO.2.2.2.2.1 _ hc) hd (kk hO H locs ls hP hL hl)
theorem v_ldc2 {index : Nat} {v : Int64} (hd : decode mi.1 pc = .ok (.ldc2_w index, 3)) (hc : Cond.constantLong mi.2.2.1 index v ∈ lw_all) (kk : V κ g mi Q μ nc ns (pc + 3) lv (.long v :: st)) : V κ g mi Q μ nc ns pc lv st := by
  obtain ⟨p, l, e, R, s, m, args, below, meth, c⟩ := κ
  intro hO H locs ls hP hL hl
  exact lv_ldc2 hO.1 hO.2.1 hO.2.2.2.1 (hO.2.2.2.2.1 _ hc) hd (kk hO H locs ls hP hL hl)
theorem v_widen {k n : Nat} (h1 : nc ≤ k) (h2 : ns ≤ n) (kk : V κ g mi Q μ k n pc lv st) : V κ g mi Q μ nc ns pc lv st := by
  obtain ⟨p, l, e, R, s, m, args, below, meth, c⟩ := κ
  intro hO H locs ls hP hL hl
  exact W.widen h1 h2 (kk hO H locs ls hP hL hl)
theorem v_lv {lv' : List (Nat × Value)} (ks : List Nat) (h : lv_pick lv ks = lv') (kk : V κ g mi Q μ nc ns pc lv' st) : V κ g mi Q μ nc ns pc lv st := by
  obtain ⟨p, l, e, R, s, m, args, below, meth, c⟩ := κ
  intro hO H locs ls hP hL hl
  exact kk hO H locs ls hP hL (lv_sub hl ks h)
/-- fewer cells told -/
theorem v_mem {μ' : Mem} (hs : ∀ a e, μ' a = some e → μ a = some e) (kk : V κ g mi Q μ' nc ns pc lv st) : V κ g mi Q μ nc ns pc lv st := by
  obtain ⟨p, l, e, R, s, m, args, below, meth, c⟩ := κ
  intro hO H locs ls hP hL hl
  exact kk hO H locs ls (hP.sub hs) hL hl
/-! fields -/
theorem v_get {a ci k index N : Nat} {C : String} {T : u_T} {fs : List Value} {v : Value} (hd : decode mi.1 pc = .ok (.getfield index, 3)) (ha : μ a = some (.inr (ci, fs))) (hc : amCl[ci]? = some (C, T, N)) (hin : ∀ w ∈ u_ws C T N, w ∈ lw_all) (hk : k < N) (hlink : Cond.fieldLink mi.2.2.1 index (T k).1 (T k).2.1 (T k).2.2.1 ∈ lw_all) (hv : fs[k]? = some v) (kk : V κ g mi Q μ nc ns (pc + 3) lv (v :: st)) : V κ g mi Q μ nc ns pc lv (.ref a :: st) := by
  obtain ⟨p, l, e, R, s, m, args, below, meth, c⟩ := κ
  intro hO H locs ls hP hL hl
  have hk0 := kk hO H locs ls hP hL hl
  obtain ⟨hx, hb, -, hown, hts, -, -, -, hW, hS, -⟩ := hO
  have hK := va_K.moved hW.alike hS.1
  obtain ⟨r, h1, cell, q1, q2, q3, q4⟩ := (hP.2 _ _ ha).2
  have hr : r = (C, T, N) := Option.some.inj (h1.symm.trans hc)
  subst hr
  obtain ⟨hSl, hfc, kC, hkC, hkind⟩ := hK.1 ci _ hc
  obtain ⟨cf, kf, fi, f, hi, hsl⟩ := hSl k hk
  refine W.getf hx hb hown (hts _ hlink) hi (u_facts hfc hkC (u_lays hts hin hk) hi).1 q1 (by rw [q3]; exact fun h => by cases h) (v := v) ?_ rfl rfl hd hk0
  rw [hsl, q4 k hk]
  simp [vp_V, hv]
theorem Ok.nw {p : Program} {l : Launch} {e : Env} {R : Room} {s : State} {m : MethodId} {args : Array Value} {below : List Frame} {meth : Method} {c : Code} {w : Cond} (hO : Ok (p, l, e, R, s, m, args, below, meth, c) g mi) (hw : w ∈ lw_tbl) (ht : w.onTables = true) : va_Nw w g.1 := by
  obtain ⟨-, -, -, -, -, -, -, -, -, ⟨-, ⟨b, hb, -⟩, -⟩, -⟩ := hO
  exact va_Nw.of ht (hb w hw)
theorem v_getN {a ci k index N : Nat} {C host : String} {T : u_T} {fs : List Value} {v : Value} (hd : decode mi.1 pc = .ok (.getfield index, 3)) (ha : μ a = some (.inr (ci, fs))) (hc : amCl[ci]? = some (C, T, N)) (hin : ∀ w ∈ u_ws C T N, w ∈ lw_all) (hk : k < N) (hlink : Cond.fieldLinkNest mi.2.2.1 index (T k).1 (T k).2.1 (T k).2.2.1 host ∈ lw_tbl) (hv : fs[k]? = some v) (kk : V κ g mi Q μ nc ns (pc + 3) lv (v :: st)) : V κ g mi Q μ nc ns pc lv (.ref a :: st) := by
  obtain ⟨p, l, e, R, s, m, args, below, meth, c⟩ := κ
  intro hO H locs ls hP hL hl
  have hk0 := kk hO H locs ls hP hL hl
  have hnw := Ok.nw hO hlink rfl
  obtain ⟨hx, hb, -, hown, hts, -, -, -, hW, hS, -⟩ := hO
  have hK := va_K.moved hW.alike hS.1
  obtain ⟨r, h1, cell, q1, q2, q3, q4⟩ := (hP.2 _ _ ha).2
  have hr : r = (C, T, N) := Option.some.inj (h1.symm.trans hc)
  subst hr
  obtain ⟨hSl, hfc, kC, hkC, hkind⟩ := hK.1 ci _ hc
  obtain ⟨cf, kf, fi, f, hi, hsl⟩ := hSl k hk
  refine va_Wgetf hx hb hown (va_Nw.use rfl (va_Nw.warmF hW hnw)) hi (u_facts hfc hkC (u_lays hts hin hk) hi).1 q1 (by rw [q3]; exact fun h => by cases h) (v := v) ?_ rfl rfl hd hk0
  rw [hsl, q4 k hk]
  simp [vp_V, hv]
/-- what a store leaves -/
theorem ob_set {s : State} {args : Array Value} {ci N k a : Nat} {C : String} {T : u_T} {fs : List Value} {v : Value} {H' : Heap} {cell : Cell} (hts : ∀ w ∈ lw_all, w.before args s = true) (hin : ∀ w ∈ u_ws C T N, w ∈ lw_all) (ty0 : Nat → FieldType) (hty : ∀ k, k < N → parseFieldDescriptor (T k).2.2.1 = some (ty0 k)) (hnm : ∀ a, a < N → ∀ b, b < N → a ≠ b → (T a).2.1 ≠ (T b).2.1) (hK : va_K g.2.1 amCl (amTy g) s) (hc : amCl[ci]? = some (C, T, N)) (hk : k < N) (hl : k < fs.length)
    (q2 : cell.cls = g.2.1.1 ci) (q3 : cell.vm = .none) (q4 : ∀ k, k < N → cell.slots[g.2.1.2 ci k]? = some (vp_V fs k)) (e1 : H'[a]? = some (cell.setSlot (g.2.1.2 ci k) v)) : va_at g.2.1 amCl (a, .inr (ci, fs.set k v)) H' := by
  have hap := va_apart (own := C) hts hin ty0 hty hnm hK hc
  exact ⟨_, hc, t_OB.to (V := updV (vp_V fs) k v) ⟨_, e1, q2, q3, t_set q4 hap hk v⟩ (fun j _ => vp_updV_set hl v j)⟩
theorem v_put {a ci k index N : Nat} {C : String} {T : u_T} {fs : List Value} {v : Value} {ty : FieldType} (hd : decode mi.1 pc = .ok (.putfield index, 3)) (ha : μ a = some (.inr (ci, fs))) (hc : amCl[ci]? = some (C, T, N)) (hin : ∀ w ∈ u_ws C T N, w ∈ lw_all) (ty0 : Nat → FieldType) (hty : ∀ k, k < N → parseFieldDescriptor (T k).2.2.1 = some (ty0 k)) (hnm : ∀ a, a < N → ∀ b, b < N → a ≠ b → (T a).2.1 ≠ (T b).2.1) (hk : k < N) (hlink : Cond.fieldLink mi.2.2.1 index (T k).1 (T k).2.1 (T k).2.2.1 ∈ lw_all) (hfin : (T k).2.2.2 = false) (hd2 : ty0 k = ty) (hn : narrow ty v = v) (hfit : fits ty v = true) (hl : k < fs.length) (kk : V κ g mi Q (va_up μ a (some (.inr (ci, fs.set k v)))) nc ns (pc + 3) lv st) : V κ g mi Q μ nc ns pc lv (v :: .ref a :: st) := by
  obtain ⟨p, l, e, R, s, m, args, below, meth, c⟩ := κ
  intro hO H locs ls hP hL hls
  have hk0 := fun H1 locs1 h1 h2 => kk hO H1 locs1 ls h1 h2 hls
  obtain ⟨hx, hb, -, hown, hts, -, -, -, hW, hS, -⟩ := hO
  have hK := va_K.moved hW.alike hS.1
  obtain ⟨hge, r, h1, cell, q1, q2, q3, q4⟩ := hP.2 _ _ ha
  have hr : r = (C, T, N) := Option.some.inj (h1.symm.trans hc)
  subst hr
  obtain ⟨hSl, hfc, kC, hkC, hkind⟩ := hK.1 ci _ hc
  obtain ⟨cf, kf, fi, f, hi, hsl⟩ := hSl k hk
  have hlay := hts _ (hin _ (u_in_lay hk))
  unfold u_lay at hlay
  rw [if_neg (by rw [hfin]; decide)] at hlay
  have hst := (u_facts hfc hkC (u_lays hts hin hk) hi).1
  have h6 := u_store hfc hkC hkind hlay hi (by rw [← hd2]; exact hty k hk) hn hfit
  refine W.putK hx hb (f := f) ⟨hown, hts _ hlink, ⟨_, _, _, hi⟩, hst⟩ (by rw [q2]; exact h6) q1 q3 (by rw [hsl]; exact k2_hasslot (q4 k hk)) rfl rfl hd fun H' e1 e2 e3 => ?_
  rw [hsl] at e1 ⊢
  exact hk0 H' _ (hP.put ha (ob_set hts hin ty0 hty hnm hK hc hk hl q2 q3 q4 e1) e3) (lc_app hL (lc_one hge))
theorem v_putN {a ci k index N : Nat} {C host : String} {T : u_T} {fs : List Value} {v : Value} {ty : FieldType} (hd : decode mi.1 pc = .ok (.putfield index, 3)) (ha : μ a = some (.inr (ci, fs))) (hc : amCl[ci]? = some (C, T, N)) (hin : ∀ w ∈ u_ws C T N, w ∈ lw_all) (ty0 : Nat → FieldType) (hty : ∀ k, k < N → parseFieldDescriptor (T k).2.2.1 = some (ty0 k)) (hnm : ∀ a, a < N → ∀ b, b < N → a ≠ b → (T a).2.1 ≠ (T b).2.1) (hk : k < N) (hlink : Cond.fieldLinkNest mi.2.2.1 index (T k).1 (T k).2.1 (T k).2.2.1 host ∈ lw_tbl) (hfin : (T k).2.2.2 = false) (hd2 : ty0 k = ty) (hn : narrow ty v = v) (hfit : fits ty v = true) (hl : k < fs.length) (kk : V κ g mi Q (va_up μ a (some (.inr (ci, fs.set k v)))) nc ns (pc + 3) lv st) : V κ g mi Q μ nc ns pc lv (v :: .ref a :: st) := by
  obtain ⟨p, l, e, R, s, m, args, below, meth, c⟩ := κ
  intro hO H locs ls hP hL hls
  have hk0 := fun H1 locs1 h1 h2 => kk hO H1 locs1 ls h1 h2 hls
  have hnw := Ok.nw hO hlink rfl
  obtain ⟨hx, hb, -, hown, hts, -, -, -, hW, hS, -⟩ := hO
  have hK := va_K.moved hW.alike hS.1
  obtain ⟨hge, r, h1, cell, q1, q2, q3, q4⟩ := hP.2 _ _ ha
  have hr : r = (C, T, N) := Option.some.inj (h1.symm.trans hc)
  subst hr
  obtain ⟨hSl, hfc, kC, hkC, hkind⟩ := hK.1 ci _ hc
  obtain ⟨cf, kf, fi, f, hi, hsl⟩ := hSl k hk
  have hlay := hts _ (hin _ (u_in_lay hk))
  unfold u_lay at hlay
  rw [if_neg (by rw [hfin]; decide)] at hlay
  have hst := (u_facts hfc hkC (u_lays hts hin hk) hi).1
  have h6 := u_store hfc hkC hkind hlay hi (by rw [← hd2]; exact hty k hk) hn hfit
  refine va_WputK hx hb (f := f) hown (va_Nw.use rfl (va_Nw.warmF hW hnw)) hi hst (by rw [q2]; exact h6) q1 q3 (by rw [hsl]; exact k2_hasslot (q4 k hk)) rfl rfl hd fun H' e1 e2 e3 => ?_
  rw [hsl] at e1 ⊢
  exact hk0 H' _ (hP.put ha (ob_set hts hin ty0 hty hnm hK hc hk hl q2 q3 q4 e1) e3) (lc_app hL (lc_one hge))
theorem v_putF {a ci k index N : Nat} {C : String} {T : u_T} {fs : List Value} {v : Value} {ty : FieldType} (hd : decode mi.1 pc = .ok (.putfield index, 3)) (ha : μ a = some (.inr (ci, fs))) (hc : amCl[ci]? = some (C, T, N)) (hin : ∀ w ∈ u_ws C T N, w ∈ lw_all) (ty0 : Nat → FieldType) (hty : ∀ k, k < N → parseFieldDescriptor (T k).2.2.1 = some (ty0 k)) (hnm : ∀ a, a < N → ∀ b, b < N → a ≠ b → (T a).2.1 ≠ (T b).2.1) (hk : k < N) (hlink : Cond.fieldLink mi.2.2.1 index (T k).1 (T k).2.1 (T k).2.2.1 ∈ lw_all) (hfin : (T k).2.2.2 = true) (hin2 : mi.2.2.2.2.2.1 = "<init>") (hdecl : (T k).1 = mi.2.2.1) (hd2 : ty0 k = ty) (hn : narrow ty v = v) (hfit : fits ty v = true) (hl : k < fs.length) (kk : V κ g mi Q (va_up μ a (some (.inr (ci, fs.set k v)))) nc ns (pc + 3) lv st) : V κ g mi Q μ nc ns pc lv (v :: .ref a :: st) := by
  obtain ⟨p, l, e, R, s, m, args, below, meth, c⟩ := κ
  intro hO H locs ls hP hL hls
  have hk0 := fun H1 locs1 h1 h2 => kk hO H1 locs1 ls h1 h2 hls
  obtain ⟨hx, hb, -, hown, hts, -, -, -, hW, hS, hnam, -⟩ := hO
  have hK := va_K.moved hW.alike hS.1
  obtain ⟨hge, r, h1, cell, q1, q2, q3, q4⟩ := hP.2 _ _ ha
  have hr : r = (C, T, N) := Option.some.inj (h1.symm.trans hc)
  subst hr
  obtain ⟨hSl, hfc, kC, hkC, hkind⟩ := hK.1 ci _ hc
  obtain ⟨cf, kf, fi, f, hi, hsl⟩ := hSl k hk
  have hlay := hts _ (hin _ (u_in_lay hk))
  unfold u_lay at hlay
  rw [if_pos hfin] at hlay
  have hst := (u_facts hfc hkC (u_lays hts hin hk) hi).1
  have hcf : m.cls = cf := by
    obtain ⟨_, _, c', _, _, _, -, -, hf', -, -, -, hown2, -⟩ := Cond.laysFinal_spec hlay
    have e1 : c' = cf := by have := hi.symm.trans hf'; simp at this; exact this.1.symm
    rw [hdecl] at hown2
    rw [← e1]; exact Option.some.inj (hown.symm.trans hown2)
  have h6 := u_fits hfc hkC hkind (Or.inr hlay) hi (by rw [← hd2]; exact hty k hk) hn hfit
  refine W.putFinK hx hb hown (hts _ hlink) hi hst hcf (hnam.trans hin2) (by rw [q2]; exact h6) q1 q3 (by rw [hsl]; exact k2_hasslot (q4 k hk)) rfl rfl hd fun H' e1 e2 e3 => ?_
  rw [hsl] at e1 ⊢
  exact hk0 H' _ (hP.put ha (ob_set hts hin ty0 hty hnm hK hc hk hl q2 q3 q4 e1) e3) (lc_app hL (lc_one hge))
/-! arrays -/
theorem ad_set {H1 : Heap} {a n : Nat} {cA : ClassId} {f f' : Nat → Value} {x x' : vp_A} {j : Nat} {v : Value} (h0 : vp_cell cA x = arrV cA n f) (h1 : vp_cell cA x' = arrV cA n f') (e : H1[a]? = some ((vp_cell cA x).setSlot j v)) (hf : updV f j v = f') : H1[a]? = some (vp_cell cA x') := by
  rw [e, h0, arrV_store, hf, h1]
theorem upd_i (f : Nat → Int32) (k : Nat) (x : Int32) : updV (fun j => .int (f j)) k (.int x) = fun j => .int (upd f k x j) := by
  funext q
  by_cases hq : q = k
  · subst hq; simp [updV, upd]
  · simp [updV, upd, hq]
theorem upd_l (f : Nat → Int64) (k : Nat) (x : Int64) : updV (fun j => .long (f j)) k (.long x) = fun j => .long (vp_updL f k x j) := by
  funext q
  by_cases hq : q = k
  · subst hq; simp [updV, vp_updL]
  · simp [updV, vp_updL, hq]
theorem upd_q (f : Nat → Option Nat) (k : Nat) (x : Option Nat) : updV (fun j => va_rf (f j)) k (va_rf x) = fun j => va_rf (va_up f k x j) := by
  funext q
  by_cases hq : q = k
  · subst hq; simp [updV, va_up]
  · simp [updV, va_up, hq]
theorem Ok.ty {p : Program} {l : Launch} {e : Env} {R : Room} {s : State} {m : MethodId} {args : Array Value} {below : List Frame} {meth : Method} {c : Code} (hO : Ok (p, l, e, R, s, m, args, below, meth, c) g mi) {t : Nat} {cA : ClassId} {ty : FieldType} (ht : (amTy g)[t]? = some (cA, ty)) : ArrOfT s cA ty ∧ va_RA s cA ty := by
  obtain ⟨-, -, -, -, -, -, -, -, hW, hS, -⟩ := hO
  exact (va_K.moved hW.alike hS.1).2 t _ ht
theorem v_iald {a n : Nat} {f : Nat → Int32} {i : Int32} (hd : decode mi.1 pc = .ok (.iaload, 1)) (ha : μ a = some (.inl (g.2.2 0, n, .inl f))) (hin : vp_in i n) (kk : V κ g mi Q μ nc ns (pc + 1) lv (.int (f i.toNatClampNeg) :: st)) : V κ g mi Q μ nc ns pc lv (.int i :: .ref a :: st) := by
  obtain ⟨p, l, e, R, s, m, args, below, meth, c⟩ := κ
  intro hO H locs ls hP hL hl
  have hlt : i.toNatClampNeg < n := Nat.not_le.mp fun q => hin (Or.inr q)
  exact W.iald (v := .int (f i.toNatClampNeg)) hO.1 hO.2.1 (hP.2 _ _ ha).2 ((Ok.ty hO (t := 0) rfl).1 n (fun j => .int (f j))) (fun q => by cases q) (by show ¬ (i < 0 ∨ (arrV _ _ _).slots.size ≤ _); rw [arrV_size]; exact hin) (by show (arrV _ _ _).slots[_]? = _; rw [arrV_read _ _ hlt]) rfl rfl hd (kk hO H locs ls hP hL hl)
theorem v_lald {a n : Nat} {f : Nat → Int64} {i : Int32} (hd : decode mi.1 pc = .ok (.laload, 1)) (ha : μ a = some (.inl (g.2.2 1, n, .inr (.inl f)))) (hin : vp_in i n) (kk : V κ g mi Q μ nc ns (pc + 1) lv (.long (f i.toNatClampNeg) :: st)) : V κ g mi Q μ nc ns pc lv (.int i :: .ref a :: st) := by
  obtain ⟨p, l, e, R, s, m, args, below, meth, c⟩ := κ
  intro hO H locs ls hP hL hl
  have hlt : i.toNatClampNeg < n := Nat.not_le.mp fun q => hin (Or.inr q)
  exact W.lald (v := .long (f i.toNatClampNeg)) hO.1 hO.2.1 (hP.2 _ _ ha).2 ((Ok.ty hO (t := 1) rfl).1 n (fun j => .long (f j))) (fun q => by cases q) (by show ¬ (i < 0 ∨ (arrV _ _ _).slots.size ≤ _); rw [arrV_size]; exact hin) (by show (arrV _ _ _).slots[_]? = _; rw [arrV_read _ _ hlt]) rfl rfl hd (kk hO H locs ls hP hL hl)
theorem v_bald {a n : Nat} {f : Nat → Int32} {i : Int32} (hd : decode mi.1 pc = .ok (.baload, 1)) (ha : μ a = some (.inl (g.2.2 2, n, .inl f))) (hin : vp_in i n) (kk : V κ g mi Q μ nc ns (pc + 1) lv (.int (f i.toNatClampNeg) :: st)) : V κ g mi Q μ nc ns pc lv (.int i :: .ref a :: st) := by
  obtain ⟨p, l, e, R, s, m, args, below, meth, c⟩ := κ
  intro hO H locs ls hP hL hl
  have hlt : i.toNatClampNeg < n := Nat.not_le.mp fun q => hin (Or.inr q)
  exact W.bald (v := .int (f i.toNatClampNeg)) hO.1 hO.2.1 (hP.2 _ _ ha).2 ((Ok.ty hO (t := 2) rfl).1 n (fun j => .int (f j))) (fun q => by cases q) (by show ¬ (i < 0 ∨ (arrV _ _ _).slots.size ≤ _); rw [arrV_size]; exact hin) (by show (arrV _ _ _).slots[_]? = _; rw [arrV_read _ _ hlt]) rfl rfl hd (kk hO H locs ls hP hL hl)
theorem v_zald {a n : Nat} {f : Nat → Int32} {i : Int32} (hd : decode mi.1 pc = .ok (.baload, 1)) (ha : μ a = some (.inl (g.2.2 3, n, .inl f))) (hin : vp_in i n) (kk : V κ g mi Q μ nc ns (pc + 1) lv (.int (f i.toNatClampNeg) :: st)) : V κ g mi Q μ nc ns pc lv (.int i :: .ref a :: st) := by
  obtain ⟨p, l, e, R, s, m, args, below, meth, c⟩ := κ
  intro hO H locs ls hP hL hl
  have hlt : i.toNatClampNeg < n := Nat.not_le.mp fun q => hin (Or.inr q)
  exact W.zald (v := .int (f i.toNatClampNeg)) hO.1 hO.2.1 (hP.2 _ _ ha).2 ((Ok.ty hO (t := 3) rfl).1 n (fun j => .int (f j))) (fun q => by cases q) (by show ¬ (i < 0 ∨ (arrV _ _ _).slots.size ≤ _); rw [arrV_size]; exact hin) (by show (arrV _ _ _).slots[_]? = _; rw [arrV_read _ _ hlt]) rfl rfl hd (kk hO H locs ls hP hL hl)
theorem v_aald {a n t : Nat} {cA : ClassId} {ty : FieldType} {f : Nat → Option Nat} {i : Int32} (hd : decode mi.1 pc = .ok (.aaload, 1)) (ha : μ a = some (.inl (cA, n, .inr (.inr (.inr (.inr f)))))) (ht : (amTy g)[t]? = some (cA, ty)) (hr : ty.isReference = true) (hin : vp_in i n) (kk : V κ g mi Q μ nc ns (pc + 1) lv (va_rf (f i.toNatClampNeg) :: st)) : V κ g mi Q μ nc ns pc lv (.int i :: .ref a :: st) := by
  obtain ⟨p, l, e, R, s, m, args, below, meth, c⟩ := κ
  intro hO H locs ls hP hL hl
  have hlt : i.toNatClampNeg < n := Nat.not_le.mp fun q => hin (Or.inr q)
  exact W.aald (v := va_rf (f i.toNatClampNeg)) (ty := ty) hO.1 hO.2.1 (hP.2 _ _ ha).2 ((Ok.ty hO ht).1 n (fun j => va_rf (f j))) hr (fun q => by cases q) (by show ¬ (i < 0 ∨ (arrV _ _ _).slots.size ≤ _); rw [arrV_size]; exact hin) (by show (arrV _ _ _).slots[_]? = _; rw [arrV_read _ _ hlt]) rfl rfl hd (kk hO H locs ls hP hL hl)
theorem v_iast {a n : Nat} {f : Nat → Int32} {i x : Int32} (hd : decode mi.1 pc = .ok (.iastore, 1)) (ha : μ a = some (.inl (g.2.2 0, n, .inl f))) (hin : vp_in i n) (kk : V κ g mi Q (va_up μ a (some (.inl (g.2.2 0, n, .inl (upd f i.toNatClampNeg x))))) nc ns (pc + 1) lv st) : V κ g mi Q μ nc ns pc lv (.int x :: .int i :: .ref a :: st) := by
  obtain ⟨p, l, e, R, s, m, args, below, meth, c⟩ := κ
  intro hO H locs ls hP hL hl
  obtain ⟨hge, hat⟩ := hP.2 _ _ ha
  refine W.iast hO.1 hO.2.1 hat ((Ok.ty hO (t := 0) rfl).1 n (fun j => .int (f j))) (fun q => by cases q) (by show ¬ (i < 0 ∨ (arrV _ _ _).slots.size ≤ _); rw [arrV_size]; exact hin) rfl rfl hd fun H1 e1 z oq => ?_
  exact kk hO H1 _ ls (hP.put ha (ad_set rfl rfl e1 (upd_i f _ x)) oq) (lc_app hL (lc_one hge)) hl
theorem v_last {a n : Nat} {f : Nat → Int64} {i : Int32} {x : Int64} (hd : decode mi.1 pc = .ok (.lastore, 1)) (ha : μ a = some (.inl (g.2.2 1, n, .inr (.inl f)))) (hin : vp_in i n) (kk : V κ g mi Q (va_up μ a (some (.inl (g.2.2 1, n, .inr (.inl (vp_updL f i.toNatClampNeg x)))))) nc ns (pc + 1) lv st) : V κ g mi Q μ nc ns pc lv (.long x :: .int i :: .ref a :: st) := by
  obtain ⟨p, l, e, R, s, m, args, below, meth, c⟩ := κ
  intro hO H locs ls hP hL hl
  obtain ⟨hge, hat⟩ := hP.2 _ _ ha
  refine W.last hO.1 hO.2.1 hat ((Ok.ty hO (t := 1) rfl).1 n (fun j => .long (f j))) (fun q => by cases q) (by show ¬ (i < 0 ∨ (arrV _ _ _).slots.size ≤ _); rw [arrV_size]; exact hin) rfl rfl hd fun H1 e1 z oq => ?_
  exact kk hO H1 _ ls (hP.put ha (ad_set rfl rfl e1 (upd_l f _ x)) oq) (lc_app hL (lc_one hge)) hl
theorem v_bast {a n : Nat} {f : Nat → Int32} {i x : Int32} (hd : decode mi.1 pc = .ok (.bastore, 1)) (ha : μ a = some (.inl (g.2.2 2, n, .inl f))) (hin : vp_in i n) (kk : V κ g mi Q (va_up μ a (some (.inl (g.2.2 2, n, .inl (upd f i.toNatClampNeg x.toInt8.toInt32))))) nc ns (pc + 1) lv st) : V κ g mi Q μ nc ns pc lv (.int x :: .int i :: .ref a :: st) := by
  obtain ⟨p, l, e, R, s, m, args, below, meth, c⟩ := κ
  intro hO H locs ls hP hL hl
  obtain ⟨hge, hat⟩ := hP.2 _ _ ha
  refine W.bast hO.1 hO.2.1 hat ((Ok.ty hO (t := 2) rfl).1 n (fun j => .int (f j))) (fun q => by cases q) (by show ¬ (i < 0 ∨ (arrV _ _ _).slots.size ≤ _); rw [arrV_size]; exact hin) rfl rfl hd fun H1 e1 z oq => ?_
  exact kk hO H1 _ ls (hP.put ha (ad_set rfl rfl e1 (upd_i f _ x.toInt8.toInt32)) oq) (lc_app hL (lc_one hge)) hl
theorem v_zast {a n : Nat} {f : Nat → Int32} {i x : Int32} (hd : decode mi.1 pc = .ok (.bastore, 1)) (ha : μ a = some (.inl (g.2.2 3, n, .inl f))) (hin : vp_in i n) (hx : narrow .boolean (.int x) = .int x) (kk : V κ g mi Q (va_up μ a (some (.inl (g.2.2 3, n, .inl (upd f i.toNatClampNeg x))))) nc ns (pc + 1) lv st) : V κ g mi Q μ nc ns pc lv (.int x :: .int i :: .ref a :: st) := by
  obtain ⟨p, l, e, R, s, m, args, below, meth, c⟩ := κ
  intro hO H locs ls hP hL hl
  obtain ⟨hge, hat⟩ := hP.2 _ _ ha
  refine W.zast hO.1 hO.2.1 hat ((Ok.ty hO (t := 3) rfl).1 n (fun j => .int (f j))) (fun q => by cases q) (by show ¬ (i < 0 ∨ (arrV _ _ _).slots.size ≤ _); rw [arrV_size]; exact hin) rfl rfl hd fun H1 e1 z oq => ?_
  rw [hx] at e1
  exact kk hO H1 _ ls (hP.put ha (ad_set rfl rfl e1 (upd_i f _ x)) oq) (lc_app hL (lc_one hge)) hl
/-- an object into an array of its class -/
theorem v_aast {a n t v ci : Nat} {cA : ClassId} {r : vw_C} {vs : List Value} {f : Nat → Option Nat} {i : Int32} (hd : decode mi.1 pc = .ok (.aastore, 1)) (ha : μ a = some (.inl (cA, n, .inr (.inr (.inr (.inr f)))))) (ht : (amTy g)[t]? = some (cA, .object r.1)) (hv : μ v = some (.inr (ci, vs))) (hc : amCl[ci]? = some r) (hin : vp_in i n) (kk : V κ g mi Q (va_up μ a (some (.inl (cA, n, .inr (.inr (.inr (.inr (va_up f i.toNatClampNeg (some v))))))))) nc ns (pc + 1) lv st) : V κ g mi Q μ nc ns pc lv (.ref v :: .int i :: .ref a :: st) := by
  obtain ⟨p, l, e, R, s, m, args, below, meth, c⟩ := κ
  intro hO H locs ls hP hL hl
  have hlt : i.toNatClampNeg < n := Nat.not_le.mp fun q => hin (Or.inr q)
  have h0 : ¬ i < 0 := fun q => hin (Or.inl q)
  obtain ⟨hge, hat⟩ := hP.2 _ _ ha
  obtain ⟨r', hr', cellV, g1, g2, g3, -⟩ := (hP.2 _ _ hv).2
  have hK := va_K.moved hO.2.2.2.2.2.2.2.2.1.alike hO.2.2.2.2.2.2.2.2.2.1.1
  have hcls := (hK.1 ci r hc).2
  obtain ⟨kA, comp, k1, k2, k3, -⟩ := (hK.2 t _ ht).2
  have hcomp : comp = g.2.1.1 ci := Option.some.inj (k3.symm.trans hcls.1)
  subst hcomp
  obtain ⟨kC, hkC, -⟩ := hcls.2
  refine W.aast hO.1 hO.2.1 hat (fun q h => by cases h) (fun h => by cases h) k1 k2 rfl hkC ⟨h0, by show _ < (arrV _ _ _).slots.size; rw [arrV_size]; exact hlt⟩ g1 (fun q h => by rw [g3] at h; cases h) (by rw [g2]; exact hkC) (by rw [g2]; exact va_assign hcls) rfl rfl hd fun H1 e1 z oq => ?_
  exact kk hO H1 _ ls (hP.put ha (ad_set rfl rfl e1 (upd_q f _ (some v))) oq) (lc_app hL (lc_one hge)) hl
/-- nothing into an array of objects -/
theorem v_aastN {a n t : Nat} {cA : ClassId} {C : String} {f : Nat → Option Nat} {i : Int32} (hd : decode mi.1 pc = .ok (.aastore, 1)) (ha : μ a = some (.inl (cA, n, .inr (.inr (.inr (.inr f)))))) (ht : (amTy g)[t]? = some (cA, .object C)) (hin : vp_in i n) (kk : V κ g mi Q (va_up μ a (some (.inl (cA, n, .inr (.inr (.inr (.inr (va_up f i.toNatClampNeg none)))))))) nc ns (pc + 1) lv st) : V κ g mi Q μ nc ns pc lv (.null :: .int i :: .ref a :: st) := by
  obtain ⟨p, l, e, R, s, m, args, below, meth, c⟩ := κ
  intro hO H locs ls hP hL hl
  obtain ⟨hge, hat⟩ := hP.2 _ _ ha
  refine va_WaastN (C := C) hO.1 hO.2.1 hat ((Ok.ty hO ht).1 n (fun j => va_rf (f j))) (fun h => by cases h) (by show ¬ (i < 0 ∨ (arrV _ _ _).slots.size ≤ _); rw [arrV_size]; exact hin) rfl rfl hd fun H1 e1 z oq => ?_
  exact kk hO H1 _ ls (hP.put ha (ad_set rfl rfl e1 (upd_q f _ none)) oq) (lc_app hL (lc_one hge)) hl
theorem v_alen {a t : Nat} {cA : ClassId} {x : vp_A} {ty : FieldType} {v : Int32} (hd : decode mi.1 pc = .ok (.arraylength, 1)) (ha : μ a = some (.inl (cA, x))) (ht : (amTy g)[t]? = some (cA, ty)) (hv : nI x.1 = v) (kk : V κ g mi Q μ nc ns (pc + 1) lv (.int v :: st)) : V κ g mi Q μ nc ns pc lv (.ref a :: st) := by
  obtain ⟨p, l, e, R, s, m, args, below, meth, c⟩ := κ
  intro hO H locs ls hP hL hl
  have hk := kk hO H locs ls hP hL hl
  subst hv
  have hat := (hP.2 _ _ ha).2
  have hty := (Ok.ty hO ht).1
  obtain ⟨n, f | f | f | f | f⟩ := x
  · exact W.alen (n := nI n) hO.1 hO.2.1 hat (hty n (fun j => .int (f j))) (by rw [vp_cell_i, arrV_size] <;> rfl) rfl rfl hd hk
  · exact W.alen (n := nI n) hO.1 hO.2.1 hat (hty n (fun j => .long (f j))) (by rw [vp_cell_l, arrV_size] <;> rfl) rfl rfl hd hk
  · exact W.alen (n := nI n) hO.1 hO.2.1 hat (hty n (fun j => .float (f j))) (by rw [vp_cell_f, arrV_size] <;> rfl) rfl rfl hd hk
  · exact W.alen (n := nI n) hO.1 hO.2.1 hat (hty n (fun j => .double (f j))) (by rw [vp_cell_d, arrV_size] <;> rfl) rfl rfl hd hk
  · exact W.alen (n := nI n) hO.1 hO.2.1 hat (hty n (fun j => va_rf (f j))) (by rw [vp_cell_q, arrV_size] <;> rfl) rfl rfl hd hk
/-! new cells -/
theorem v_new {ci index N : Nat} {C : String} {T : u_T} {fs : List Value} (hd : decode mi.1 pc = .ok (.new index, 3)) (hc : amCl[ci]? = some (C, T, N)) (hin : ∀ w ∈ u_ws C T N, w ∈ lw_all) (ty : Nat → FieldType) (hty : ∀ k, k < N → parseFieldDescriptor (T k).2.2.1 = some (ty k)) (h1 : Cond.classLink mi.2.2.1 index C ∈ lw_all) (h2 : Cond.instantiable C N ∈ lw_all) (h3 : Cond.initialized C ∈ lw_all) (hfs : ∀ j, j < N → defaultValue (ty j) = vp_V fs j) (hcells : nc + 1 ≤ mi.2.2.2.2.1.cells) (hslots : ns + N ≤ mi.2.2.2.2.1.slots) (kk : ∀ q : Nat, μ q = none → V κ g mi Q (va_up μ q (some (.inr (ci, fs)))) (nc + 1) (ns + N) (pc + 3) lv (.ref q :: st)) : V κ g mi Q μ nc ns pc lv st := by
  obtain ⟨p, l, e, R, s, m, args, below, meth, c⟩ := κ
  intro hO H locs ls hP hL hl
  have hk := fun q hq H1 h1 => kk q hq hO H1 locs ls h1 hL hl
  obtain ⟨hx, hb, -, hown, hts, -, -, hR, hW, hS, -⟩ := hO
  have hK := va_K.moved hW.alike hS.1
  have hKn := hK.1 ci _ hc
  refine W.newcK hx hb hown (hts _ h1) (hts _ h2) (hts _ h3) rfl hd (by rw [hR]; exact hcells) (by rw [hR]; exact hslots) hKn.2.1 rfl fun H1 kC hkC e1 z1 o1 => ?_
  exact hk H.size hP.fresh H1 (hP.push ⟨_, hc, (u_born ty hts hin hKn hkC e1 hty).to hfs⟩ o1)
theorem v_newa {atype : ArrayType} {t N : Nat} {n : Int32} {a0 : vp_A} {cA : ClassId} {ty : FieldType} (hd : decode mi.1 pc = .ok (.newarray atype, 2)) (h1 : Cond.arrayClass ty ∈ lw_all) (hty : newarray.typeOf atype = ty) (ht : (amTy g)[t]? = some (cA, ty)) (hp : va_RA g.1 cA ty → g.1.vm.findClass ("[" ++ ty.toString) = some cA) (ha : ∀ cA : ClassId, vp_cell cA a0 = arrV cA N (fun _ => defaultValue ty)) (hn : ¬ n < 0) (hN : n.toNatClampNeg = N) (hbytes : N * componentBytes ty ≤ 536870912) (hcells : nc + 1 ≤ mi.2.2.2.2.1.cells) (hslots : ns + N ≤ mi.2.2.2.2.1.slots) (kk : ∀ q : Nat, μ q = none → V κ g mi Q (va_up μ q (some (.inl (cA, a0)))) (nc + 1) (ns + N) (pc + 2) lv (.ref q :: st)) : V κ g mi Q μ nc ns pc lv (.int n :: st) := by
  obtain ⟨p, l, e, R, s, m, args, below, meth, c⟩ := κ
  intro hO H locs ls hP hL hl
  have hk := fun q hq H1 h1 => kk q hq hO H1 locs ls h1 hL hl
  obtain ⟨hx, hb, -, hown, hts, -, -, hR, hW, hS, -⟩ := hO
  subst hty
  have hf := hp (hS.1.2 t _ ht).2
  refine va_newaK hx hb (hts _ h1) rfl hd rfl hn hN hbytes (by rw [hR]; exact hcells) (by rw [hR]; exact hslots) rfl fun H1 cA' e1 z1 o1 hAr hNm => ?_
  have hcA : cA' = cA := Option.some.inj (hNm.symm.trans (by rw [hW.alike.findClass]; exact hf))
  subst hcA
  refine hk H.size hP.fresh H1 (hP.push ?_ o1)
  show H1[H.size]? = some (vp_cell _ _)
  rw [ha]
  exact e1
theorem v_newq {index t N : Nat} {n : Int32} {cA : ClassId} {C : String} (hd : decode mi.1 pc = .ok (.anewarray index, 3)) (h1 : Cond.classLink mi.2.2.1 index C ∈ lw_all) (h2 : Cond.arrayOver (.object C) ∈ lw_tbl) (ht : (amTy g)[t]? = some (cA, .object C)) (hn : ¬ n < 0) (hN : n.toNatClampNeg = N) (hbytes : N * 4 ≤ 536870912) (hcells : nc + 1 ≤ mi.2.2.2.2.1.cells) (hslots : ns + N ≤ mi.2.2.2.2.1.slots) (kk : ∀ q : Nat, μ q = none → V κ g mi Q (va_up μ q (some (.inl (cA, N, .inr (.inr (.inr (.inr (fun _ => none)))))))) (nc + 1) (ns + N) (pc + 3) lv (.ref q :: st)) : V κ g mi Q μ nc ns pc lv (.int n :: st) := by
  obtain ⟨p, l, e, R, s, m, args, below, meth, c⟩ := κ
  intro hO H locs ls hP hL hl
  have hk := fun q hq H1 h1 => kk q hq hO H1 locs ls h1 hL hl
  obtain ⟨hx, hb, -, hown, hts, -, -, hR, hW, hS, -⟩ := hO
  subst hN
  have hao : va_AO C g.1 := by
    obtain ⟨-, ⟨b, hb, -⟩, -⟩ := hS
    exact va_AO.of (hb _ h2)
  obtain ⟨-, -, -, -, -, hf⟩ := (hS.1.2 t _ ht).2
  refine W.anew hx hb hown (hts _ h1) (va_AO.use (hao.moved hW.alike)) rfl hd rfl hn hbytes (by rw [hR]; exact hcells) (by rw [hR]; exact hslots) fun cA' kA comp f1 f2 f3 f4 => ?_
  have hcA : cA' = cA := Option.some.inj (f1.symm.trans (by rw [hW.alike.findClass]; exact hf))
  subst hcA
  generalize hH1 : H.push ({ cls := cA', slots := Array.replicate n.toNatClampNeg .null, vm := .none } : Cell) = H1
  have e1 : H1[H.size]? = some (arrV cA' n.toNatClampNeg (fun _ => .null)) := by rw [← hH1, Array.getElem?_push_size, ← arrV_new]
  have o1 : ∀ q : Nat, q < H.size → H1[q]? = H[q]? := fun q hq => by rw [← hH1, Array.getElem?_push, if_neg (Nat.ne_of_lt hq)]
  refine hk H.size hP.fresh H1 (hP.push ?_ o1)
  show H1[H.size]? = some (vp_cell _ _)
  rw [vp_cell_q]
  exact e1
/-! casts of arrays: int[][] as an array of references; what an array is and isn't -/
theorem v_newqA {index t N : Nat} {n : Int32} {cA : ClassId} {ty : FieldType} (hd : decode mi.1 pc = .ok (.anewarray index, 3)) (h1 : Cond.classLink mi.2.2.1 index (FieldType.array ty).toString ∈ lw_all) (h2 : Cond.arrayOver (.array ty) ∈ lw_tbl) (ht : (amTy g)[t]? = some (cA, .array ty)) (hn : ¬ n < 0) (hN : n.toNatClampNeg = N) (hbytes : N * 4 ≤ 536870912) (hcells : nc + 1 ≤ mi.2.2.2.2.1.cells) (hslots : ns + N ≤ mi.2.2.2.2.1.slots) (kk : ∀ q : Nat, μ q = none → V κ g mi Q (va_up μ q (some (.inl (cA, N, .inr (.inr (.inr (.inr (fun _ => none)))))))) (nc + 1) (ns + N) (pc + 3) lv (.ref q :: st)) : V κ g mi Q μ nc ns pc lv (.int n :: st) := by
  obtain ⟨p, l, e, R, s, m, args, below, meth, c⟩ := κ
  intro hO H locs ls hP hL hl
  have hk := fun q hq H1 h1 => kk q hq hO H1 locs ls h1 hL hl
  obtain ⟨hx, hb, -, hown, hts, -, -, hR, hW, hS, -⟩ := hO
  subst hN
  have hao : (Cond.arrayOver (.array ty)).before args s = true := by
    obtain ⟨-, ⟨b, hb, -⟩, -⟩ := hS
    obtain ⟨comp, c0, k, a1, a2, a3, a4, a5⟩ := arrayOverA_spec (hb _ h2)
    obtain ⟨k', hk', he⟩ := hW.alike.2.2 _ _ a3
    have hi : (s.vm.classes.findIdx? fun (x : Class) => match x.kind with | .array component _ => component == comp | _ => false) = some c0 := by
      rw [hW.alike.findIdx?_eq _ (fun _ => rfl)]; exact a2
    have hkind : k'.kind = .array comp (.array ty) := by rw [he]; exact a4
    have f1 : s.vm.findClass (FieldType.array ty).toString = some comp := by rw [hW.alike.findClass]; exact a1
    have f2 : s.vm.findClass ("[" ++ (FieldType.array ty).toString) = some c0 := by rw [hW.alike.findClass]; exact a5
    unfold Cond.before Cond.holds
    simp only [Cond.value]
    rw [f1, Option.bind_some]
    refine (congrArg (fun o : Option Nat => (o.bind (fun c => (s.vm.classes[c]?).map fun (k : Class) => match k.kind with | .array _ ty' => decide (ty' = FieldType.array ty) && decide (s.vm.findClass ("[" ++ (FieldType.array ty).toString) = some c) | _ => false) == some true)) hi).trans ?_
    simp [hk', hkind, f2]
  have hf : g.1.vm.findClass ("[" ++ (FieldType.array ty).toString) = some cA := (hS.1.2 t _ ht).2
  refine W.anewA hx hb hown (hts _ h1) hao rfl hd rfl hn hbytes (by rw [hR]; exact hcells) (by rw [hR]; exact hslots) fun cA' kA comp f1 f2 f3 f4 => ?_
  have hcA : cA' = cA := Option.some.inj (f1.symm.trans (by rw [hW.alike.findClass]; exact hf))
  subst hcA
  generalize hH1 : H.push ({ cls := cA', slots := Array.replicate n.toNatClampNeg .null, vm := .none } : Cell) = H1
  have e1 : H1[H.size]? = some (arrV cA' n.toNatClampNeg (fun _ => .null)) := by rw [← hH1, Array.getElem?_push_size, ← arrV_new]
  have o1 : ∀ q : Nat, q < H.size → H1[q]? = H[q]? := fun q hq => by rw [← hH1, Array.getElem?_push, if_neg (Nat.ne_of_lt hq)]
  refine hk H.size hP.fresh H1 (hP.push ?_ o1)
  show H1[H.size]? = some (vp_cell _ _)
  rw [vp_cell_q]
  exact e1
theorem as_self (vm : Vm) (c : ClassId) : vm.assignable c c = true := by
  show Vm.assignableAux vm (255 + 1) c c = true
  rw [Vm.assignableAux, beq_self_eq_true, Bool.true_or]
/-- an int array into an int[][] -/
theorem v_aastI {a n v : Nat} {x : vp_A} {f : Nat → Option Nat} {i : Int32} (hd : decode mi.1 pc = .ok (.aastore, 1)) (ha : μ a = some (.inl (g.2.2 6, n, .inr (.inr (.inr (.inr f)))))) (h2 : Cond.arrayOver (.array .int) ∈ lw_tbl) (hv : μ v = some (.inl (g.2.2 0, x))) (hin : vp_in i n) (kk : V κ g mi Q (va_up μ a (some (.inl (g.2.2 6, n, .inr (.inr (.inr (.inr (va_up f i.toNatClampNeg (some v))))))))) nc ns (pc + 1) lv st) : V κ g mi Q μ nc ns pc lv (.ref v :: .int i :: .ref a :: st) := by
  obtain ⟨p, l, e, R, s, m, args, below, meth, c⟩ := κ
  intro hO H locs ls hP hL hl
  have hlt : i.toNatClampNeg < n := Nat.not_le.mp fun q => hin (Or.inr q)
  have h0 : ¬ i < 0 := fun q => hin (Or.inl q)
  obtain ⟨hge, hat⟩ := hP.2 _ _ ha
  have hav := (hP.2 _ _ hv).2
  have hW := hO.2.2.2.2.2.2.2.2.1
  have hS := hO.2.2.2.2.2.2.2.2.2.1
  obtain ⟨⟨-, hty⟩, ⟨b, hbw, -⟩, -⟩ := hS
  obtain ⟨comp, c0, k, a1, a2, a3, a4, a5⟩ := arrayOverA_spec (hbw _ h2)
  have e6 : g.1.vm.findClass ("[" ++ (FieldType.array .int).toString) = some (g.2.2 6) := (hty 6 _ rfl).2
  have e0 : g.1.vm.findClass ("[" ++ FieldType.int.toString) = some (g.2.2 0) := (hty 0 _ rfl).2
  have hc0 : c0 = g.2.2 6 := Option.some.inj (a5.symm.trans e6)
  have hcm : comp = g.2.2 0 := Option.some.inj (a1.symm.trans e0)
  subst hc0; subst hcm
  obtain ⟨k', hk', he⟩ := hW.alike.2.2 _ _ a3
  have hkind : k'.kind = .array (g.2.2 0) (.array .int) := by rw [he]; exact a4
  obtain ⟨kI, hkI, -⟩ := Vm.findClass_spec (show s.vm.findClass ("[" ++ FieldType.int.toString) = some (g.2.2 0) by rw [hW.alike.findClass]; exact e0)
  have hcls : (vp_cell (g.2.2 0) x).cls = g.2.2 0 := by obtain ⟨n', f' | f' | f' | f' | f'⟩ := x <;> rfl
  have hvm : (vp_cell (g.2.2 0) x).vm = .none := by obtain ⟨n', f' | f' | f' | f' | f'⟩ := x <;> rfl
  refine W.aast hO.1 hO.2.1 hat (fun q h => by cases h) (fun h => by cases h) hk' hkind rfl hkI ⟨h0, by show _ < (arrV _ _ _).slots.size; rw [arrV_size]; exact hlt⟩ hav (fun q h => by rw [hvm] at h; cases h) (by rw [hcls]; exact hkI) (by rw [hcls]; exact as_self _ _) rfl rfl hd fun H1 e1 z oq => ?_
  exact kk hO H1 _ ls (hP.put ha (ad_set rfl rfl e1 (upd_q f _ (some v))) oq) (lc_app hL (lc_one hge)) hl
theorem v_aastIN0 {T : State} {p : Program} {l : Launch} {e : Env} {R : Room} {s : State} {m : MethodId} {args : Array Value} {below : List Frame} {meth : Method} {c : Code} {locs : List Loc} {cells slots : Nat} (X : Stand p l e R s m args below meth c T locs cells slots) (hexec : p.tables.exec = Jvm.exec) {a : Addr} {cell : Cell} {ty : FieldType} {j : Int32} (hcell : T.heap[a]? = some cell) (harr : s.isArrayOf cell (.array ty)) (hknown : cell.vm ≠ .unknown)
    (hin : ¬ (j < 0 ∨ cell.slots.size ≤ j.toNatClampNeg))
    {g : JFrame} (hg : g.method = m) {rest : List Value} (hstack : g.stack = .null :: .int j :: .ref a :: rest) (hdg : decode c.code g.pc = .ok (.aastore, 1)) :
    Stand p l e R s m args below meth c (T.setCell a (cell.setSlot j.toNatClampNeg .null)) (locs ++ [⟨a, j.toNatClampNeg⟩]) cells slots ∧
      ∀ target, Steps p.tables e below ((T.setCell a (cell.setSlot j.toNatClampNeg .null)).setTop { g with pc := g.pc + 1, stack := rest }) target → Steps p.tables e below (T.setTop g) target := by
  have hT := State.isArrayOf_alike X.warmed.alike harr
  have hfit : T.fitsSlot cell.cls cell.vm j.toNatClampNeg .null = true := by
    obtain ⟨hobj, k, hk, comp, hkind⟩ := hT
    cases hvm : cell.vm <;> first | exact absurd hvm (hobj _) | simp [State.fitsSlot, State.slotType?, hk, hkind, fits]
  refine ⟨X.stored hcell _ _, fun target hrest => ?_⟩
  subst hg
  jvm_step X.here [hexec, hdg]
  refine aastore.wp_of_null (c := cell) (t := .array ty) X.here.top hstack hcell hT hin hknown (Nat.not_le.mp fun q => hin (Or.inr q)) hfit ?_
  intro acts
  rw [afterInstr_ok]
  exact hrest
/-- nothing into an int[][] -/
theorem v_aastIN {a n : Nat} {f : Nat → Option Nat} {i : Int32} (hd : decode mi.1 pc = .ok (.aastore, 1)) (ha : μ a = some (.inl (g.2.2 6, n, .inr (.inr (.inr (.inr f)))))) (hin : vp_in i n) (kk : V κ g mi Q (va_up μ a (some (.inl (g.2.2 6, n, .inr (.inr (.inr (.inr (va_up f i.toNatClampNeg none)))))))) nc ns (pc + 1) lv st) : V κ g mi Q μ nc ns pc lv (.null :: .int i :: .ref a :: st) := by
  obtain ⟨p, l, e, R, s, m, args, below, meth, c⟩ := κ
  intro hO H locs ls hP hL hl T hT X
  obtain ⟨hge, hat⟩ := hP.2 _ _ ha
  have hT' : T.heap[a]? = some (vp_cell (g.2.2 6) (n, .inr (.inr (.inr (.inr f))))) := by rw [hT]; exact hat
  obtain ⟨X', st'⟩ := v_aastIN0 X hO.1 hT' ((Ok.ty hO (t := 6) rfl).1 n (fun j => va_rf (f j))) (fun h => by cases h) (j := i) (by show ¬ (i < 0 ∨ (arrV _ _ _).slots.size ≤ _); rw [arrV_size]; exact hin) (g := F0 m pc ls (.null :: .int i :: .ref a :: st)) rfl rfl (by rw [hO.2.1]; exact hd)
  have hlt : a < T.heap.size := (Array.getElem?_eq_some_iff.mp hT').1
  have oq : ∀ q : Nat, q ≠ a → (T.setCell a ((vp_cell (g.2.2 6) (n, .inr (.inr (.inr (.inr f))))).setSlot i.toNatClampNeg .null)).heap[q]? = H[q]? := fun q hq => by rw [heapAt_setCell_ne _ (Ne.symm hq), hT]
  obtain ⟨t', a1, b1⟩ := kk hO _ _ ls (hP.put ha (ad_set rfl rfl (heapAt_setCell_self _ hlt) (upd_q f _ none)) oq) (lc_app hL (lc_one hge)) hl _ rfl X'
  exact ⟨t', st' t' a1, b1⟩
theorem ar_recv {H : Heap} {a : Nat} {cA : ClassId} {x : vp_A} (h : va_at g.2.1 amCl (a, .inl (cA, x)) H) : ∃ cell : Cell, H[a]? = some cell ∧ cell.vm.isStatics = false ∧ cell.cls = cA := ⟨_, h, by obtain ⟨n', f' | f' | f' | f' | f'⟩ := x <;> rfl, by obtain ⟨n', f' | f' | f' | f' | f'⟩ := x <;> rfl⟩
theorem v_castA {a index : Nat} {cA : ClassId} {x : vp_A} {nm : String} (hd : decode mi.1 pc = .ok (.checkcast index, 3)) (h1 : Cond.classLink mi.2.2.1 index nm ∈ lw_all) (ha : μ a = some (.inl (cA, x))) (hnm : Start g κ.2.1 → g.1.vm.findClass nm = some cA) (kk : V κ g mi Q μ nc ns (pc + 3) lv (.ref a :: st)) : V κ g mi Q μ nc ns pc lv (.ref a :: st) := by
  obtain ⟨p, l, e, R, s, m, args, below, meth, c⟩ := κ
  intro hO H locs ls hP hL hl T hT X
  have hW := hO.2.2.2.2.2.2.2.2.1
  obtain ⟨cell, c1, c2, c3⟩ := ar_recv (hP.2 _ _ ha).2
  obtain ⟨vm', X', st'⟩ := X.checkcastYes hO.1 hO.2.2.2.1 (hO.2.2.2.2.1 _ h1) (by rw [hT]; exact c1) c2 (show s.vm.findClass nm = some cA by rw [hW.alike.findClass]; exact hnm hO.2.2.2.2.2.2.2.2.2.1) (by rw [c3]; exact as_self _ _) (g := F0 m pc ls (.ref a :: st)) rfl rfl (by rw [hO.2.1]; exact hd)
  obtain ⟨t, a1, b1⟩ := kk hO H locs ls hP hL hl (T.setVm vm') hT X'
  exact ⟨t, st' t a1, b1⟩
theorem v_instA {a index : Nat} {cA : ClassId} {x : vp_A} {nm : String} (hd : decode mi.1 pc = .ok (.instanceof index, 3)) (h1 : Cond.classLink mi.2.2.1 index nm ∈ lw_all) (ha : μ a = some (.inl (cA, x))) (hnm : Start g κ.2.1 → g.1.vm.findClass nm = some cA) (kk : V κ g mi Q μ nc ns (pc + 3) lv (.int 1 :: st)) : V κ g mi Q μ nc ns pc lv (.ref a :: st) := by
  obtain ⟨p, l, e, R, s, m, args, below, meth, c⟩ := κ
  intro hO H locs ls hP hL hl T hT X
  have hW := hO.2.2.2.2.2.2.2.2.1
  obtain ⟨cell, c1, c2, c3⟩ := ar_recv (hP.2 _ _ ha).2
  obtain ⟨vm', X', st'⟩ := X.instanceofYes hO.1 hO.2.2.2.1 (hO.2.2.2.2.1 _ h1) (by rw [hT]; exact c1) c2 (show s.vm.findClass nm = some cA by rw [hW.alike.findClass]; exact hnm hO.2.2.2.2.2.2.2.2.2.1) (by rw [c3]; exact as_self _ _) (g := F0 m pc ls (.ref a :: st)) rfl rfl (by rw [hO.2.1]; exact hd)
  obtain ⟨t, a1, b1⟩ := kk hO H locs ls hP hL hl (T.setVm vm') hT X'
  exact ⟨t, st' t a1, b1⟩
theorem v_instNo {a index : Nat} {cA : ClassId} {x : vp_A} {nm C : String} (hd : decode mi.1 pc = .ok (.instanceof index, 3)) (h1 : Cond.classLink mi.2.2.1 index nm ∈ lw_all) (ha : μ a = some (.inl (cA, x))) (hnm : Start g κ.2.1 → g.1.vm.findClass C = some cA ∧ va_Nc C nm g.1) (kk : V κ g mi Q μ nc ns (pc + 3) lv (.int 0 :: st)) : V κ g mi Q μ nc ns pc lv (.ref a :: st) := by
  obtain ⟨p, l, e, R, s, m, args, below, meth, c⟩ := κ
  intro hO H locs ls hP hL hl T hT X
  have hW := hO.2.2.2.2.2.2.2.2.1
  obtain ⟨n1, n2⟩ := hnm hO.2.2.2.2.2.2.2.2.2.1
  obtain ⟨cell, c1, c2, c3⟩ := ar_recv (hP.2 _ _ ha).2
  obtain ⟨c0, t0, f1, f2, f3⟩ := n2.moved hW.alike
  have hf : s.vm.findClass C = some cA := by rw [hW.alike.findClass]; exact n1
  cases hf.symm.trans f1
  obtain ⟨ks, hks, -⟩ := Vm.findClass_spec hf
  obtain ⟨vm', X', st'⟩ := va_instofNo X hO.1 hO.2.2.2.1 (hO.2.2.2.2.1 _ h1) (by rw [hT]; exact c1) c2 (by rw [c3]; exact hks) f2 (by rw [c3]; exact f3) (g := F0 m pc ls (.ref a :: st)) rfl rfl (by rw [hO.2.1]; exact hd)
  obtain ⟨t, a1, b1⟩ := kk hO H locs ls hP hL hl (T.setVm vm') hT X'
  exact ⟨t, st' t a1, b1⟩
/-! contracts, calls, ends -/
end
/-- A CONTRACT: called with as in the memory μ, the method returns v in a memory μ' with 'post v μ' -/
def Ct (l : Launch) (g : Gl) (y : MethodName) (ws : List Cond) (rm : Room) (as : List Value) (μ : Mem) (post : Option Value → Mem → Prop) (mc ms : Nat) : Prop :=
  Met l y ws rm (va_Pc as (fun U => g.1.WarmedH U.vm ∧ mP g μ U.heap)) (fun _ _ o t => ∃ (v : Option Value) (μ' : Mem), o = .returned v ∧ post v μ' ∧ mP g μ' t.heap) mc ms (fun q => g.1.heap.size ≤ q)
/-- the room of a method d calls deep -/
def rmD (d mc ms : Nat) : Room := { frames := 8 + d, cells := mc, slots := ms, locals := 10240 + 40 * (d + 1) }
theorem ct_blind (g : Gl) (as : List Value) (μ : Mem) : FrameBlind (va_Pc as (fun U => g.1.WarmedH U.vm ∧ mP g μ U.heap)) := fun _ _ _ _ h => h
section
variable {κ : Cx} {g : Gl} {mi : Mi} {Q : State → Prop} {μ : Mem} {nc ns pc : Nat} {lv : List (Nat × Value)} {st st0 : List Value}
theorem v_run {mc ms : Nat} {free : Nat → Prop} {Qa : State → Outcome → State → Prop} {post : Option Value → Mem → Prop} (hQ : ∀ st v t, Qa st (.returned v) t → ∃ μ' : Mem, post v μ' ∧ mP g μ' t.heap) (hf : ∀ q, free q → g.1.heap.size ≤ q)
    (kk : ∀ (v : Option Value) (μ' : Mem), post v μ' → V κ g mi Q μ' (nc + mc) (ns + ms) (pc + 3) lv (v.toList ++ st))
    (hr : match κ with | (p, l, e, R, s, m, args, below, meth, c) => Ok (p, l, e, R, s, m, args, below, meth, c) g mi → ∀ (H : Heap) (locs : List Loc) (ls : Array Slot), mP g μ H → ls.size = mi.2.1 → va_Run p l e R s m args below meth c H locs nc ns mc ms (F0 m pc ls st0) st Qa free) : V κ g mi Q μ nc ns pc lv st0 := by
  obtain ⟨p, l, e, R, s, m, args, below, meth, c⟩ := κ
  intro hO H locs ls hP hL hl T hT X
  obtain ⟨v, st₀, t, T', L, h0, X', hL', e1, e2, hq, stp⟩ := hr hO H locs ls hP hl.1 T hT X
  obtain ⟨μ', hp, hm⟩ := hQ _ _ _ hq
  obtain ⟨t2, a1, b1⟩ := kk v μ' hp hO t.heap (locs ++ L) ls hm (lc_app hL (fun q h => hf _ (hL' q h))) hl T' e1 X'
  exact ⟨t2, stp t2 a1, b1⟩
theorem ob_recv {p : Program} {l : Launch} {e : Env} {R : Room} {s : State} {m : MethodId} {args : Array Value} {below : List Frame} {meth : Method} {c : Code} (hO : Ok (p, l, e, R, s, m, args, below, meth, c) g mi) {H : Heap} (hP : mP g μ H) {b ci : Nat} {fs : List Value} {r : vw_C} (hb : μ b = some (.inr (ci, fs))) (hc : amCl[ci]? = some r) : ∃ cellB : Cell, H[b]? = some cellB ∧ cellB.vm.isStatics = false ∧ s.vm.findClass r.1 = some cellB.cls := by
  obtain ⟨r', h1, cell, g1, g2, g3, -⟩ := (hP.2 _ _ hb).2
  have hK := va_K.moved hO.2.2.2.2.2.2.2.2.1.alike hO.2.2.2.2.2.2.2.2.2.1.1
  exact ⟨cell, g1, by rw [g3]; rfl, by rw [g2]; exact (hK.1 ci r hc).2.1⟩
theorem v_callV {y : MethodName} {bytes : ByteArray} {maxL mc ms n index b ci : Nat} {ret : Option FieldType} {rm : Room} {As : List Value} {post : Option Value → Mem → Prop} {fs : List Value} {r : vw_C} (hd : decode mi.1 pc = .ok (.invokevirtual index, 3)) (hM : Ct κ.2.1 g y (ws_ y bytes maxL ret) rm (.ref b :: As) μ post mc ms)
    (q1 : Cond.methodLink mi.2.2.1 index y ∈ lw_all) (q2 : Cond.instanceMethod y ∈ lw_all) (q3 : Cond.selects r.1 y y ∈ lw_all) (q4 : Cond.initialized r.1 ∈ lw_all) (q5 : Cond.code y bytes maxL ret ∈ lw_all)
    (hdy : y.cls = r.1 ∧ y.cls ≠ "java/lang/invoke/MethodHandle" ∧ y.cls ≠ "java/lang/invoke/VarHandle" ∧ (parseMethodDescriptor y.desc).map (fun d => d.parameters.length) = some n) (hb : μ b = some (.inr (ci, fs))) (hc : amCl[ci]? = some r)
    (hn : As.length = n) (hst : st0 = As.reverse ++ .ref b :: st) (hw : (st.map fun v => v.category).sum ≤ 8) (hrc : rm.cells = mc) (hrs : rm.slots = ms) (hR1 : rm.frames + 1 ≤ mi.2.2.2.2.1.frames) (hR2 : 8 + (maxL + 11) + rm.locals ≤ mi.2.2.2.2.1.locals) (hR3 : nc + mc ≤ mi.2.2.2.2.1.cells) (hR4 : ns + ms ≤ mi.2.2.2.2.1.slots)
    (kk : ∀ (v : Option Value) (μ' : Mem), post v μ' → V κ g mi Q μ' (nc + mc) (ns + ms) (pc + 3) lv (v.toList ++ st)) : V κ g mi Q μ nc ns pc lv st0 := by
  obtain ⟨p, l, e, R, s, m, args, below, meth, c⟩ := κ
  refine v_run (Qa := fun _ o t => ∃ (v : Option Value) (μ' : Mem), o = .returned v ∧ post v μ' ∧ mP g μ' t.heap) (free := fun q => g.1.heap.size ≤ q) (fun st v t h => ?_) (fun q h => h) kk ?_
  · obtain ⟨v', μ', e1, h1, h2⟩ := h
    cases e1
    exact ⟨μ', h1, h2⟩
  · intro hO H locs ls hP hsz
    have hO' := hO
    obtain ⟨hx, hbb, hml, hown, hts, -, -, hR, hW, hS, -⟩ := hO
    subst hR
    subst hst
    exact va_runV (As := As) (rest := st) ⟨hx, hbb, hml, hown, hts⟩ hM (cwV n hts (lw_V q1 q2 q3 q4 q5) rfl hrc hrs hdy ⟨hR1, hR2⟩) ⟨ct_blind g _ μ, ob_recv hO' hP hb hc, fun U hU hWU => ⟨rfl, State.WarmedH.trans hW hWU, by rw [hU]; exact hP⟩⟩ rfl hn hsz rfl (by show 2 * 0 + _ ≤ 8; omega) hd ⟨hR3, hR4⟩
theorem v_callS {y : MethodName} {bytes : ByteArray} {maxL mc ms n index : Nat} {ret : Option FieldType} {rm : Room} {As : List Value} {post : Option Value → Mem → Prop} (hd : decode mi.1 pc = .ok (.invokestatic index, 3)) (hM : Ct κ.2.1 g y (ws_ y bytes maxL ret) rm As μ post mc ms)
    (q1 : Cond.methodLink mi.2.2.1 index y ∈ lw_all) (q2 : Cond.static y ∈ lw_all) (q4 : Cond.initialized y.cls ∈ lw_all) (q5 : Cond.code y bytes maxL ret ∈ lw_all)
    (hdy : y.cls ≠ "java/lang/invoke/MethodHandle" ∧ y.cls ≠ "java/lang/invoke/VarHandle" ∧ (parseMethodDescriptor y.desc).map (fun d => d.parameters.length) = some n)
    (hn : As.length = n) (hst : st0 = As.reverse ++ st) (hw : (st.map fun v => v.category).sum ≤ 8) (hrc : rm.cells = mc) (hrs : rm.slots = ms) (hR1 : rm.frames + 1 ≤ mi.2.2.2.2.1.frames) (hR2 : 8 + (maxL + 11) + rm.locals ≤ mi.2.2.2.2.1.locals) (hR3 : nc + mc ≤ mi.2.2.2.2.1.cells) (hR4 : ns + ms ≤ mi.2.2.2.2.1.slots)
    (kk : ∀ (v : Option Value) (μ' : Mem), post v μ' → V κ g mi Q μ' (nc + mc) (ns + ms) (pc + 3) lv (v.toList ++ st)) : V κ g mi Q μ nc ns pc lv st0 := by
  obtain ⟨p, l, e, R, s, m, args, below, meth, c⟩ := κ
  refine v_run (Qa := fun _ o t => ∃ (v : Option Value) (μ' : Mem), o = .returned v ∧ post v μ' ∧ mP g μ' t.heap) (free := fun q => g.1.heap.size ≤ q) (fun st v t h => ?_) (fun q h => h) kk ?_
  · obtain ⟨v', μ', e1, h1, h2⟩ := h
    cases e1
    exact ⟨μ', h1, h2⟩
  · intro hO H locs ls hP hsz
    obtain ⟨hx, hbb, hml, hown, hts, -, -, hR, hW, hS, -⟩ := hO
    subst hR
    subst hst
    exact va_runS (As := As) (rest := st) ⟨hx, hbb, hml, hown, hts⟩ hM (va_cwS n hts (lw_S q1 q2 q4 q5) rfl hrc hrs hdy ⟨hR1, hR2⟩) ⟨ct_blind g _ μ, fun U hU hWU => ⟨rfl, State.WarmedH.trans hW hWU, by rw [hU]; exact hP⟩⟩ rfl hn hsz rfl (by show 2 * 0 + _ ≤ 8; omega) hd ⟨hR3, hR4⟩
/-! the end of a method -/
end
/-- a contract's end -/
def QR (κ : Cx) (g : Gl) (post : Option Value → Mem → Prop) (mc ms : Nat) : State → Prop := MQ κ.2.2.2.2.2.2.2.1 (fun _ _ o t => ∃ (v : Option Value) (μ' : Mem), o = .returned v ∧ post v μ' ∧ mP g μ' t.heap) κ.2.2.2.2.2.2.1 κ.2.2.2.2.1 mc ms (fun q => g.1.heap.size ≤ q)
section
variable {κ : Cx} {g : Gl} {mi : Mi} {post : Option Value → Mem → Prop} {mc ms : Nat} {μ : Mem} {nc ns pc : Nat} {lv : List (Nat × Value)}
theorem v_iret {v : Int32} (hd : decode mi.1 pc = .ok (.ireturn, 1)) (hr : mi.2.2.2.1 = some .int) (hc : nc ≤ mc) (hs : ns ≤ ms) (hp : post (some (.int v)) μ) : V κ g mi (QR κ g post mc ms) μ nc ns pc lv [.int v] := by
  refine v_widen hc hs ?_
  obtain ⟨p, l, e, R, s, m, args, below, meth, c⟩ := κ
  intro hO H locs ls hP hL hl
  obtain ⟨hx, hb, -, -, -, hlk, hrt, -⟩ := hO
  exact W.iret hx hb (hrt.trans hr) (fun t ht _ => ⟨_, μ, rfl, hp, by rw [ht]; exact hP⟩) hL hd hlk
theorem v_zret {v : Int32} (hd : decode mi.1 pc = .ok (.ireturn, 1)) (hr : mi.2.2.2.1 = some .boolean) (hv : narrow .boolean (.int v) = .int v) (hc : nc ≤ mc) (hs : ns ≤ ms) (hp : post (some (.int v)) μ) : V κ g mi (QR κ g post mc ms) μ nc ns pc lv [.int v] := by
  refine v_widen hc hs ?_
  obtain ⟨p, l, e, R, s, m, args, below, meth, c⟩ := κ
  intro hO H locs ls hP hL hl
  obtain ⟨hx, hb, -, -, -, hlk, hrt, -⟩ := hO
  exact W.zret hx hb (hrt.trans hr) hv (fun t ht _ => ⟨_, μ, rfl, hp, by rw [ht]; exact hP⟩) hL hd hlk
theorem v_lret {v : Int64} (hd : decode mi.1 pc = .ok (.lreturn, 1)) (hr : mi.2.2.2.1 = some .long) (hc : nc ≤ mc) (hs : ns ≤ ms) (hp : post (some (.long v)) μ) : V κ g mi (QR κ g post mc ms) μ nc ns pc lv [.long v] := by
  refine v_widen hc hs ?_
  obtain ⟨p, l, e, R, s, m, args, below, meth, c⟩ := κ
  intro hO H locs ls hP hL hl
  obtain ⟨hx, hb, -, -, -, hlk, hrt, -⟩ := hO
  exact W.lret hx hb (hrt.trans hr) (fun t ht _ => ⟨_, μ, rfl, hp, by rw [ht]; exact hP⟩) hL hd hlk
theorem v_vret (hd : decode mi.1 pc = .ok (.return_, 1)) (hr : mi.2.2.2.1 = none) (hc : nc ≤ mc) (hs : ns ≤ ms) (hp : post none μ) : V κ g mi (QR κ g post mc ms) μ nc ns pc lv [] := by
  refine v_widen hc hs ?_
  obtain ⟨p, l, e, R, s, m, args, below, meth, c⟩ := κ
  intro hO H locs ls hP hL hl
  obtain ⟨hx, hb, -, -, -, hlk, hrt, -⟩ := hO
  exact W.vret hx hb (hrt.trans hr) (fun t ht _ => ⟨_, μ, rfl, hp, by rw [ht]; exact hP⟩) hL hd hlk
theorem v_aret {a : Nat} {nm : String} (hd : decode mi.1 pc = .ok (.areturn, 1)) (hr : mi.2.2.2.1 = some (.object nm)) (hc : nc ≤ mc) (hs : ns ≤ ms) (hp : post (some (.ref a)) μ) : V κ g mi (QR κ g post mc ms) μ nc ns pc lv [.ref a] := by
  refine v_widen hc hs ?_
  obtain ⟨p, l, e, R, s, m, args, below, meth, c⟩ := κ
  intro hO H locs ls hP hL hl
  obtain ⟨hx, hb, -, -, -, hlk, hrt, -⟩ := hO
  exact W.aret hx hb (hrt.trans hr) (Or.inl ⟨_, rfl⟩) (Or.inr ⟨_, rfl⟩) (fun t ht _ => ⟨_, μ, rfl, hp, by rw [ht]; exact hP⟩) hL hd hlk
/-! the start of a method -/
theorem Ct.of {l : Launch} {y : MethodName} {code : ByteArray} {maxL : Nat} {ret : Option FieldType} {rm : Room} {as : List Value} (hS : Start g l) (hy : plainName y.cls = true) (hlen : (lg_sl as).length ≤ maxL) (body : ∀ κ : Cx, κ.2.1 = l → V κ g (code, maxL, y.cls, ret, rm, y.name, []) (QR κ g post mc ms) μ 0 0 0 (lv_args 0 as) []) : Ct l g y (ws_ y code maxL ret) rm as μ post mc ms := by
  refine Met.ofW (cc := code) (maxL := maxL) (ret := ret) hy rfl ?_
  intro p e s m args below meth c s₁ B hml hv
  obtain ⟨rfl, hW, hP⟩ := hv
  have hts0 := atoms_spec (ws := ws_ y code maxL ret) B.pre
  have hts : ∀ w ∈ lw_all, w.before _ s = true := fun w h => hts0 w (List.mem_cons_of_mem _ h)
  obtain ⟨meth', c', h1, h2, h3, h4, h5, h6, h7, -⟩ := Cond.code_spec B.named (hts0 _ List.mem_cons_self)
  cases h1.symm.trans B.method
  have hcode : meth.code = some c := by
    have h := B.here.code
    rw [State.code?_eq, B.method₁] at h
    exact h
  cases h2.symm.trans hcode
  have hl := lv_entry as hlen
  rw [lg_entry_eq]
  refine body (p, l, e, rm, s, m, as.toArray, below, meth, c) rfl ⟨B.exec, B.bytes, hml, findClass_of_methodNamed B.named, hts, B.notSynchronized, B.returns, rfl, hW, hS, (name_of_methodNamed B.named B.method).1, ?_⟩ s.heap [] _ hP (fun q h => by cases h) hl
  have : c.exceptionTable.toList = [] := by simpa [Array.isEmpty_iff] using h7
  rw [this]; rfl
theorem CtW.of {l : Launch} {y : MethodName} {code : ByteArray} {maxL : Nat} {ret : Option FieldType} {hh : List (Nat × Nat × Nat × Nat)} {rm : Room} {as : List Value} (hS : Start g l) (hy : plainName y.cls = true) (hlen : (lg_sl as).length ≤ maxL) (body : ∀ κ : Cx, κ.2.1 = l → V κ g (code, maxL, y.cls, ret, rm, y.name, hh) (QR κ g post mc ms) μ 0 0 0 (lv_args 0 as) []) : Ct l g y (wsW_ y code maxL ret hh) rm as μ post mc ms := by
  refine va_MetW (cc := code) (maxL := maxL) (ret := ret) (hh := hh) hy rfl ?_
  intro p e s m args below meth c s₁ B hml hv
  obtain ⟨rfl, hW, hP⟩ := hv
  have hts0 := atoms_spec (ws := wsW_ y code maxL ret hh) B.pre
  have hts : ∀ w ∈ lw_all, w.before _ s = true := fun w h => hts0 w (List.mem_cons_of_mem _ h)
  obtain ⟨m9, meth', c', h0, h1, h2, h3, h4, h7, h5, h6, -⟩ := Cond.codeWith_spec (hts0 _ List.mem_cons_self)
  cases h0.symm.trans B.named
  cases h1.symm.trans B.method
  have hcode : meth.code = some c := by
    have h := B.here.code
    rw [State.code?_eq, B.method₁] at h
    exact h
  cases h2.symm.trans hcode
  have hl := lv_entry as hlen
  rw [lg_entry_eq]
  exact body (p, l, e, rm, s, m, as.toArray, below, meth, c) rfl ⟨B.exec, B.bytes, hml, findClass_of_methodNamed B.named, hts, B.notSynchronized, B.returns, rfl, hW, hS, (name_of_methodNamed B.named B.method).1, h7⟩ s.heap [] _ hP (fun q h => by cases h) hl
end
end
section
set_option maxRecDepth 100000
/-! THE STATE: code, which, the shape (dm, lo, hi), arrays (na, kinds, ranks, lows, highs, rowOf), rows (nr, rowAt, rowSize), the pool (np, pl, hb), slots (ns, sl), lines (nl, li, lj, lk, lw) -/
abbrev Sg : Type := Int32 × Int32 × Nat × (Nat → Int32) × (Nat → Int32) × Nat × (Nat → Nat) × (Nat → Nat) × (Nat → Int32) × (Nat → Int32) × (Nat → Nat) × Nat × (Nat → Nat) × (Nat → Nat) × Nat × (Nat → Int64) × (Nat → Int32) × Nat × (Nat → Int32) × Nat × (Nat → Int32) × (Nat → Int32) × (Nat → Int32) × (Nat → Int64)
/-- the model's fields -/
def mfs (ad : Nat → Nat) (be : Int32) : Sg → List Value
  | (cd, wh, dm, _, _, na, _, _, _, _, _, nr, _, _, np, _, _, ns, _, nl, _, _, _, _) => [.int cd, .int wh, .int (nI dm), .ref (ad 1), .ref (ad 2), .int (nI na), .ref (ad 3), .ref (ad 4), .ref (ad 5), .ref (ad 6), .ref (ad 7), .int (nI nr), .ref (ad 8), .ref (ad 9), .int (nI np), .ref (ad 10), .ref (ad 11), .int (nI ns), .ref (ad 12), .int (nI nl), .ref (ad 13), .ref (ad 14), .ref (ad 15), .ref (ad 16), .int be]
/-- the model's cells -/
def mcl (g : Gl) (ad : Nat → Nat) (be : Int32) (σ : Sg) : List va_E := match σ with
  | (cd, wh, dm, lo, hi, na, kd, rk, al, ah, ro, nr, rt, sz, np, pl, hb, ns, sl, nl, li, lj, lk, lw) => [.inr (3, mfs ad be (cd, wh, dm, lo, hi, na, kd, rk, al, ah, ro, nr, rt, sz, np, pl, hb, ns, sl, nl, li, lj, lk, lw)),
    .inl (g.2.2 0, 3, .inl lo), .inl (g.2.2 0, 3, .inl hi), .inl (g.2.2 0, 24, .inl (fun x => nI (kd x))), .inl (g.2.2 0, 24, .inl (fun x => nI (rk x))), .inl (g.2.2 0, 72, .inl al), .inl (g.2.2 0, 72, .inl ah), .inl (g.2.2 0, 24, .inl (fun x => nI (ro x))), .inl (g.2.2 0, 13000, .inl (fun x => nI (rt x))), .inl (g.2.2 0, 13000, .inl (fun x => nI (sz x))), .inl (g.2.2 1, 300000, .inr (.inl pl)), .inl (g.2.2 3, 300000, .inl hb), .inl (g.2.2 0, 12100, .inl sl), .inl (g.2.2 0, 30, .inl li), .inl (g.2.2 0, 30, .inl lj), .inl (g.2.2 0, 30, .inl lk), .inl (g.2.2 1, 30, .inr (.inl lw))]
/-- a block of cells at ad 0, ad 1, ..; elsewhere the memory is μ0 -/
def blk (N : Nat) (ad : Nat → Nat) (μ0 : Mem) (cs : List va_E) (μ : Mem) : Prop := (∀ (k : Nat) (e : va_E), cs[k]? = some e → μ (ad k) = some e) ∧ (∀ i, i < N → ∀ j, j < N → ad i = ad j → i = j) ∧ cs.length = N ∧ ∀ x, (∀ k, k < N → x ≠ ad k) → μ x = μ0 x
theorem blk.set {N : Nat} {ad : Nat → Nat} {μ0 μ : Mem} {cs : List va_E} (h : blk N ad μ0 cs μ) {k : Nat} (hk : k < N) (e : va_E) : blk N ad μ0 (cs.set k e) (va_up μ (ad k) (some e)) := by
  obtain ⟨h1, h2, h3, h4⟩ := h
  refine ⟨fun j x hj => ?_, h2, by rw [List.length_set]; exact h3, fun x hx => ?_⟩
  · have hl : j < cs.length := by
      have := (List.getElem?_eq_some_iff.mp hj).1
      rwa [List.length_set] at this
    by_cases hjk : j = k
    · subst hjk
      rw [List.getElem?_set_self hl] at hj
      cases hj
      exact va_up_self _ _ _
    · rw [List.getElem?_set_ne (Ne.symm hjk)] at hj
      rw [va_up_ne _ _ (fun z => hjk (h2 j (by omega) k hk z))]
      exact h1 j x hj
  · rw [va_up_ne _ _ (hx k hk)]
    exact h4 x hx
/-- a contract of a model's method: as, the answer, the cells after -/
def CtM (l : Launch) (g : Gl) (ad : Nat → Nat) (y : MethodName) (ws : List Cond) (rm : Room) (As : List Value) (cs : List va_E) (r : Option Value) (cs' : List va_E) : Prop := ∀ μ0 μ : Mem, blk 17 ad μ0 cs μ → Ct l g y ws rm (.ref (ad 0) :: As) μ (fun v μ' => v = r ∧ blk 17 ad μ0 cs' μ') 0 0
/-- a static method that only answers -/
def CtP (l : Launch) (g : Gl) (y : MethodName) (ws : List Cond) (rm : Room) (As : List Value) (r : Option Value) : Prop := ∀ μ : Mem, Ct l g y ws rm As μ (fun v μ' => v = r ∧ μ' = μ) 0 0
section
variable {κ : Cx} {g : Gl} {mi : Mi} {Q : State → Prop} {μ μ0 : Mem} {nc ns pc : Nat} {lv : List (Nat × Value)} {st st0 : List Value} {ad : Nat → Nat} {cs cs' : List va_E} {fs : List Value}
/-! numbers -/
theorem v_icmp_eqN {off : Int} {tgt : Nat} (a b : Nat) (hd : decode mi.1 pc = .ok (.if_icmp .eq off, 3)) (ht : (pc : Int) + off = (tgt : Int)) (ha : a < 2147483648) (hb : b < 2147483648) (kt : a = b → V κ g mi Q μ nc ns tgt lv st) (kf : ¬ a = b → V κ g mi Q μ nc ns (pc + 3) lv st) : V κ g mi Q μ nc ns pc lv (.int (nI b) :: .int (nI a) :: st) :=
  v_icmp_eq hd ht (fun h => kt ((nI_eq ha hb).mp h)) (fun h => kf (fun z => h ((nI_eq ha hb).mpr z)))
theorem v_icmp_neN {off : Int} {tgt : Nat} (a b : Nat) (hd : decode mi.1 pc = .ok (.if_icmp .ne off, 3)) (ht : (pc : Int) + off = (tgt : Int)) (ha : a < 2147483648) (hb : b < 2147483648) (kt : ¬ a = b → V κ g mi Q μ nc ns tgt lv st) (kf : a = b → V κ g mi Q μ nc ns (pc + 3) lv st) : V κ g mi Q μ nc ns pc lv (.int (nI b) :: .int (nI a) :: st) :=
  v_icmp_ne hd ht (fun h => kt (fun z => h ((nI_eq ha hb).mpr z))) (fun h => kf ((nI_eq ha hb).mp h))
theorem v_icmp_ltN {off : Int} {tgt : Nat} (a b : Nat) (hd : decode mi.1 pc = .ok (.if_icmp .lt off, 3)) (ht : (pc : Int) + off = (tgt : Int)) (ha : a < 2147483648) (hb : b < 2147483648) (kt : a < b → V κ g mi Q μ nc ns tgt lv st) (kf : ¬ a < b → V κ g mi Q μ nc ns (pc + 3) lv st) : V κ g mi Q μ nc ns pc lv (.int (nI b) :: .int (nI a) :: st) :=
  v_icmp_lt hd ht (fun h => kt ((nI_ltI ha hb).mp h)) (fun h => kf (fun z => h ((nI_ltI ha hb).mpr z)))
theorem v_icmp_geN {off : Int} {tgt : Nat} (a b : Nat) (hd : decode mi.1 pc = .ok (.if_icmp .ge off, 3)) (ht : (pc : Int) + off = (tgt : Int)) (ha : a < 2147483648) (hb : b < 2147483648) (kt : b ≤ a → V κ g mi Q μ nc ns tgt lv st) (kf : ¬ b ≤ a → V κ g mi Q μ nc ns (pc + 3) lv st) : V κ g mi Q μ nc ns pc lv (.int (nI b) :: .int (nI a) :: st) :=
  v_icmp_ge hd ht (fun h => kt ((nI_leI hb ha).mp h)) (fun h => kf (fun z => h ((nI_leI hb ha).mpr z)))
theorem v_icmp_gtN {off : Int} {tgt : Nat} (a b : Nat) (hd : decode mi.1 pc = .ok (.if_icmp .gt off, 3)) (ht : (pc : Int) + off = (tgt : Int)) (ha : a < 2147483648) (hb : b < 2147483648) (kt : b < a → V κ g mi Q μ nc ns tgt lv st) (kf : ¬ b < a → V κ g mi Q μ nc ns (pc + 3) lv st) : V κ g mi Q μ nc ns pc lv (.int (nI b) :: .int (nI a) :: st) :=
  v_icmp_gt hd ht (fun h => kt ((nI_ltI hb ha).mp h)) (fun h => kf (fun z => h ((nI_ltI hb ha).mpr z)))
theorem v_icmp_leN {off : Int} {tgt : Nat} (a b : Nat) (hd : decode mi.1 pc = .ok (.if_icmp .le off, 3)) (ht : (pc : Int) + off = (tgt : Int)) (ha : a < 2147483648) (hb : b < 2147483648) (kt : a ≤ b → V κ g mi Q μ nc ns tgt lv st) (kf : ¬ a ≤ b → V κ g mi Q μ nc ns (pc + 3) lv st) : V κ g mi Q μ nc ns pc lv (.int (nI b) :: .int (nI a) :: st) :=
  v_icmp_le hd ht (fun h => kt ((nI_leI ha hb).mp h)) (fun h => kf (fun z => h ((nI_leI ha hb).mpr z)))
theorem v_if_eqN {off : Int} {tgt : Nat} (a : Nat) (hd : decode mi.1 pc = .ok (.ifCond .eq off, 3)) (ht : (pc : Int) + off = (tgt : Int)) (ha : a < 2147483648) (kt : a = 0 → V κ g mi Q μ nc ns tgt lv st) (kf : ¬ a = 0 → V κ g mi Q μ nc ns (pc + 3) lv st) : V κ g mi Q μ nc ns pc lv (.int (nI a) :: st) :=
  v_if_eq hd ht (fun h => kt ((nI_eq ha (by decide)).mp (show nI a = nI 0 from h))) (fun h => kf (fun z => h (by rw [z]; rfl)))
theorem v_if_neN {off : Int} {tgt : Nat} (a : Nat) (hd : decode mi.1 pc = .ok (.ifCond .ne off, 3)) (ht : (pc : Int) + off = (tgt : Int)) (ha : a < 2147483648) (kt : ¬ a = 0 → V κ g mi Q μ nc ns tgt lv st) (kf : a = 0 → V κ g mi Q μ nc ns (pc + 3) lv st) : V κ g mi Q μ nc ns pc lv (.int (nI a) :: st) :=
  v_if_ne hd ht (fun h => kt (fun z => h (by rw [z]; rfl))) (fun h => kf ((nI_eq ha (by decide)).mp (show nI a = nI 0 from h)))
/-! answers yes and no -/
theorem v_if_eqB {P : Prop} [Decidable P] {off : Int} {tgt : Nat} (hd : decode mi.1 pc = .ok (.ifCond .eq off, 3)) (ht : (pc : Int) + off = (tgt : Int)) (kt : ¬ P → V κ g mi Q μ nc ns tgt lv st) (kf : P → V κ g mi Q μ nc ns (pc + 3) lv st) : V κ g mi Q μ nc ns pc lv (.int (if P then 1 else 0) :: st) :=
  v_if_eq hd ht (fun h => kt (fun z => by rw [if_pos z] at h; exact absurd h (by decide))) (fun h => kf (by
    by_cases z : P
    · exact z
    · rw [if_neg z] at h; exact absurd rfl h))
theorem v_if_neB {P : Prop} [Decidable P] {off : Int} {tgt : Nat} (hd : decode mi.1 pc = .ok (.ifCond .ne off, 3)) (ht : (pc : Int) + off = (tgt : Int)) (kt : P → V κ g mi Q μ nc ns tgt lv st) (kf : ¬ P → V κ g mi Q μ nc ns (pc + 3) lv st) : V κ g mi Q μ nc ns pc lv (.int (if P then 1 else 0) :: st) :=
  v_if_ne hd ht (fun h => kt (by
    by_cases z : P
    · exact z
    · rw [if_neg z] at h; exact absurd rfl h)) (fun h => kf (fun z => by rw [if_pos z] at h; exact absurd h (by decide)))
/-! longs compared -/
theorem v_lcmp_eq {x y : Int64} {off : Int} {tgt : Nat} (hd : decode mi.1 pc = .ok (.lcmp, 1)) (hd2 : decode mi.1 (pc + 1) = .ok (.ifCond .eq off, 3)) (ht : ((pc + 1 : Nat) : Int) + off = (tgt : Int)) (kt : x = y → V κ g mi Q μ nc ns tgt lv st) (kf : ¬ x = y → V κ g mi Q μ nc ns (pc + 4) lv st) : V κ g mi Q μ nc ns pc lv (.long y :: .long x :: st) :=
  v_lcmp hd (v_if_eq hd2 ht (fun h => kt ((lg_cmp_eq x y).mp h)) (fun h => kf (fun z => h ((lg_cmp_eq x y).mpr z))))
theorem v_lcmp_ne {x y : Int64} {off : Int} {tgt : Nat} (hd : decode mi.1 pc = .ok (.lcmp, 1)) (hd2 : decode mi.1 (pc + 1) = .ok (.ifCond .ne off, 3)) (ht : ((pc + 1 : Nat) : Int) + off = (tgt : Int)) (kt : ¬ x = y → V κ g mi Q μ nc ns tgt lv st) (kf : x = y → V κ g mi Q μ nc ns (pc + 4) lv st) : V κ g mi Q μ nc ns pc lv (.long y :: .long x :: st) :=
  v_lcmp hd (v_if_ne hd2 ht (fun h => kt (fun z => h ((lg_cmp_eq x y).mpr z))) (fun h => kf ((lg_cmp_eq x y).mp h)))
theorem v_lcmp_lt {x y : Int64} {off : Int} {tgt : Nat} (hd : decode mi.1 pc = .ok (.lcmp, 1)) (hd2 : decode mi.1 (pc + 1) = .ok (.ifCond .lt off, 3)) (ht : ((pc + 1 : Nat) : Int) + off = (tgt : Int)) (kt : x < y → V κ g mi Q μ nc ns tgt lv st) (kf : ¬ x < y → V κ g mi Q μ nc ns (pc + 4) lv st) : V κ g mi Q μ nc ns pc lv (.long y :: .long x :: st) :=
  v_lcmp hd (v_if_lt hd2 ht (fun h => kt ((lg_cmp_lt x y).mp h)) (fun h => kf (fun z => h ((lg_cmp_lt x y).mpr z))))
theorem v_lcmp_ge {x y : Int64} {off : Int} {tgt : Nat} (hd : decode mi.1 pc = .ok (.lcmp, 1)) (hd2 : decode mi.1 (pc + 1) = .ok (.ifCond .ge off, 3)) (ht : ((pc + 1 : Nat) : Int) + off = (tgt : Int)) (kt : y ≤ x → V κ g mi Q μ nc ns tgt lv st) (kf : ¬ y ≤ x → V κ g mi Q μ nc ns (pc + 4) lv st) : V κ g mi Q μ nc ns pc lv (.long y :: .long x :: st) :=
  v_lcmp hd (v_if_ge hd2 ht (fun h => kt ((lg_cmp_ge x y).mp h)) (fun h => kf (fun z => h ((lg_cmp_ge x y).mpr z))))
theorem v_lcmp_gt {x y : Int64} {off : Int} {tgt : Nat} (hd : decode mi.1 pc = .ok (.lcmp, 1)) (hd2 : decode mi.1 (pc + 1) = .ok (.ifCond .gt off, 3)) (ht : ((pc + 1 : Nat) : Int) + off = (tgt : Int)) (kt : y < x → V κ g mi Q μ nc ns tgt lv st) (kf : ¬ y < x → V κ g mi Q μ nc ns (pc + 4) lv st) : V κ g mi Q μ nc ns pc lv (.long y :: .long x :: st) :=
  v_lcmp hd (v_if_gt hd2 ht (fun h => kt ((lg_cmp_gt x y).mp h)) (fun h => kf (fun z => h ((lg_cmp_gt x y).mpr z))))
theorem v_lcmp_le {x y : Int64} {off : Int} {tgt : Nat} (hd : decode mi.1 pc = .ok (.lcmp, 1)) (hd2 : decode mi.1 (pc + 1) = .ok (.ifCond .le off, 3)) (ht : ((pc + 1 : Nat) : Int) + off = (tgt : Int)) (kt : x ≤ y → V κ g mi Q μ nc ns tgt lv st) (kf : ¬ x ≤ y → V κ g mi Q μ nc ns (pc + 4) lv st) : V κ g mi Q μ nc ns pc lv (.long y :: .long x :: st) :=
  v_lcmp hd (v_if_le hd2 ht (fun h => kt ((lg_cmp_le x y).mp h)) (fun h => kf (fun z => h ((lg_cmp_le x y).mpr z))))
/-! the model's fields and arrays -/
theorem vm_get {k index : Nat} {v : Value} (hd : decode mi.1 pc = .ok (.getfield index, 3)) (hB : blk 17 ad μ0 cs μ) (h0 : cs[0]? = some (.inr (3, fs))) (hk : k < 25) (hlink : Cond.fieldLink mi.2.2.1 index (TX3 k).1 (TX3 k).2.1 (TX3 k).2.2.1 ∈ lw_all) (hv : fs[k]? = some v) (kk : V κ g mi Q μ nc ns (pc + 3) lv (v :: st)) : V κ g mi Q μ nc ns pc lv (.ref (ad 0) :: st) :=
  v_get hd (hB.1 0 _ h0) (show amCl[3]? = some (RX3, TX3, 25) from rfl) in_X3 hk hlink hv kk
theorem vm_put {k index : Nat} {v : Int32} (hd : decode mi.1 pc = .ok (.putfield index, 3)) (hB : blk 17 ad μ0 cs μ) (h0 : cs[0]? = some (.inr (3, fs))) (hk : k < 25) (hlink : Cond.fieldLink mi.2.2.1 index (TX3 k).1 (TX3 k).2.1 (TX3 k).2.2.1 ∈ lw_all) (hfin : (TX3 k).2.2.2 = false) (hty : tyX3 k = .int) (hl : k < fs.length) (hcs : cs.set 0 (.inr (3, fs.set k (.int v))) = cs') (kk : ∀ μ, blk 17 ad μ0 cs' μ → V κ g mi Q μ nc ns (pc + 3) lv st) : V κ g mi Q μ nc ns pc lv (.int v :: .ref (ad 0) :: st) := by
  refine v_put (ty := .int) hd (hB.1 0 _ h0) (show amCl[3]? = some (RX3, TX3, 25) from rfl) in_X3 tyX3 tyX3_ok nmX3 hk hlink hfin hty rfl rfl hl (kk _ ?_)
  rw [← hcs]
  exact hB.set (by decide) _
theorem vm_iald {n j : Nat} {f : Nat → Int32} (k : Nat) (hd : decode mi.1 pc = .ok (.iaload, 1)) (hB : blk 17 ad μ0 cs μ) (hk : cs[k]? = some (.inl (g.2.2 0, n, .inl f))) (hj : j < n) (hn : n < 2147483648) (kk : V κ g mi Q μ nc ns (pc + 1) lv (.int (f j) :: st)) : V κ g mi Q μ nc ns pc lv (.int (nI j) :: .ref (ad k) :: st) := by
  refine v_iald hd (hB.1 k _ hk) (vp_in_nI hj hn) ?_
  rw [nI_clamp (by omega)]
  exact kk
theorem vm_lald {n j : Nat} {f : Nat → Int64} (k : Nat) (hd : decode mi.1 pc = .ok (.laload, 1)) (hB : blk 17 ad μ0 cs μ) (hk : cs[k]? = some (.inl (g.2.2 1, n, .inr (.inl f)))) (hj : j < n) (hn : n < 2147483648) (kk : V κ g mi Q μ nc ns (pc + 1) lv (.long (f j) :: st)) : V κ g mi Q μ nc ns pc lv (.int (nI j) :: .ref (ad k) :: st) := by
  refine v_lald hd (hB.1 k _ hk) (vp_in_nI hj hn) ?_
  rw [nI_clamp (by omega)]
  exact kk
theorem vm_zald {n j : Nat} {f : Nat → Int32} (k : Nat) (hd : decode mi.1 pc = .ok (.baload, 1)) (hB : blk 17 ad μ0 cs μ) (hk : cs[k]? = some (.inl (g.2.2 3, n, .inl f))) (hj : j < n) (hn : n < 2147483648) (kk : V κ g mi Q μ nc ns (pc + 1) lv (.int (f j) :: st)) : V κ g mi Q μ nc ns pc lv (.int (nI j) :: .ref (ad k) :: st) := by
  refine v_zald hd (hB.1 k _ hk) (vp_in_nI hj hn) ?_
  rw [nI_clamp (by omega)]
  exact kk
theorem vm_iast {n j : Nat} {f : Nat → Int32} {x : Int32} (k : Nat) (hd : decode mi.1 pc = .ok (.iastore, 1)) (hB : blk 17 ad μ0 cs μ) (hk : cs[k]? = some (.inl (g.2.2 0, n, .inl f))) (hk17 : k < 17) (hj : j < n) (hn : n < 2147483648) (hcs : cs.set k (.inl (g.2.2 0, n, .inl (upd f j x))) = cs') (kk : ∀ μ, blk 17 ad μ0 cs' μ → V κ g mi Q μ nc ns (pc + 1) lv st) : V κ g mi Q μ nc ns pc lv (.int x :: .int (nI j) :: .ref (ad k) :: st) := by
  refine v_iast hd (hB.1 k _ hk) (vp_in_nI hj hn) (kk _ ?_)
  rw [nI_clamp (by omega), ← hcs]
  exact hB.set hk17 _
theorem vm_last {n j : Nat} {f : Nat → Int64} {x : Int64} (k : Nat) (hd : decode mi.1 pc = .ok (.lastore, 1)) (hB : blk 17 ad μ0 cs μ) (hk : cs[k]? = some (.inl (g.2.2 1, n, .inr (.inl f)))) (hk17 : k < 17) (hj : j < n) (hn : n < 2147483648) (hcs : cs.set k (.inl (g.2.2 1, n, .inr (.inl (vp_updL f j x)))) = cs') (kk : ∀ μ, blk 17 ad μ0 cs' μ → V κ g mi Q μ nc ns (pc + 1) lv st) : V κ g mi Q μ nc ns pc lv (.long x :: .int (nI j) :: .ref (ad k) :: st) := by
  refine v_last hd (hB.1 k _ hk) (vp_in_nI hj hn) (kk _ ?_)
  rw [nI_clamp (by omega), ← hcs]
  exact hB.set hk17 _
theorem vm_zast {n j : Nat} {f : Nat → Int32} {x : Int32} (k : Nat) (hd : decode mi.1 pc = .ok (.bastore, 1)) (hB : blk 17 ad μ0 cs μ) (hk : cs[k]? = some (.inl (g.2.2 3, n, .inl f))) (hk17 : k < 17) (hj : j < n) (hn : n < 2147483648) (hx : narrow .boolean (.int x) = .int x) (hcs : cs.set k (.inl (g.2.2 3, n, .inl (upd f j x))) = cs') (kk : ∀ μ, blk 17 ad μ0 cs' μ → V κ g mi Q μ nc ns (pc + 1) lv st) : V κ g mi Q μ nc ns pc lv (.int x :: .int (nI j) :: .ref (ad k) :: st) := by
  refine v_zast hd (hB.1 k _ hk) (vp_in_nI hj hn) hx (kk _ ?_)
  rw [nI_clamp (by omega), ← hcs]
  exact hB.set hk17 _
theorem vm_call {y : MethodName} {bytes : ByteArray} {maxL n index : Nat} {ret : Option FieldType} {rm : Room} {As : List Value} {r : Option Value} (hd : decode mi.1 pc = .ok (.invokevirtual index, 3)) (hB : blk 17 ad μ0 cs μ) (h0 : cs[0]? = some (.inr (3, fs))) (hM : CtM κ.2.1 g ad y (ws_ y bytes maxL ret) rm As cs r cs')
    (q1 : Cond.methodLink mi.2.2.1 index y ∈ lw_all) (q2 : Cond.instanceMethod y ∈ lw_all) (q3 : Cond.selects RX3 y y ∈ lw_all) (q5 : Cond.code y bytes maxL ret ∈ lw_all)
    (hdy : y.cls = RX3 ∧ y.cls ≠ "java/lang/invoke/MethodHandle" ∧ y.cls ≠ "java/lang/invoke/VarHandle" ∧ (parseMethodDescriptor y.desc).map (fun d => d.parameters.length) = some n)
    (hn : As.length = n) (hst : st0 = As.reverse ++ .ref (ad 0) :: st) (hw : (st.map fun v => v.category).sum ≤ 8) (hrc : rm.cells = 0) (hrs : rm.slots = 0) (hR1 : rm.frames + 1 ≤ mi.2.2.2.2.1.frames) (hR2 : 8 + (maxL + 11) + rm.locals ≤ mi.2.2.2.2.1.locals) (hR3 : nc ≤ mi.2.2.2.2.1.cells) (hR4 : ns ≤ mi.2.2.2.2.1.slots)
    (kk : ∀ μ, blk 17 ad μ0 cs' μ → V κ g mi Q μ nc ns (pc + 3) lv (r.toList ++ st)) : V κ g mi Q μ nc ns pc lv st0 := by
  refine v_callV hd (hM μ0 μ hB) q1 q2 (r := (RX3, TX3, 25)) q3 q31 q5 hdy (hB.1 0 _ h0) rfl hn hst hw hrc hrs hR1 hR2 hR3 hR4 (fun v μ' h => ?_)
  obtain ⟨rfl, h2⟩ := h
  exact kk μ' h2
theorem vp_call {y : MethodName} {bytes : ByteArray} {maxL n index : Nat} {ret : Option FieldType} {rm : Room} {As : List Value} {r : Option Value} (hd : decode mi.1 pc = .ok (.invokestatic index, 3)) (hM : CtP κ.2.1 g y (ws_ y bytes maxL ret) rm As r)
    (q1 : Cond.methodLink mi.2.2.1 index y ∈ lw_all) (q2 : Cond.static y ∈ lw_all) (q4 : Cond.initialized y.cls ∈ lw_all) (q5 : Cond.code y bytes maxL ret ∈ lw_all)
    (hdy : y.cls ≠ "java/lang/invoke/MethodHandle" ∧ y.cls ≠ "java/lang/invoke/VarHandle" ∧ (parseMethodDescriptor y.desc).map (fun d => d.parameters.length) = some n)
    (hn : As.length = n) (hst : st0 = As.reverse ++ st) (hw : (st.map fun v => v.category).sum ≤ 8) (hrc : rm.cells = 0) (hrs : rm.slots = 0) (hR1 : rm.frames + 1 ≤ mi.2.2.2.2.1.frames) (hR2 : 8 + (maxL + 11) + rm.locals ≤ mi.2.2.2.2.1.locals) (hR3 : nc ≤ mi.2.2.2.2.1.cells) (hR4 : ns ≤ mi.2.2.2.2.1.slots)
    (kk : V κ g mi Q μ nc ns (pc + 3) lv (r.toList ++ st)) : V κ g mi Q μ nc ns pc lv st0 := by
  refine v_callS hd (hM μ) q1 q2 q4 q5 hdy hn hst hw hrc hrs hR1 hR2 hR3 hR4 (fun v μ' h => ?_)
  obtain ⟨rfl, rfl⟩ := h
  exact kk
end
theorem upd_nI (f : Nat → Nat) (k v : Nat) : upd (fun x => nI (f x)) k (nI v) = fun x => nI (va_up f k v x) := by
  funext q
  by_cases hq : q = k
  · subst hq; simp [upd, va_up]
  · simp [upd, va_up, hq]
end
section
set_option maxRecDepth 100000
/-- how many from a to b -/
def ln (a b : Int32) : Nat := (b.toInt - a.toInt + 1).toNat
theorem ln_lt (a b : Int32) : ln a b < 4294967297 := by
  have h1 := Int32.toInt_lt a; have h2 := Int32.le_toInt a; have h3 := Int32.toInt_lt b; have h4 := Int32.le_toInt b
  unfold ln; omega
theorem i64_toInt_sub (a b : Int32) : (b.toInt64 - a.toInt64 + 1).toInt = b.toInt - a.toInt + 1 := by
  have h1 := Int32.toInt_lt a; have h2 := Int32.le_toInt a; have h3 := Int32.toInt_lt b; have h4 := Int32.le_toInt b
  have e1 : (b.toInt64 - a.toInt64).toInt = b.toInt - a.toInt := by
    rw [Int64.toInt_sub, Int32.toInt_toInt64, Int32.toInt_toInt64]
    exact Int.bmod_eq_of_le (by omega) (by omega)
  rw [Int64.toInt_add, e1, show (1 : Int64).toInt = 1 from rfl]
  exact Int.bmod_eq_of_le (by omega) (by omega)
theorem ln_neg {a b : Int32} (h : ¬ lN 0 ≤ b.toInt64 - a.toInt64 + lN 1) : lN (ln a b) = lN 0 := by
  have h : b.toInt64 - a.toInt64 + 1 < 0 := Int64.not_le.mp h
  rw [Int64.lt_iff_toInt_lt, i64_toInt_sub, Int64.toInt_zero] at h
  unfold ln; rw [show (b.toInt - a.toInt + 1).toNat = 0 by omega]
theorem ln_pos {a b : Int32} (h : lN 0 ≤ b.toInt64 - a.toInt64 + lN 1) : lN (ln a b) = b.toInt64 - a.toInt64 + lN 1 := by
  have h : ¬ b.toInt64 - a.toInt64 + 1 < 0 := Int64.not_lt.mpr h
  show lN (ln a b) = b.toInt64 - a.toInt64 + 1
  have h5 := ln_lt a b
  rw [Int64.lt_iff_toInt_lt, i64_toInt_sub, Int64.toInt_zero] at h
  refine Int64.toInt_inj.mp ?_
  rw [i64_toInt_sub, pk_lT (by omega)]
  unfold ln; omega
theorem dy_X3_within : yX3_within.cls ≠ "java/lang/invoke/MethodHandle" ∧ yX3_within.cls ≠ "java/lang/invoke/VarHandle" ∧ (parseMethodDescriptor yX3_within.desc).map (fun d => d.parameters.length) = some 3 := ⟨by decide +kernel, by decide +kernel, by decide +kernel⟩
set_option maxHeartbeats 4000000 in
theorem ct_within {l : Launch} {g : Gl} (hS : Start g l) (v a b : Int64)  : CtP l g yX3_within (ws_ yX3_within cX3_within 6 (some FieldType.boolean)) (rmD 0 0 0) [.long v, .long a, .long b] (some (.int (if a ≤ v ∧ v ≤ b then 1 else 0))) := by
  intro μ
  refine Ct.of hS (by decide) (Nat.le_of_ble_eq_true rfl) (fun κ hκ => ?_)
  subst hκ
  show V κ g _ _ μ 0 0 0 [(0, .long v), (2, .long a), (4, .long b)] []
  refine v_lload_n (pc := 0) dX3_within_0 rfl 0 rfl ?_
  refine v_lload_n (pc := 1) dX3_within_1 rfl 1 rfl ?_
  refine v_lcmp_lt (pc := 2) (tgt := 17) dX3_within_2 dX3_within_3 (by decide) (fun h_2 => ?_) (fun h_2 => ?_)
  · refine v_iconst (pc := 17) (v := nI 0) dX3_within_17 (by decide) ?_
    exact v_zret (pc := 18) dX3_within_18 rfl rfl (Nat.le_refl 0) (Nat.le_refl 0) ⟨by rw [if_neg (fun z => by first | exact absurd z.1 (Int64.not_le.mpr (by assumption)) | exact absurd z.2 (Int64.not_le.mpr (by assumption)))]; rfl, rfl⟩
  · refine v_lload_n (pc := 6) dX3_within_6 rfl 0 rfl ?_
    refine v_lload (pc := 7) dX3_within_7 2 rfl ?_
    refine v_lcmp_gt (pc := 9) (tgt := 17) dX3_within_9 dX3_within_10 (by decide) (fun h_9 => ?_) (fun h_9 => ?_)
    · refine v_iconst (pc := 17) (v := nI 0) dX3_within_17 (by decide) ?_
      exact v_zret (pc := 18) dX3_within_18 rfl rfl (Nat.le_refl 0) (Nat.le_refl 0) ⟨by rw [if_neg (fun z => by first | exact absurd z.1 (Int64.not_le.mpr (by assumption)) | exact absurd z.2 (Int64.not_le.mpr (by assumption)))]; rfl, rfl⟩
    · refine v_iconst (pc := 13) (v := nI 1) dX3_within_13 (by decide) ?_
      refine v_goto (pc := 14) (tgt := 18) dX3_within_14 (by decide) ?_
      exact v_zret (pc := 18) dX3_within_18 rfl rfl (Nat.le_refl 0) (Nat.le_refl 0) ⟨by rw [if_pos ⟨Int64.not_lt.mp (by assumption), Int64.not_lt.mp (by assumption)⟩]; rfl, rfl⟩
theorem dy_X3_length : yX3_length.cls ≠ "java/lang/invoke/MethodHandle" ∧ yX3_length.cls ≠ "java/lang/invoke/VarHandle" ∧ (parseMethodDescriptor yX3_length.desc).map (fun d => d.parameters.length) = some 2 := ⟨by decide +kernel, by decide +kernel, by decide +kernel⟩
set_option maxHeartbeats 4000000 in
theorem ct_length {l : Launch} {g : Gl} (hS : Start g l) (a b : Int32)  : CtP l g yX3_length (ws_ yX3_length cX3_length 4 (some FieldType.long)) (rmD 0 0 0) [.int a, .int b] (some (.long (lN (ln a b)))) := by
  intro μ
  refine Ct.of hS (by decide) (Nat.le_of_ble_eq_true rfl) (fun κ hκ => ?_)
  subst hκ
  show V κ g _ _ μ 0 0 0 [(0, .int a), (1, .int b)] []
  refine v_iload_n (pc := 0) dX3_length_0 rfl 1 rfl ?_
  refine v_i2l (pc := 1) (v := b.toInt64) dX3_length_1 (rfl) ?_
  refine v_iload_n (pc := 2) dX3_length_2 rfl 0 rfl ?_
  refine v_i2l (pc := 3) (v := a.toInt64) dX3_length_3 (rfl) ?_
  refine v_lsub (pc := 4) (v := b.toInt64 - a.toInt64) dX3_length_4 rfl ?_
  refine v_lconst (pc := 5) (v := lN 1) dX3_length_5 (by decide) ?_
  refine v_ladd (pc := 6) (v := (b.toInt64 - a.toInt64) + (lN 1)) dX3_length_6 rfl ?_
  refine v_lstore_n (pc := 7) (lv' := [(2, .long ((b.toInt64 - a.toInt64) + (lN 1))), (0, .int a), (1, .int b)]) dX3_length_7 rfl (by decide) rfl ?_
  refine v_lload_n (pc := 8) dX3_length_8 rfl 0 rfl ?_
  refine v_lconst (pc := 9) (v := lN 0) dX3_length_9 (by decide) ?_
  refine v_lcmp_ge (pc := 10) (tgt := 18) dX3_length_10 dX3_length_11 (by decide) (fun h_10 => ?_) (fun h_10 => ?_)
  · refine v_lload_n (pc := 18) dX3_length_18 rfl 0 rfl ?_
    exact v_lret (pc := 19) dX3_length_19 rfl (Nat.le_refl 0) (Nat.le_refl 0) ⟨by rw [ln_pos (by assumption)], rfl⟩
  · refine v_lconst (pc := 14) (v := lN 0) dX3_length_14 (by decide) ?_
    refine v_goto (pc := 15) (tgt := 19) dX3_length_15 (by decide) ?_
    exact v_lret (pc := 19) dX3_length_19 rfl (Nat.le_refl 0) (Nat.le_refl 0) ⟨by rw [ln_neg (by assumption)], rfl⟩
theorem dy_X3_index : yX3_index.cls ≠ "java/lang/invoke/MethodHandle" ∧ yX3_index.cls ≠ "java/lang/invoke/VarHandle" ∧ (parseMethodDescriptor yX3_index.desc).map (fun d => d.parameters.length) = some 2 := ⟨by decide +kernel, by decide +kernel, by decide +kernel⟩
set_option maxHeartbeats 4000000 in
theorem ct_index {l : Launch} {g : Gl} (hS : Start g l) (a b : Int32)  : CtP l g yX3_index (ws_ yX3_index cX3_index 2 (some FieldType.int)) (rmD 0 0 0) [.int a, .int b] (some (.int (a + b))) := by
  intro μ
  refine Ct.of hS (by decide) (Nat.le_of_ble_eq_true rfl) (fun κ hκ => ?_)
  subst hκ
  show V κ g _ _ μ 0 0 0 [(0, .int a), (1, .int b)] []
  refine v_iload_n (pc := 0) dX3_index_0 rfl 0 rfl ?_
  refine v_iload_n (pc := 1) dX3_index_1 rfl 1 rfl ?_
  refine v_iadd (pc := 2) (v := a + b) dX3_index_2 rfl ?_
  exact v_iret (pc := 3) dX3_index_3 rfl (Nat.le_refl 0) (Nat.le_refl 0) ⟨rfl, rfl⟩
theorem dy_X3_code : yX3_code.cls = RX3 ∧ yX3_code.cls ≠ "java/lang/invoke/MethodHandle" ∧ yX3_code.cls ≠ "java/lang/invoke/VarHandle" ∧ (parseMethodDescriptor yX3_code.desc).map (fun d => d.parameters.length) = some 0 := ⟨rfl, by decide +kernel, by decide +kernel, by decide +kernel⟩
set_option maxHeartbeats 4000000 in
theorem ct_code {l : Launch} {g : Gl} (hS : Start g l) (ad : Nat → Nat) {cd wh be : Int32} {dm na nr np ns nl : Nat} {lo hi al ah sl li lj lk hb : Nat → Int32} {kd rk ro rt sz : Nat → Nat} {pl lw : Nat → Int64}   : CtM l g ad yX3_code (ws_ yX3_code cX3_code 1 (some FieldType.int)) (rmD 0 0 0) [] (mcl g ad be (cd, wh, dm, lo, hi, na, kd, rk, al, ah, ro, nr, rt, sz, np, pl, hb, ns, sl, nl, li, lj, lk, lw)) (some (.int cd)) (mcl g ad be (cd, wh, dm, lo, hi, na, kd, rk, al, ah, ro, nr, rt, sz, np, pl, hb, ns, sl, nl, li, lj, lk, lw)) := by
  intro μ0 μ hB
  refine Ct.of hS (by decide) (Nat.le_of_ble_eq_true rfl) (fun κ hκ => ?_)
  subst hκ
  show V κ g _ _ μ 0 0 0 [(0, .ref (ad 0))] []
  refine v_aload_n (pc := 0) dX3_code_0 rfl 0 rfl ?_
  refine vm_get (pc := 1) (k := 0) (fs := (mfs ad be (cd, wh, dm, lo, hi, na, kd, rk, al, ah, ro, nr, rt, sz, np, pl, hb, ns, sl, nl, li, lj, lk, lw))) (v := .int cd) dX3_code_1 hB rfl (by decide) q531 rfl ?_
  exact v_iret (pc := 4) dX3_code_4 rfl (Nat.le_refl 0) (Nat.le_refl 0) ⟨rfl, hB⟩
theorem dy_X3_which : yX3_which.cls = RX3 ∧ yX3_which.cls ≠ "java/lang/invoke/MethodHandle" ∧ yX3_which.cls ≠ "java/lang/invoke/VarHandle" ∧ (parseMethodDescriptor yX3_which.desc).map (fun d => d.parameters.length) = some 0 := ⟨rfl, by decide +kernel, by decide +kernel, by decide +kernel⟩
set_option maxHeartbeats 4000000 in
theorem ct_which {l : Launch} {g : Gl} (hS : Start g l) (ad : Nat → Nat) {cd wh be : Int32} {dm na nr np ns nl : Nat} {lo hi al ah sl li lj lk hb : Nat → Int32} {kd rk ro rt sz : Nat → Nat} {pl lw : Nat → Int64}   : CtM l g ad yX3_which (ws_ yX3_which cX3_which 1 (some FieldType.int)) (rmD 0 0 0) [] (mcl g ad be (cd, wh, dm, lo, hi, na, kd, rk, al, ah, ro, nr, rt, sz, np, pl, hb, ns, sl, nl, li, lj, lk, lw)) (some (.int wh)) (mcl g ad be (cd, wh, dm, lo, hi, na, kd, rk, al, ah, ro, nr, rt, sz, np, pl, hb, ns, sl, nl, li, lj, lk, lw)) := by
  intro μ0 μ hB
  refine Ct.of hS (by decide) (Nat.le_of_ble_eq_true rfl) (fun κ hκ => ?_)
  subst hκ
  show V κ g _ _ μ 0 0 0 [(0, .ref (ad 0))] []
  refine v_aload_n (pc := 0) dX3_which_0 rfl 0 rfl ?_
  refine vm_get (pc := 1) (k := 1) (fs := (mfs ad be (cd, wh, dm, lo, hi, na, kd, rk, al, ah, ro, nr, rt, sz, np, pl, hb, ns, sl, nl, li, lj, lk, lw))) (v := .int wh) dX3_which_1 hB rfl (by decide) q532 rfl ?_
  exact v_iret (pc := 4) dX3_which_4 rfl (Nat.le_refl 0) (Nat.le_refl 0) ⟨rfl, hB⟩
theorem dy_X3_no : yX3_no.cls = RX3 ∧ yX3_no.cls ≠ "java/lang/invoke/MethodHandle" ∧ yX3_no.cls ≠ "java/lang/invoke/VarHandle" ∧ (parseMethodDescriptor yX3_no.desc).map (fun d => d.parameters.length) = some 1 := ⟨rfl, by decide +kernel, by decide +kernel, by decide +kernel⟩
set_option maxHeartbeats 4000000 in
theorem ct_no {l : Launch} {g : Gl} (hS : Start g l) (ad : Nat → Nat) {cd wh be : Int32} {dm na nr np ns nl : Nat} {lo hi al ah sl li lj lk hb : Nat → Int32} {kd rk ro rt sz : Nat → Nat} {pl lw : Nat → Int64} (n : Int32)  : CtM l g ad yX3_no (ws_ yX3_no cX3_no 2 (some FieldType.int)) (rmD 0 0 0) [.int n] (mcl g ad be (cd, wh, dm, lo, hi, na, kd, rk, al, ah, ro, nr, rt, sz, np, pl, hb, ns, sl, nl, li, lj, lk, lw)) (some (.int (nI 0))) (mcl g ad be (n, wh, dm, lo, hi, na, kd, rk, al, ah, ro, nr, rt, sz, np, pl, hb, ns, sl, nl, li, lj, lk, lw)) := by
  intro μ0 μ hB
  refine Ct.of hS (by decide) (Nat.le_of_ble_eq_true rfl) (fun κ hκ => ?_)
  subst hκ
  show V κ g _ _ μ 0 0 0 [(0, .ref (ad 0)), (1, .int n)] []
  refine v_aload_n (pc := 0) dX3_no_0 rfl 0 rfl ?_
  refine v_iload_n (pc := 1) dX3_no_1 rfl 1 rfl ?_
  refine vm_put (pc := 2) (k := 0) (fs := (mfs ad be (cd, wh, dm, lo, hi, na, kd, rk, al, ah, ro, nr, rt, sz, np, pl, hb, ns, sl, nl, li, lj, lk, lw))) (cs' := (mcl g ad be (n, wh, dm, lo, hi, na, kd, rk, al, ah, ro, nr, rt, sz, np, pl, hb, ns, sl, nl, li, lj, lk, lw))) dX3_no_2 hB rfl (by decide) q531 rfl rfl (Nat.le_of_ble_eq_true rfl) rfl (fun μ hB => ?_)
  refine v_iconst (pc := 5) (v := nI 0) dX3_no_5 (by decide) ?_
  exact v_iret (pc := 6) dX3_no_6 rfl (Nat.le_refl 0) (Nat.le_refl 0) ⟨rfl, hB⟩
theorem dy_X3_yes : yX3_yes.cls = RX3 ∧ yX3_yes.cls ≠ "java/lang/invoke/MethodHandle" ∧ yX3_yes.cls ≠ "java/lang/invoke/VarHandle" ∧ (parseMethodDescriptor yX3_yes.desc).map (fun d => d.parameters.length) = some 1 := ⟨rfl, by decide +kernel, by decide +kernel, by decide +kernel⟩
set_option maxHeartbeats 4000000 in
theorem ct_yes {l : Launch} {g : Gl} (hS : Start g l) (ad : Nat → Nat) {cd wh be : Int32} {dm na nr np ns nl : Nat} {lo hi al ah sl li lj lk hb : Nat → Int32} {kd rk ro rt sz : Nat → Nat} {pl lw : Nat → Int64} (n : Int32)  : CtM l g ad yX3_yes (ws_ yX3_yes cX3_yes 2 (some FieldType.int)) (rmD 0 0 0) [.int n] (mcl g ad be (cd, wh, dm, lo, hi, na, kd, rk, al, ah, ro, nr, rt, sz, np, pl, hb, ns, sl, nl, li, lj, lk, lw)) (some (.int n)) (mcl g ad be (nI 0, wh, dm, lo, hi, na, kd, rk, al, ah, ro, nr, rt, sz, np, pl, hb, ns, sl, nl, li, lj, lk, lw)) := by
  intro μ0 μ hB
  refine Ct.of hS (by decide) (Nat.le_of_ble_eq_true rfl) (fun κ hκ => ?_)
  subst hκ
  show V κ g _ _ μ 0 0 0 [(0, .ref (ad 0)), (1, .int n)] []
  refine v_aload_n (pc := 0) dX3_yes_0 rfl 0 rfl ?_
  refine v_iconst (pc := 1) (v := nI 0) dX3_yes_1 (by decide) ?_
  refine vm_put (pc := 2) (k := 0) (fs := (mfs ad be (cd, wh, dm, lo, hi, na, kd, rk, al, ah, ro, nr, rt, sz, np, pl, hb, ns, sl, nl, li, lj, lk, lw))) (cs' := (mcl g ad be (nI 0, wh, dm, lo, hi, na, kd, rk, al, ah, ro, nr, rt, sz, np, pl, hb, ns, sl, nl, li, lj, lk, lw))) dX3_yes_2 hB rfl (by decide) q531 rfl rfl (Nat.le_of_ble_eq_true rfl) rfl (fun μ hB => ?_)
  refine v_iload_n (pc := 5) dX3_yes_5 rfl 1 rfl ?_
  exact v_iret (pc := 6) dX3_yes_6 rfl (Nat.le_refl 0) (Nat.le_refl 0) ⟨rfl, hB⟩
theorem dy_X3_noItem : yX3_noItem.cls = RX3 ∧ yX3_noItem.cls ≠ "java/lang/invoke/MethodHandle" ∧ yX3_noItem.cls ≠ "java/lang/invoke/VarHandle" ∧ (parseMethodDescriptor yX3_noItem.desc).map (fun d => d.parameters.length) = some 1 := ⟨rfl, by decide +kernel, by decide +kernel, by decide +kernel⟩
set_option maxHeartbeats 4000000 in
theorem ct_noItem {l : Launch} {g : Gl} (hS : Start g l) (ad : Nat → Nat) {cd wh be : Int32} {dm na nr np ns nl : Nat} {lo hi al ah sl li lj lk hb : Nat → Int32} {kd rk ro rt sz : Nat → Nat} {pl lw : Nat → Int64} (n : Int32)  : CtM l g ad yX3_noItem (ws_ yX3_noItem cX3_noItem 2 (some FieldType.int)) (rmD 1 0 0) [.int n] (mcl g ad be (cd, wh, dm, lo, hi, na, kd, rk, al, ah, ro, nr, rt, sz, np, pl, hb, ns, sl, nl, li, lj, lk, lw)) (some (.int (nI 0))) (mcl g ad be (nI 3, n, dm, lo, hi, na, kd, rk, al, ah, ro, nr, rt, sz, np, pl, hb, ns, sl, nl, li, lj, lk, lw)) := by
  intro μ0 μ hB
  refine Ct.of hS (by decide) (Nat.le_of_ble_eq_true rfl) (fun κ hκ => ?_)
  subst hκ
  show V κ g _ _ μ 0 0 0 [(0, .ref (ad 0)), (1, .int n)] []
  refine v_aload_n (pc := 0) dX3_noItem_0 rfl 0 rfl ?_
  refine v_iload_n (pc := 1) dX3_noItem_1 rfl 1 rfl ?_
  refine vm_put (pc := 2) (k := 1) (fs := (mfs ad be (cd, wh, dm, lo, hi, na, kd, rk, al, ah, ro, nr, rt, sz, np, pl, hb, ns, sl, nl, li, lj, lk, lw))) (cs' := (mcl g ad be (cd, n, dm, lo, hi, na, kd, rk, al, ah, ro, nr, rt, sz, np, pl, hb, ns, sl, nl, li, lj, lk, lw))) dX3_noItem_2 hB rfl (by decide) q532 rfl rfl (Nat.le_of_ble_eq_true rfl) rfl (fun μ hB => ?_)
  refine v_aload_n (pc := 5) dX3_noItem_5 rfl 0 rfl ?_
  refine v_iconst (pc := 6) (v := nI 3) dX3_noItem_6 (by decide) ?_
  refine vm_call (pc := 7) (cs' := (mcl g ad be (nI 3, n, dm, lo, hi, na, kd, rk, al, ah, ro, nr, rt, sz, np, pl, hb, ns, sl, nl, li, lj, lk, lw))) (fs := (mfs ad be (cd, n, dm, lo, hi, na, kd, rk, al, ah, ro, nr, rt, sz, np, pl, hb, ns, sl, nl, li, lj, lk, lw))) (st := []) dX3_noItem_7 hB rfl (ct_no hS ad (nI 3)) q620 q622 qs8 q623 dy_X3_no rfl rfl (Nat.le_of_ble_eq_true rfl) rfl rfl (Nat.le_of_ble_eq_true rfl) (Nat.le_of_ble_eq_true rfl) (Nat.zero_le _) (Nat.zero_le _) (fun μ hB => ?_)
  show V κ g _ _ μ 0 0 10 _ [.int (nI 0)]
  exact v_iret (pc := 10) dX3_noItem_10 rfl (Nat.le_refl 0) (Nat.le_refl 0) ⟨rfl, hB⟩
theorem dy_X3_shapeless : yX3_shapeless.cls = RX3 ∧ yX3_shapeless.cls ≠ "java/lang/invoke/MethodHandle" ∧ yX3_shapeless.cls ≠ "java/lang/invoke/VarHandle" ∧ (parseMethodDescriptor yX3_shapeless.desc).map (fun d => d.parameters.length) = some 0 := ⟨rfl, by decide +kernel, by decide +kernel, by decide +kernel⟩
set_option maxHeartbeats 4000000 in
theorem ct_shapeless {l : Launch} {g : Gl} (hS : Start g l) (ad : Nat → Nat) {cd wh be : Int32} {dm na nr np ns nl : Nat} {lo hi al ah sl li lj lk hb : Nat → Int32} {kd rk ro rt sz : Nat → Nat} {pl lw : Nat → Int64}   : CtM l g ad yX3_shapeless (ws_ yX3_shapeless cX3_shapeless 2 (some FieldType.int)) (rmD 1 0 0) [] (mcl g ad be (cd, wh, dm, lo, hi, na, kd, rk, al, ah, ro, nr, rt, sz, np, pl, hb, ns, sl, nl, li, lj, lk, lw)) (some (.int (nI dm))) (mcl g ad be (nI 0, wh, 0, lo, hi, na, kd, rk, al, ah, ro, nr, rt, sz, np, pl, hb, ns, sl, nl, li, lj, lk, lw)) := by
  intro μ0 μ hB
  refine Ct.of hS (by decide) (Nat.le_of_ble_eq_true rfl) (fun κ hκ => ?_)
  subst hκ
  show V κ g _ _ μ 0 0 0 [(0, .ref (ad 0))] []
  refine v_aload_n (pc := 0) dX3_shapeless_0 rfl 0 rfl ?_
  refine vm_get (pc := 1) (k := 2) (fs := (mfs ad be (cd, wh, dm, lo, hi, na, kd, rk, al, ah, ro, nr, rt, sz, np, pl, hb, ns, sl, nl, li, lj, lk, lw))) (v := .int (nI dm)) dX3_shapeless_1 hB rfl (by decide) q533 rfl ?_
  refine v_istore_n (pc := 4) (lv' := [(1, .int (nI dm)), (0, .ref (ad 0))]) dX3_shapeless_4 rfl (by decide) rfl ?_
  refine v_aload_n (pc := 5) dX3_shapeless_5 rfl 1 rfl ?_
  refine v_iconst (pc := 6) (v := nI 0) dX3_shapeless_6 (by decide) ?_
  refine vm_put (pc := 7) (k := 2) (fs := (mfs ad be (cd, wh, dm, lo, hi, na, kd, rk, al, ah, ro, nr, rt, sz, np, pl, hb, ns, sl, nl, li, lj, lk, lw))) (cs' := (mcl g ad be (cd, wh, 0, lo, hi, na, kd, rk, al, ah, ro, nr, rt, sz, np, pl, hb, ns, sl, nl, li, lj, lk, lw))) dX3_shapeless_7 hB rfl (by decide) q533 rfl rfl (Nat.le_of_ble_eq_true rfl) rfl (fun μ hB => ?_)
  refine v_aload_n (pc := 10) dX3_shapeless_10 rfl 1 rfl ?_
  refine v_iload_n (pc := 11) dX3_shapeless_11 rfl 0 rfl ?_
  refine vm_call (pc := 12) (cs' := (mcl g ad be (nI 0, wh, 0, lo, hi, na, kd, rk, al, ah, ro, nr, rt, sz, np, pl, hb, ns, sl, nl, li, lj, lk, lw))) (fs := (mfs ad be (cd, wh, 0, lo, hi, na, kd, rk, al, ah, ro, nr, rt, sz, np, pl, hb, ns, sl, nl, li, lj, lk, lw))) (st := []) dX3_shapeless_12 hB rfl (ct_yes hS ad (nI dm)) q624 q626 qs9 q627 dy_X3_yes rfl rfl (Nat.le_of_ble_eq_true rfl) rfl rfl (Nat.le_of_ble_eq_true rfl) (Nat.le_of_ble_eq_true rfl) (Nat.zero_le _) (Nat.zero_le _) (fun μ hB => ?_)
  show V κ g _ _ μ 0 0 15 _ [.int (nI dm)]
  exact v_iret (pc := 15) dX3_shapeless_15 rfl (Nat.le_refl 0) (Nat.le_refl 0) ⟨rfl, hB⟩
theorem dy_X3_clear : yX3_clear.cls = RX3 ∧ yX3_clear.cls ≠ "java/lang/invoke/MethodHandle" ∧ yX3_clear.cls ≠ "java/lang/invoke/VarHandle" ∧ (parseMethodDescriptor yX3_clear.desc).map (fun d => d.parameters.length) = some 0 := ⟨rfl, by decide +kernel, by decide +kernel, by decide +kernel⟩
set_option maxHeartbeats 4000000 in
theorem ct_clear {l : Launch} {g : Gl} (hS : Start g l) (ad : Nat → Nat) {cd wh be : Int32} {dm na nr np ns nl : Nat} {lo hi al ah sl li lj lk hb : Nat → Int32} {kd rk ro rt sz : Nat → Nat} {pl lw : Nat → Int64}   : CtM l g ad yX3_clear (ws_ yX3_clear cX3_clear 2 (some FieldType.int)) (rmD 0 0 0) [] (mcl g ad be (cd, wh, dm, lo, hi, na, kd, rk, al, ah, ro, nr, rt, sz, np, pl, hb, ns, sl, nl, li, lj, lk, lw)) (some (.int (nI na))) (mcl g ad be (nI 0, (-1), 0, lo, hi, 0, kd, rk, al, ah, ro, 0, rt, sz, 0, pl, hb, 0, sl, 0, li, lj, lk, lw)) := by
  intro μ0 μ hB
  refine Ct.of hS (by decide) (Nat.le_of_ble_eq_true rfl) (fun κ hκ => ?_)
  subst hκ
  show V κ g _ _ μ 0 0 0 [(0, .ref (ad 0))] []
  refine v_aload_n (pc := 0) dX3_clear_0 rfl 0 rfl ?_
  refine vm_get (pc := 1) (k := 5) (fs := (mfs ad be (cd, wh, dm, lo, hi, na, kd, rk, al, ah, ro, nr, rt, sz, np, pl, hb, ns, sl, nl, li, lj, lk, lw))) (v := .int (nI na)) dX3_clear_1 hB rfl (by decide) q536 rfl ?_
  refine v_istore_n (pc := 4) (lv' := [(1, .int (nI na)), (0, .ref (ad 0))]) dX3_clear_4 rfl (by decide) rfl ?_
  refine v_aload_n (pc := 5) dX3_clear_5 rfl 1 rfl ?_
  refine v_iconst (pc := 6) (v := nI 0) dX3_clear_6 (by decide) ?_
  refine vm_put (pc := 7) (k := 5) (fs := (mfs ad be (cd, wh, dm, lo, hi, na, kd, rk, al, ah, ro, nr, rt, sz, np, pl, hb, ns, sl, nl, li, lj, lk, lw))) (cs' := (mcl g ad be (cd, wh, dm, lo, hi, 0, kd, rk, al, ah, ro, nr, rt, sz, np, pl, hb, ns, sl, nl, li, lj, lk, lw))) dX3_clear_7 hB rfl (by decide) q536 rfl rfl (Nat.le_of_ble_eq_true rfl) rfl (fun μ hB => ?_)
  refine v_aload_n (pc := 10) dX3_clear_10 rfl 1 rfl ?_
  refine v_iconst (pc := 11) (v := nI 0) dX3_clear_11 (by decide) ?_
  refine vm_put (pc := 12) (k := 11) (fs := (mfs ad be (cd, wh, dm, lo, hi, 0, kd, rk, al, ah, ro, nr, rt, sz, np, pl, hb, ns, sl, nl, li, lj, lk, lw))) (cs' := (mcl g ad be (cd, wh, dm, lo, hi, 0, kd, rk, al, ah, ro, 0, rt, sz, np, pl, hb, ns, sl, nl, li, lj, lk, lw))) dX3_clear_12 hB rfl (by decide) q542 rfl rfl (Nat.le_of_ble_eq_true rfl) rfl (fun μ hB => ?_)
  refine v_aload_n (pc := 15) dX3_clear_15 rfl 1 rfl ?_
  refine v_iconst (pc := 16) (v := nI 0) dX3_clear_16 (by decide) ?_
  refine vm_put (pc := 17) (k := 14) (fs := (mfs ad be (cd, wh, dm, lo, hi, 0, kd, rk, al, ah, ro, 0, rt, sz, np, pl, hb, ns, sl, nl, li, lj, lk, lw))) (cs' := (mcl g ad be (cd, wh, dm, lo, hi, 0, kd, rk, al, ah, ro, 0, rt, sz, 0, pl, hb, ns, sl, nl, li, lj, lk, lw))) dX3_clear_17 hB rfl (by decide) q545 rfl rfl (Nat.le_of_ble_eq_true rfl) rfl (fun μ hB => ?_)
  refine v_aload_n (pc := 20) dX3_clear_20 rfl 1 rfl ?_
  refine v_iconst (pc := 21) (v := nI 0) dX3_clear_21 (by decide) ?_
  refine vm_put (pc := 22) (k := 17) (fs := (mfs ad be (cd, wh, dm, lo, hi, 0, kd, rk, al, ah, ro, 0, rt, sz, 0, pl, hb, ns, sl, nl, li, lj, lk, lw))) (cs' := (mcl g ad be (cd, wh, dm, lo, hi, 0, kd, rk, al, ah, ro, 0, rt, sz, 0, pl, hb, 0, sl, nl, li, lj, lk, lw))) dX3_clear_22 hB rfl (by decide) q548 rfl rfl (Nat.le_of_ble_eq_true rfl) rfl (fun μ hB => ?_)
  refine v_aload_n (pc := 25) dX3_clear_25 rfl 1 rfl ?_
  refine v_iconst (pc := 26) (v := nI 0) dX3_clear_26 (by decide) ?_
  refine vm_put (pc := 27) (k := 19) (fs := (mfs ad be (cd, wh, dm, lo, hi, 0, kd, rk, al, ah, ro, 0, rt, sz, 0, pl, hb, 0, sl, nl, li, lj, lk, lw))) (cs' := (mcl g ad be (cd, wh, dm, lo, hi, 0, kd, rk, al, ah, ro, 0, rt, sz, 0, pl, hb, 0, sl, 0, li, lj, lk, lw))) dX3_clear_27 hB rfl (by decide) q550 rfl rfl (Nat.le_of_ble_eq_true rfl) rfl (fun μ hB => ?_)
  refine v_aload_n (pc := 30) dX3_clear_30 rfl 1 rfl ?_
  refine v_iconst (pc := 31) (v := nI 0) dX3_clear_31 (by decide) ?_
  refine vm_put (pc := 32) (k := 2) (fs := (mfs ad be (cd, wh, dm, lo, hi, 0, kd, rk, al, ah, ro, 0, rt, sz, 0, pl, hb, 0, sl, 0, li, lj, lk, lw))) (cs' := (mcl g ad be (cd, wh, 0, lo, hi, 0, kd, rk, al, ah, ro, 0, rt, sz, 0, pl, hb, 0, sl, 0, li, lj, lk, lw))) dX3_clear_32 hB rfl (by decide) q533 rfl rfl (Nat.le_of_ble_eq_true rfl) rfl (fun μ hB => ?_)
  refine v_aload_n (pc := 35) dX3_clear_35 rfl 1 rfl ?_
  refine v_iconst (pc := 36) (v := nI 0) dX3_clear_36 (by decide) ?_
  refine vm_put (pc := 37) (k := 0) (fs := (mfs ad be (cd, wh, 0, lo, hi, 0, kd, rk, al, ah, ro, 0, rt, sz, 0, pl, hb, 0, sl, 0, li, lj, lk, lw))) (cs' := (mcl g ad be (nI 0, wh, 0, lo, hi, 0, kd, rk, al, ah, ro, 0, rt, sz, 0, pl, hb, 0, sl, 0, li, lj, lk, lw))) dX3_clear_37 hB rfl (by decide) q531 rfl rfl (Nat.le_of_ble_eq_true rfl) rfl (fun μ hB => ?_)
  refine v_aload_n (pc := 40) dX3_clear_40 rfl 1 rfl ?_
  refine v_iconst (pc := 41) (v := (-1)) dX3_clear_41 (by decide) ?_
  refine vm_put (pc := 42) (k := 1) (fs := (mfs ad be (nI 0, wh, 0, lo, hi, 0, kd, rk, al, ah, ro, 0, rt, sz, 0, pl, hb, 0, sl, 0, li, lj, lk, lw))) (cs' := (mcl g ad be (nI 0, (-1), 0, lo, hi, 0, kd, rk, al, ah, ro, 0, rt, sz, 0, pl, hb, 0, sl, 0, li, lj, lk, lw))) dX3_clear_42 hB rfl (by decide) q532 rfl rfl (Nat.le_of_ble_eq_true rfl) rfl (fun μ hB => ?_)
  refine v_iload_n (pc := 45) dX3_clear_45 rfl 0 rfl ?_
  exact v_iret (pc := 46) dX3_clear_46 rfl (Nat.le_refl 0) (Nat.le_refl 0) ⟨rfl, hB⟩
end
