section
-- ===== PART A: goes FIRST, ahead of the names: the tables' words, and 'selects' of the private methods out of them =====
/-- a private method of a class that the tables say can be made, by its rows of tables_1 -/
def lw_okq (q : MethodName × Nat) : Prop := (q.1.cls ≠ "java/lang/invoke/MethodHandle" ∧ q.1.cls ≠ "java/lang/invoke/VarHandle") ∧ Cond.instantiable q.1.cls q.2 ∈ tables_1 ∧ Cond.privateMethod q.1 ∈ tables_1 ∧ Cond.instanceMethod q.1 ∈ tables_1
set_option maxRecDepth 100000
theorem lw_t1 {w : Cond} (h : w ∈ tables_1_1) : w ∈ tables_1 := List.mem_append_left _ h
theorem lw_t2 {w : Cond} (h : w ∈ tables_1_2) : w ∈ tables_1 := List.mem_append_right _ h
theorem lw_p0 : lw_okq (⟨"RecurrenceEngine", "clearPoly", "(I)V"⟩, 2) := ⟨⟨by decide +kernel, by decide +kernel⟩, lw_t1 (List.mem_of_getElem? (i := 4) rfl), lw_t1 (List.mem_of_getElem? (i := 28) rfl), lw_t1 (List.mem_of_getElem? (i := 29) rfl)⟩
theorem lw_p1 : lw_okq (⟨"RecurrenceEngine", "multiply", "(III)V"⟩, 2) := ⟨⟨by decide +kernel, by decide +kernel⟩, lw_t1 (List.mem_of_getElem? (i := 4) rfl), lw_t1 (List.mem_of_getElem? (i := 35) rfl), lw_t1 (List.mem_of_getElem? (i := 36) rfl)⟩
theorem lw_p2 : lw_okq (⟨"RecurrenceEngine", "degree", "(I)I"⟩, 2) := ⟨⟨by decide +kernel, by decide +kernel⟩, lw_t1 (List.mem_of_getElem? (i := 4) rfl), lw_t1 (List.mem_of_getElem? (i := 39) rfl), lw_t1 (List.mem_of_getElem? (i := 40) rfl)⟩
theorem lw_p3 : lw_okq (⟨"RecurrenceEngine", "addTimes", "(IIII)V"⟩, 2) := ⟨⟨by decide +kernel, by decide +kernel⟩, lw_t1 (List.mem_of_getElem? (i := 4) rfl), lw_t1 (List.mem_of_getElem? (i := 43) rfl), lw_t1 (List.mem_of_getElem? (i := 44) rfl)⟩
theorem lw_p4 : lw_okq (⟨"RecurrenceEngine", "copyPoly", "(II)V"⟩, 2) := ⟨⟨by decide +kernel, by decide +kernel⟩, lw_t1 (List.mem_of_getElem? (i := 4) rfl), lw_t1 (List.mem_of_getElem? (i := 47) rfl), lw_t1 (List.mem_of_getElem? (i := 48) rfl)⟩
theorem lw_p5 : lw_okq (⟨"RecurrenceEngine", "keep", "(I)I"⟩, 2) := ⟨⟨by decide +kernel, by decide +kernel⟩, lw_t1 (List.mem_of_getElem? (i := 4) rfl), lw_t1 (List.mem_of_getElem? (i := 51) rfl), lw_t1 (List.mem_of_getElem? (i := 52) rfl)⟩
theorem lw_p6 : lw_okq (⟨"RecurrenceEngine", "reduce", "()V"⟩, 2) := ⟨⟨by decide +kernel, by decide +kernel⟩, lw_t1 (List.mem_of_getElem? (i := 4) rfl), lw_t1 (List.mem_of_getElem? (i := 55) rfl), lw_t1 (List.mem_of_getElem? (i := 56) rfl)⟩
theorem lw_p7 : lw_okq (⟨"RecurrenceEngine", "commonFactor", "()V"⟩, 2) := ⟨⟨by decide +kernel, by decide +kernel⟩, lw_t1 (List.mem_of_getElem? (i := 4) rfl), lw_t1 (List.mem_of_getElem? (i := 59) rfl), lw_t1 (List.mem_of_getElem? (i := 60) rfl)⟩
theorem lw_p8 : lw_okq (⟨"RecurrenceEngine", "divide", "(II)V"⟩, 2) := ⟨⟨by decide +kernel, by decide +kernel⟩, lw_t1 (List.mem_of_getElem? (i := 4) rfl), lw_t1 (List.mem_of_getElem? (i := 63) rfl), lw_t1 (List.mem_of_getElem? (i := 64) rfl)⟩
theorem lw_p9 : lw_okq (⟨"RecurrenceEngine", "scalePoly", "(II)V"⟩, 2) := ⟨⟨by decide +kernel, by decide +kernel⟩, lw_t1 (List.mem_of_getElem? (i := 4) rfl), lw_t1 (List.mem_of_getElem? (i := 70) rfl), lw_t1 (List.mem_of_getElem? (i := 71) rfl)⟩
theorem lw_p10 : lw_okq (⟨"RecurrenceEngine", "orderOf", "(II)I"⟩, 2) := ⟨⟨by decide +kernel, by decide +kernel⟩, lw_t1 (List.mem_of_getElem? (i := 4) rfl), lw_t1 (List.mem_of_getElem? (i := 74) rfl), lw_t1 (List.mem_of_getElem? (i := 75) rfl)⟩
theorem lw_p11 : lw_okq (⟨"RecurrenceEngine", "load", "(I)V"⟩, 2) := ⟨⟨by decide +kernel, by decide +kernel⟩, lw_t1 (List.mem_of_getElem? (i := 4) rfl), lw_t1 (List.mem_of_getElem? (i := 92) rfl), lw_t1 (List.mem_of_getElem? (i := 93) rfl)⟩
theorem lw_p12 : lw_okq (⟨"RecurrenceEngine", "loadStep", "()V"⟩, 2) := ⟨⟨by decide +kernel, by decide +kernel⟩, lw_t1 (List.mem_of_getElem? (i := 4) rfl), lw_t1 (List.mem_of_getElem? (i := 108) rfl), lw_t1 (List.mem_of_getElem? (i := 109) rfl)⟩
theorem lw_p13 : lw_okq (⟨"RecurrenceEngine", "farTerm", "(I)I"⟩, 2) := ⟨⟨by decide +kernel, by decide +kernel⟩, lw_t1 (List.mem_of_getElem? (i := 4) rfl), lw_t1 (List.mem_of_getElem? (i := 124) rfl), lw_t1 (List.mem_of_getElem? (i := 125) rfl)⟩
theorem lw_p14 : lw_okq (⟨"RecurrenceEngine", "loadMirror", "()V"⟩, 2) := ⟨⟨by decide +kernel, by decide +kernel⟩, lw_t1 (List.mem_of_getElem? (i := 4) rfl), lw_t1 (List.mem_of_getElem? (i := 128) rfl), lw_t1 (List.mem_of_getElem? (i := 129) rfl)⟩
theorem lw_p15 : lw_okq (⟨"RecurrenceEngine", "keepHalf", "(II)V"⟩, 2) := ⟨⟨by decide +kernel, by decide +kernel⟩, lw_t1 (List.mem_of_getElem? (i := 4) rfl), lw_t1 (List.mem_of_getElem? (i := 132) rfl), lw_t1 (List.mem_of_getElem? (i := 133) rfl)⟩
def lw_privs_1 : List (MethodName × Nat) := [(⟨"RecurrenceEngine", "clearPoly", "(I)V"⟩, 2), (⟨"RecurrenceEngine", "multiply", "(III)V"⟩, 2), (⟨"RecurrenceEngine", "degree", "(I)I"⟩, 2), (⟨"RecurrenceEngine", "addTimes", "(IIII)V"⟩, 2), (⟨"RecurrenceEngine", "copyPoly", "(II)V"⟩, 2), (⟨"RecurrenceEngine", "keep", "(I)I"⟩, 2), (⟨"RecurrenceEngine", "reduce", "()V"⟩, 2), (⟨"RecurrenceEngine", "commonFactor", "()V"⟩, 2), (⟨"RecurrenceEngine", "divide", "(II)V"⟩, 2), (⟨"RecurrenceEngine", "scalePoly", "(II)V"⟩, 2), (⟨"RecurrenceEngine", "orderOf", "(II)I"⟩, 2), (⟨"RecurrenceEngine", "load", "(I)V"⟩, 2), (⟨"RecurrenceEngine", "loadStep", "()V"⟩, 2), (⟨"RecurrenceEngine", "farTerm", "(I)I"⟩, 2), (⟨"RecurrenceEngine", "loadMirror", "()V"⟩, 2), (⟨"RecurrenceEngine", "keepHalf", "(II)V"⟩, 2)]
theorem lw_r1 : ∀ q ∈ lw_privs_1, lw_okq q := List.forall_mem_cons.mpr ⟨lw_p0, List.forall_mem_cons.mpr ⟨lw_p1, List.forall_mem_cons.mpr ⟨lw_p2, List.forall_mem_cons.mpr ⟨lw_p3, List.forall_mem_cons.mpr ⟨lw_p4, List.forall_mem_cons.mpr ⟨lw_p5, List.forall_mem_cons.mpr ⟨lw_p6, List.forall_mem_cons.mpr ⟨lw_p7, List.forall_mem_cons.mpr ⟨lw_p8, List.forall_mem_cons.mpr ⟨lw_p9, List.forall_mem_cons.mpr ⟨lw_p10, List.forall_mem_cons.mpr ⟨lw_p11, List.forall_mem_cons.mpr ⟨lw_p12, List.forall_mem_cons.mpr ⟨lw_p13, List.forall_mem_cons.mpr ⟨lw_p14, List.forall_mem_cons.mpr ⟨lw_p15, fun _ h => absurd h List.not_mem_nil⟩⟩⟩⟩⟩⟩⟩⟩⟩⟩⟩⟩⟩⟩⟩⟩
theorem lw_p16 : lw_okq (⟨"RecurrenceEngine", "sumTo", "(II)I"⟩, 2) := ⟨⟨by decide +kernel, by decide +kernel⟩, lw_t1 (List.mem_of_getElem? (i := 4) rfl), lw_t1 (List.mem_of_getElem? (i := 148) rfl), lw_t1 (List.mem_of_getElem? (i := 149) rfl)⟩
theorem lw_p17 : lw_okq (⟨"RecurrenceEngine", "nextTerm", "(II)I"⟩, 2) := ⟨⟨by decide +kernel, by decide +kernel⟩, lw_t1 (List.mem_of_getElem? (i := 4) rfl), lw_t1 (List.mem_of_getElem? (i := 156) rfl), lw_t1 (List.mem_of_getElem? (i := 157) rfl)⟩
theorem lw_p18 : lw_okq (⟨"RecurrenceEngineModel", "bad", "(I)Z"⟩, 4) := ⟨⟨by decide +kernel, by decide +kernel⟩, lw_t1 (List.mem_of_getElem? (i := 160) rfl), lw_t1 (List.mem_of_getElem? (i := 183) rfl), lw_t1 (List.mem_of_getElem? (i := 184) rfl)⟩
theorem lw_p19 : lw_okq (⟨"RecurrenceEngineModel", "digit", "(II)I"⟩, 4) := ⟨⟨by decide +kernel, by decide +kernel⟩, lw_t1 (List.mem_of_getElem? (i := 160) rfl), lw_t1 (List.mem_of_getElem? (i := 187) rfl), lw_t1 (List.mem_of_getElem? (i := 188) rfl)⟩
theorem lw_p20 : lw_okq (⟨"RecurrenceEngineModel", "store", "(I)V"⟩, 4) := ⟨⟨by decide +kernel, by decide +kernel⟩, lw_t1 (List.mem_of_getElem? (i := 160) rfl), lw_t1 (List.mem_of_getElem? (i := 192) rfl), lw_t1 (List.mem_of_getElem? (i := 193) rfl)⟩
theorem lw_p21 : lw_okq (⟨"RecurrenceEngineModel", "settle", "(I)I"⟩, 4) := ⟨⟨by decide +kernel, by decide +kernel⟩, lw_t1 (List.mem_of_getElem? (i := 160) rfl), lw_t1 (List.mem_of_getElem? (i := 200) rfl), lw_t1 (List.mem_of_getElem? (i := 201) rfl)⟩
theorem lw_p22 : lw_okq (⟨"RecurrenceEngineModel", "rank", "()I"⟩, 4) := ⟨⟨by decide +kernel, by decide +kernel⟩, lw_t1 (List.mem_of_getElem? (i := 160) rfl), lw_t1 (List.mem_of_getElem? (i := 204) rfl), lw_t1 (List.mem_of_getElem? (i := 205) rfl)⟩
theorem lw_p23 : lw_okq (⟨"RecurrenceEngineModel", "eliminate", "(I)I"⟩, 4) := ⟨⟨by decide +kernel, by decide +kernel⟩, lw_t1 (List.mem_of_getElem? (i := 160) rfl), lw_t1 (List.mem_of_getElem? (i := 208) rfl), lw_t1 (List.mem_of_getElem? (i := 209) rfl)⟩
theorem lw_p24 : lw_okq (⟨"RecurrenceEngineModel", "pivot", "(III)I"⟩, 4) := ⟨⟨by decide +kernel, by decide +kernel⟩, lw_t1 (List.mem_of_getElem? (i := 160) rfl), lw_t1 (List.mem_of_getElem? (i := 212) rfl), lw_t1 (List.mem_of_getElem? (i := 213) rfl)⟩
theorem lw_p25 : lw_okq (⟨"RecurrenceEngineModel", "exchange", "(II)V"⟩, 4) := ⟨⟨by decide +kernel, by decide +kernel⟩, lw_t1 (List.mem_of_getElem? (i := 160) rfl), lw_t1 (List.mem_of_getElem? (i := 216) rfl), lw_t1 (List.mem_of_getElem? (i := 217) rfl)⟩
theorem lw_p26 : lw_okq (⟨"RecurrenceEngineModel", "clearColumn", "(III)V"⟩, 4) := ⟨⟨by decide +kernel, by decide +kernel⟩, lw_t1 (List.mem_of_getElem? (i := 160) rfl), lw_t1 (List.mem_of_getElem? (i := 220) rfl), lw_t1 (List.mem_of_getElem? (i := 221) rfl)⟩
theorem lw_p27 : lw_okq (⟨"RecurrenceEngineModel", "inverse", "(I)I"⟩, 4) := ⟨⟨by decide +kernel, by decide +kernel⟩, lw_t1 (List.mem_of_getElem? (i := 160) rfl), lw_t1 (List.mem_of_getElem? (i := 224) rfl), lw_t1 (List.mem_of_getElem? (i := 225) rfl)⟩
theorem lw_p28 : lw_okq (⟨"RecurrenceEngineModel", "mod", "(I)I"⟩, 4) := ⟨⟨by decide +kernel, by decide +kernel⟩, lw_t1 (List.mem_of_getElem? (i := 160) rfl), lw_t1 (List.mem_of_getElem? (i := 228) rfl), lw_t1 (List.mem_of_getElem? (i := 229) rfl)⟩
theorem lw_p29 : lw_okq (⟨"RecurrenceEngineModel", "load", "(I)V"⟩, 4) := ⟨⟨by decide +kernel, by decide +kernel⟩, lw_t1 (List.mem_of_getElem? (i := 160) rfl), lw_t2 (List.mem_of_getElem? (i := 0) rfl), lw_t2 (List.mem_of_getElem? (i := 1) rfl)⟩
theorem lw_p30 : lw_okq (⟨"RecurrenceEngineModel", "extend", "(I)V"⟩, 4) := ⟨⟨by decide +kernel, by decide +kernel⟩, lw_t1 (List.mem_of_getElem? (i := 160) rfl), lw_t2 (List.mem_of_getElem? (i := 4) rfl), lw_t2 (List.mem_of_getElem? (i := 5) rfl)⟩
theorem lw_p31 : lw_okq (⟨"RecurrenceEngineModel", "badIndex", "(I)Z"⟩, 4) := ⟨⟨by decide +kernel, by decide +kernel⟩, lw_t1 (List.mem_of_getElem? (i := 160) rfl), lw_t2 (List.mem_of_getElem? (i := 28) rfl), lw_t2 (List.mem_of_getElem? (i := 29) rfl)⟩
def lw_privs_2 : List (MethodName × Nat) := [(⟨"RecurrenceEngine", "sumTo", "(II)I"⟩, 2), (⟨"RecurrenceEngine", "nextTerm", "(II)I"⟩, 2), (⟨"RecurrenceEngineModel", "bad", "(I)Z"⟩, 4), (⟨"RecurrenceEngineModel", "digit", "(II)I"⟩, 4), (⟨"RecurrenceEngineModel", "store", "(I)V"⟩, 4), (⟨"RecurrenceEngineModel", "settle", "(I)I"⟩, 4), (⟨"RecurrenceEngineModel", "rank", "()I"⟩, 4), (⟨"RecurrenceEngineModel", "eliminate", "(I)I"⟩, 4), (⟨"RecurrenceEngineModel", "pivot", "(III)I"⟩, 4), (⟨"RecurrenceEngineModel", "exchange", "(II)V"⟩, 4), (⟨"RecurrenceEngineModel", "clearColumn", "(III)V"⟩, 4), (⟨"RecurrenceEngineModel", "inverse", "(I)I"⟩, 4), (⟨"RecurrenceEngineModel", "mod", "(I)I"⟩, 4), (⟨"RecurrenceEngineModel", "load", "(I)V"⟩, 4), (⟨"RecurrenceEngineModel", "extend", "(I)V"⟩, 4), (⟨"RecurrenceEngineModel", "badIndex", "(I)Z"⟩, 4)]
theorem lw_r2 : ∀ q ∈ lw_privs_2, lw_okq q := List.forall_mem_cons.mpr ⟨lw_p16, List.forall_mem_cons.mpr ⟨lw_p17, List.forall_mem_cons.mpr ⟨lw_p18, List.forall_mem_cons.mpr ⟨lw_p19, List.forall_mem_cons.mpr ⟨lw_p20, List.forall_mem_cons.mpr ⟨lw_p21, List.forall_mem_cons.mpr ⟨lw_p22, List.forall_mem_cons.mpr ⟨lw_p23, List.forall_mem_cons.mpr ⟨lw_p24, List.forall_mem_cons.mpr ⟨lw_p25, List.forall_mem_cons.mpr ⟨lw_p26, List.forall_mem_cons.mpr ⟨lw_p27, List.forall_mem_cons.mpr ⟨lw_p28, List.forall_mem_cons.mpr ⟨lw_p29, List.forall_mem_cons.mpr ⟨lw_p30, List.forall_mem_cons.mpr ⟨lw_p31, fun _ h => absurd h List.not_mem_nil⟩⟩⟩⟩⟩⟩⟩⟩⟩⟩⟩⟩⟩⟩⟩⟩
def lw_privs : List (MethodName × Nat) := lw_privs_1 ++ (lw_privs_2)
def lw_tbl : List Cond := k2_sels lw_privs ++ tables_1
theorem lw_privs_ok : ∀ q ∈ lw_privs, lw_okq q := by
  show ∀ q ∈ lw_privs_1 ++ (lw_privs_2), lw_okq q
  exact List.forall_mem_append.mpr ⟨lw_r1, lw_r2⟩
-- ===== ONE list of words for every method: the tables' words that hold all through a run =====
def lw_all : List Cond := lw_tbl.filter goodWord
/-- a word of the tables by its place: claim/WORDS.tsv -/
theorem lw_w {w : Cond} (i : Nat) (h : lw_tbl[i]? = some w) (g : goodWord w = true) : w ∈ lw_all := List.mem_filter.mpr ⟨List.mem_of_getElem? h, g⟩
theorem lw_all_tbl {w : Cond} (h : w ∈ lw_all) : w ∈ lw_tbl := (List.mem_filter.mp h).1
theorem lw_self : GoodIn lw_all lw_all := fun w h => ⟨h, good_of_word (List.mem_filter.mp h).2⟩
/-- a class's field words, by their places -/
theorem lw_in (ws : List Cond) (ps : List Nat) (hp : ws = ps.filterMap (fun i => lw_tbl[i]?)) (hg : ws.all goodWord = true) : ∀ w ∈ ws, w ∈ lw_all := by
  intro w h
  have h1 := List.all_eq_true.mp hg w h
  rw [hp] at h
  obtain ⟨i, -, hi⟩ := List.mem_filterMap.mp h
  exact lw_w i hi h1
/-- the words of a contract for the method y with code b, L locals, answer r -/
abbrev ws_ (y : MethodName) (b : ByteArray) (L : Nat) (r : Option FieldType) : List Cond := Cond.code y b L r :: lw_all
theorem lw_meth {y : MethodName} {b : ByteArray} {L : Nat} {r : Option FieldType} (h : Cond.code y b L r ∈ lw_all) : GoodIn lw_all (ws_ y b L r) := by
  intro w hw
  rcases List.mem_cons.mp hw with e | e
  · rw [e]
    exact lw_self _ h
  · exact lw_self _ e
theorem lw_app {a c : List Cond} (ha : ∀ w ∈ a, w ∈ lw_all) (hc : GoodIn lw_all c) : GoodIn lw_all (a ++ c) := by
  intro w hw
  rcases List.mem_append.mp hw with e | e
  · exact lw_self w (ha w e)
  · exact hc w e
/-- what a call through an object asks: cwV n hts (lw_V ..) -/
theorem lw_V {own : String} {idx : Nat} {C : String} {y : MethodName} {b : ByteArray} {L : Nat} {r : Option FieldType} (h1 : Cond.methodLink own idx y ∈ lw_all) (h2 : Cond.instanceMethod y ∈ lw_all) (h3 : Cond.selects C y y ∈ lw_all) (h4 : Cond.initialized C ∈ lw_all) (h5 : Cond.code y b L r ∈ lw_all) : GoodIn lw_all (wsV own idx C y (ws_ y b L r)) := by
  refine lw_app ?_ (lw_meth h5)
  intro w hw
  simp only [List.mem_cons, List.not_mem_nil, or_false] at hw
  rcases hw with e | e | e | e
  · rw [e]; exact h1
  · rw [e]; exact h2
  · rw [e]; exact h3
  · rw [e]; exact h4
/-- what a static call asks: va_cwS n hts (lw_S ..) -/
theorem lw_S {own : String} {idx : Nat} {y : MethodName} {b : ByteArray} {L : Nat} {r : Option FieldType} (h1 : Cond.methodLink own idx y ∈ lw_all) (h2 : Cond.static y ∈ lw_all) (h3 : Cond.initialized y.cls ∈ lw_all) (h4 : Cond.code y b L r ∈ lw_all) : GoodIn lw_all (va_wsS own idx y (ws_ y b L r)) := by
  refine lw_app ?_ (lw_meth h4)
  intro w hw
  simp only [List.mem_cons, List.not_mem_nil, or_false] at hw
  rcases hw with e | e | e
  · rw [e]; exact h1
  · rw [e]; exact h2
  · rw [e]; exact h3
/-- the words of a contract for a method WITH HANDLERS (hh: its table) -/
abbrev wsW_ (y : MethodName) (b : ByteArray) (L : Nat) (r : Option FieldType) (hh : List (Nat × Nat × Nat × Nat)) : List Cond := Cond.codeWith y b L r hh :: lw_all
theorem lw_methW {y : MethodName} {b : ByteArray} {L : Nat} {r : Option FieldType} {hh : List (Nat × Nat × Nat × Nat)} (h : Cond.codeWith y b L r hh ∈ lw_all) : GoodIn lw_all (wsW_ y b L r hh) := by
  intro w hw
  rcases List.mem_cons.mp hw with e | e
  · rw [e]
    exact lw_self _ h
  · exact lw_self _ e
/-- any list of words by their places (lw_in), good -/
theorem lw_good {ws : List Cond} (h : ∀ w ∈ ws, w ∈ lw_all) : GoodIn lw_all ws := fun w hw => lw_self w (h w hw)
/-- what a call of a method with handlers asks: vx_cwVW n hts (lw_VW ..), vx_cwSW n hts (lw_SW ..) -/
theorem lw_VW {own : String} {idx : Nat} {C : String} {y : MethodName} {b : ByteArray} {L : Nat} {r : Option FieldType} {hh : List (Nat × Nat × Nat × Nat)} (h1 : Cond.methodLink own idx y ∈ lw_all) (h2 : Cond.instanceMethod y ∈ lw_all) (h3 : Cond.selects C y y ∈ lw_all) (h4 : Cond.initialized C ∈ lw_all) (h5 : Cond.codeWith y b L r hh ∈ lw_all) : GoodIn lw_all (wsV own idx C y (wsW_ y b L r hh)) := by
  refine lw_app ?_ (lw_methW h5)
  intro w hw
  simp only [List.mem_cons, List.not_mem_nil, or_false] at hw
  rcases hw with e | e | e | e
  · rw [e]; exact h1
  · rw [e]; exact h2
  · rw [e]; exact h3
  · rw [e]; exact h4
theorem lw_SW {own : String} {idx : Nat} {y : MethodName} {b : ByteArray} {L : Nat} {r : Option FieldType} {hh : List (Nat × Nat × Nat × Nat)} (h1 : Cond.methodLink own idx y ∈ lw_all) (h2 : Cond.static y ∈ lw_all) (h3 : Cond.initialized y.cls ∈ lw_all) (h4 : Cond.codeWith y b L r hh ∈ lw_all) : GoodIn lw_all (va_wsS own idx y (wsW_ y b L r hh)) := by
  refine lw_app ?_ (lw_methW h4)
  intro w hw
  simp only [List.mem_cons, List.not_mem_nil, or_false] at hw
  rcases hw with e | e | e
  · rw [e]; exact h1
  · rw [e]; exact h2
  · rw [e]; exact h3
/-- a word by its place in its run of the tables -/
theorem lw_at {r : List Cond} (hr : ∀ w ∈ r, w ∈ lw_tbl) {w : Cond} (i : Nat) (h : r[i]? = some w) : w ∈ lw_tbl := hr w (List.mem_of_getElem? h)
theorem lw_g {w : Cond} (h : w ∈ lw_tbl) (g : goodWord w = true) : w ∈ lw_all := List.mem_filter.mpr ⟨h, g⟩
theorem lw_ms : ∀ w ∈ k2_sels lw_privs, w ∈ lw_tbl := fun w h => show w ∈ k2_sels lw_privs ++ tables_1 from List.mem_append_left _ h
theorem lw_m1 : ∀ w ∈ tables_1_1, w ∈ lw_tbl := fun w h => show w ∈ k2_sels lw_privs ++ tables_1 from List.mem_append_right (k2_sels lw_privs) (show w ∈ tables_1 from List.mem_append_left _ h)
theorem lw_m2 : ∀ w ∈ tables_1_2, w ∈ lw_tbl := fun w h => show w ∈ k2_sels lw_privs ++ tables_1 from List.mem_append_right (k2_sels lw_privs) (show w ∈ tables_1 from List.mem_append_right _ h)
theorem qs0 : (Cond.selects "RecurrenceEngine" ⟨"RecurrenceEngine", "clearPoly", "(I)V"⟩ ⟨"RecurrenceEngine", "clearPoly", "(I)V"⟩) ∈ lw_all := lw_g (lw_at lw_ms 0 rfl) rfl
theorem qs1 : (Cond.selects "RecurrenceEngine" ⟨"RecurrenceEngine", "multiply", "(III)V"⟩ ⟨"RecurrenceEngine", "multiply", "(III)V"⟩) ∈ lw_all := lw_g (lw_at lw_ms 1 rfl) rfl
theorem qs2 : (Cond.selects "RecurrenceEngine" ⟨"RecurrenceEngine", "degree", "(I)I"⟩ ⟨"RecurrenceEngine", "degree", "(I)I"⟩) ∈ lw_all := lw_g (lw_at lw_ms 2 rfl) rfl
theorem qs3 : (Cond.selects "RecurrenceEngine" ⟨"RecurrenceEngine", "addTimes", "(IIII)V"⟩ ⟨"RecurrenceEngine", "addTimes", "(IIII)V"⟩) ∈ lw_all := lw_g (lw_at lw_ms 3 rfl) rfl
theorem qs4 : (Cond.selects "RecurrenceEngine" ⟨"RecurrenceEngine", "copyPoly", "(II)V"⟩ ⟨"RecurrenceEngine", "copyPoly", "(II)V"⟩) ∈ lw_all := lw_g (lw_at lw_ms 4 rfl) rfl
theorem qs5 : (Cond.selects "RecurrenceEngine" ⟨"RecurrenceEngine", "keep", "(I)I"⟩ ⟨"RecurrenceEngine", "keep", "(I)I"⟩) ∈ lw_all := lw_g (lw_at lw_ms 5 rfl) rfl
theorem qs6 : (Cond.selects "RecurrenceEngine" ⟨"RecurrenceEngine", "reduce", "()V"⟩ ⟨"RecurrenceEngine", "reduce", "()V"⟩) ∈ lw_all := lw_g (lw_at lw_ms 6 rfl) rfl
theorem qs7 : (Cond.selects "RecurrenceEngine" ⟨"RecurrenceEngine", "commonFactor", "()V"⟩ ⟨"RecurrenceEngine", "commonFactor", "()V"⟩) ∈ lw_all := lw_g (lw_at lw_ms 7 rfl) rfl
theorem qs8 : (Cond.selects "RecurrenceEngine" ⟨"RecurrenceEngine", "divide", "(II)V"⟩ ⟨"RecurrenceEngine", "divide", "(II)V"⟩) ∈ lw_all := lw_g (lw_at lw_ms 8 rfl) rfl
theorem qs9 : (Cond.selects "RecurrenceEngine" ⟨"RecurrenceEngine", "scalePoly", "(II)V"⟩ ⟨"RecurrenceEngine", "scalePoly", "(II)V"⟩) ∈ lw_all := lw_g (lw_at lw_ms 9 rfl) rfl
theorem qs10 : (Cond.selects "RecurrenceEngine" ⟨"RecurrenceEngine", "orderOf", "(II)I"⟩ ⟨"RecurrenceEngine", "orderOf", "(II)I"⟩) ∈ lw_all := lw_g (lw_at lw_ms 10 rfl) rfl
theorem qs11 : (Cond.selects "RecurrenceEngine" ⟨"RecurrenceEngine", "load", "(I)V"⟩ ⟨"RecurrenceEngine", "load", "(I)V"⟩) ∈ lw_all := lw_g (lw_at lw_ms 11 rfl) rfl
theorem qs12 : (Cond.selects "RecurrenceEngine" ⟨"RecurrenceEngine", "loadStep", "()V"⟩ ⟨"RecurrenceEngine", "loadStep", "()V"⟩) ∈ lw_all := lw_g (lw_at lw_ms 12 rfl) rfl
theorem qs13 : (Cond.selects "RecurrenceEngine" ⟨"RecurrenceEngine", "farTerm", "(I)I"⟩ ⟨"RecurrenceEngine", "farTerm", "(I)I"⟩) ∈ lw_all := lw_g (lw_at lw_ms 13 rfl) rfl
theorem qs14 : (Cond.selects "RecurrenceEngine" ⟨"RecurrenceEngine", "loadMirror", "()V"⟩ ⟨"RecurrenceEngine", "loadMirror", "()V"⟩) ∈ lw_all := lw_g (lw_at lw_ms 14 rfl) rfl
theorem qs15 : (Cond.selects "RecurrenceEngine" ⟨"RecurrenceEngine", "keepHalf", "(II)V"⟩ ⟨"RecurrenceEngine", "keepHalf", "(II)V"⟩) ∈ lw_all := lw_g (lw_at lw_ms 15 rfl) rfl
theorem qs16 : (Cond.selects "RecurrenceEngine" ⟨"RecurrenceEngine", "sumTo", "(II)I"⟩ ⟨"RecurrenceEngine", "sumTo", "(II)I"⟩) ∈ lw_all := lw_g (lw_at lw_ms 16 rfl) rfl
theorem qs17 : (Cond.selects "RecurrenceEngine" ⟨"RecurrenceEngine", "nextTerm", "(II)I"⟩ ⟨"RecurrenceEngine", "nextTerm", "(II)I"⟩) ∈ lw_all := lw_g (lw_at lw_ms 17 rfl) rfl
theorem qs18 : (Cond.selects "RecurrenceEngineModel" ⟨"RecurrenceEngineModel", "bad", "(I)Z"⟩ ⟨"RecurrenceEngineModel", "bad", "(I)Z"⟩) ∈ lw_all := lw_g (lw_at lw_ms 18 rfl) rfl
theorem qs19 : (Cond.selects "RecurrenceEngineModel" ⟨"RecurrenceEngineModel", "digit", "(II)I"⟩ ⟨"RecurrenceEngineModel", "digit", "(II)I"⟩) ∈ lw_all := lw_g (lw_at lw_ms 19 rfl) rfl
theorem qs20 : (Cond.selects "RecurrenceEngineModel" ⟨"RecurrenceEngineModel", "store", "(I)V"⟩ ⟨"RecurrenceEngineModel", "store", "(I)V"⟩) ∈ lw_all := lw_g (lw_at lw_ms 20 rfl) rfl
theorem qs21 : (Cond.selects "RecurrenceEngineModel" ⟨"RecurrenceEngineModel", "settle", "(I)I"⟩ ⟨"RecurrenceEngineModel", "settle", "(I)I"⟩) ∈ lw_all := lw_g (lw_at lw_ms 21 rfl) rfl
theorem qs22 : (Cond.selects "RecurrenceEngineModel" ⟨"RecurrenceEngineModel", "rank", "()I"⟩ ⟨"RecurrenceEngineModel", "rank", "()I"⟩) ∈ lw_all := lw_g (lw_at lw_ms 22 rfl) rfl
theorem qs23 : (Cond.selects "RecurrenceEngineModel" ⟨"RecurrenceEngineModel", "eliminate", "(I)I"⟩ ⟨"RecurrenceEngineModel", "eliminate", "(I)I"⟩) ∈ lw_all := lw_g (lw_at lw_ms 23 rfl) rfl
theorem qs24 : (Cond.selects "RecurrenceEngineModel" ⟨"RecurrenceEngineModel", "pivot", "(III)I"⟩ ⟨"RecurrenceEngineModel", "pivot", "(III)I"⟩) ∈ lw_all := lw_g (lw_at lw_ms 24 rfl) rfl
theorem qs25 : (Cond.selects "RecurrenceEngineModel" ⟨"RecurrenceEngineModel", "exchange", "(II)V"⟩ ⟨"RecurrenceEngineModel", "exchange", "(II)V"⟩) ∈ lw_all := lw_g (lw_at lw_ms 25 rfl) rfl
theorem qs26 : (Cond.selects "RecurrenceEngineModel" ⟨"RecurrenceEngineModel", "clearColumn", "(III)V"⟩ ⟨"RecurrenceEngineModel", "clearColumn", "(III)V"⟩) ∈ lw_all := lw_g (lw_at lw_ms 26 rfl) rfl
theorem qs27 : (Cond.selects "RecurrenceEngineModel" ⟨"RecurrenceEngineModel", "inverse", "(I)I"⟩ ⟨"RecurrenceEngineModel", "inverse", "(I)I"⟩) ∈ lw_all := lw_g (lw_at lw_ms 27 rfl) rfl
theorem qs28 : (Cond.selects "RecurrenceEngineModel" ⟨"RecurrenceEngineModel", "mod", "(I)I"⟩ ⟨"RecurrenceEngineModel", "mod", "(I)I"⟩) ∈ lw_all := lw_g (lw_at lw_ms 28 rfl) rfl
theorem qs29 : (Cond.selects "RecurrenceEngineModel" ⟨"RecurrenceEngineModel", "load", "(I)V"⟩ ⟨"RecurrenceEngineModel", "load", "(I)V"⟩) ∈ lw_all := lw_g (lw_at lw_ms 29 rfl) rfl
theorem qs30 : (Cond.selects "RecurrenceEngineModel" ⟨"RecurrenceEngineModel", "extend", "(I)V"⟩ ⟨"RecurrenceEngineModel", "extend", "(I)V"⟩) ∈ lw_all := lw_g (lw_at lw_ms 30 rfl) rfl
theorem qs31 : (Cond.selects "RecurrenceEngineModel" ⟨"RecurrenceEngineModel", "badIndex", "(I)Z"⟩ ⟨"RecurrenceEngineModel", "badIndex", "(I)Z"⟩) ∈ lw_all := lw_g (lw_at lw_ms 31 rfl) rfl
end
section
/-! numbers: the field of 101, ints, power series -/
abbrev Fp : Type := Fin 101
abbrev Sr : Type := Nat → Fp
def iI (z : Int) : Int32 := Int32.ofInt z
def toF (z : Int) : Fp := ⟨(z % 101).toNat, by omega⟩
theorem iI_add (a b : Int) : iI a + iI b = iI (a + b) := (Int32.ofInt_add a b).symm
theorem iI_sub (a b : Int) : iI a - iI b = iI (a - b) := (Int32.ofInt_sub a b).symm
theorem iI_mul (a b : Int) : iI a * iI b = iI (a * b) := (Int32.ofInt_mul a b).symm
theorem iI_neg (a : Int) : -iI a = iI (-a) := (Int32.ofInt_neg a).symm
theorem iI_toInt {a : Int} (h1 : -2147483648 ≤ a) (h2 : a < 2147483648) : (iI a).toInt = a := Int32.toInt_ofInt_of_le (by omega) (by omega)
theorem iI_of (x : Int32) : iI x.toInt = x := Int32.ofInt_toInt x
theorem iI_bd (x : Int32) : -2147483648 ≤ x.toInt ∧ x.toInt < 2147483648 := ⟨by have := x.le_toInt; omega, by have := x.toInt_lt; omega⟩
theorem iI_nI (n : Nat) : iI (n : Int) = nI n := Int32.ofInt_eq_ofNat
theorem iI_clamp {n : Nat} (h : n < 2147483648) : (iI (n : Int)).toNatClampNeg = n := by rw [iI_nI]; exact nI_clamp (by omega)
theorem iI_in {n N : Nat} (h : n < N) (hN : N < 2147483648) : vp_in (iI (n : Int)) N := by rw [iI_nI]; exact vp_in_nI h (by omega)
theorem iI_le {a b : Int} (h : -2147483648 ≤ a ∧ a < 2147483648 ∧ -2147483648 ≤ b ∧ b < 2147483648) : iI a ≤ iI b ↔ a ≤ b := by
  rw [Int32.le_iff_toInt_le, iI_toInt h.1 h.2.1, iI_toInt h.2.2.1 h.2.2.2]
theorem iI_lt {a b : Int} (h : -2147483648 ≤ a ∧ a < 2147483648 ∧ -2147483648 ≤ b ∧ b < 2147483648) : iI a < iI b ↔ a < b := by
  rw [Int32.lt_iff_toInt_lt, iI_toInt h.1 h.2.1, iI_toInt h.2.2.1 h.2.2.2]
theorem iI_eq {a b : Int} (h : -2147483648 ≤ a ∧ a < 2147483648 ∧ -2147483648 ≤ b ∧ b < 2147483648) : iI a = iI b ↔ a = b := by
  rw [← Int32.toInt_inj, iI_toInt h.1 h.2.1, iI_toInt h.2.2.1 h.2.2.2]
theorem iI_0 : (0 : Int32) = iI 0 := by decide
/-- Java's division and remainder by a positive number -/
theorem iI_div {a b : Int} (h : -2147483648 ≤ a ∧ a < 2147483648) (hb : 0 < b ∧ b < 2147483648) : iI a / iI b = iI (a.tdiv b) := by
  rw [← Int32.toInt_inj, Int32.toInt_div_of_ne_right _ _ (fun e => ?_), iI_toInt h.1 h.2, iI_toInt (by omega) hb.2]
  · have h0 : (a.tdiv b).natAbs ≤ a.natAbs := by rw [Int.natAbs_tdiv]; exact Nat.div_le_self _ _
    by_cases h1 : a < 0
    · have h2 : a.tdiv b ≤ 0 := by
        have : 0 ≤ (-a).tdiv b := Int.tdiv_nonneg (by omega) (by omega)
        rw [Int.neg_tdiv] at this
        omega
      exact (iI_toInt (by omega) (by omega)).symm
    · have h2 : 0 ≤ a.tdiv b := Int.tdiv_nonneg (by omega) (by omega)
      exact (iI_toInt (by omega) (by omega)).symm
  · have e2 : (iI b).toInt = (-1 : Int32).toInt := by rw [e]
    rw [iI_toInt (by omega) hb.2, show (-1 : Int32).toInt = -1 from by decide] at e2
    omega
theorem iI_rem {a b : Int} (h : -2147483648 ≤ a ∧ a < 2147483648) (hb : 0 < b ∧ b < 2147483648) : iI a - iI a / iI b * iI b = iI (a.tmod b) := by
  rw [iI_div h hb, iI_mul, iI_sub]
  congr 1
  rw [Int.tmod_def, Int.mul_comm]
theorem tmod_pos {a : Int} (h : 0 ≤ a) : a.tmod 101 = a % 101 := Int.tmod_eq_emod_of_nonneg h
theorem tmod_101 (a : Int) : (if a.tmod 101 < 0 then a.tmod 101 + 101 else a.tmod 101) = a % 101 := by
  by_cases h : 0 ≤ a
  · rw [tmod_pos h, if_neg (by omega)]
  · have e : a.tmod 101 = -((-a) % 101) := by
      rw [← Int.tmod_eq_emod_of_nonneg (by omega : 0 ≤ -a), Int.neg_tmod, Int.neg_neg]
    rw [e]
    split <;> omega
/-! the field -/
theorem toF_val (z : Int) : ((toF z).val : Int) = z % 101 := by
  show (((z % 101).toNat : Nat) : Int) = z % 101
  omega
theorem toF_of (x : Fp) : toF (x.val : Int) = x := by
  apply Fin.ext
  show ((x.val : Int) % 101).toNat = x.val
  omega
theorem fp_ext {x y : Fp} (h : (x.val : Int) = (y.val : Int)) : x = y := Fin.ext (by omega)
theorem toF_eq {a b : Int} (h : a % 101 = b % 101) : toF a = toF b := by
  apply fp_ext
  rw [toF_val, toF_val, h]
theorem toF_add (a b : Int) : toF (a + b) = toF a + toF b := by
  apply fp_ext
  rw [Fin.val_add, toF_val]
  have h1 := toF_val a
  have h2 := toF_val b
  omega
theorem toF_mul (a b : Int) : toF (a * b) = toF a * toF b := by
  apply fp_ext
  rw [Fin.val_mul, toF_val, Int.natCast_emod, Int.natCast_mul, toF_val, toF_val]
  exact Int.mul_emod a b 101
theorem toF_neg (a : Int) : toF (-a) = -toF a := by
  have h : toF (-a) + toF a = 0 := by
    rw [← toF_add]
    apply fp_ext
    rw [toF_val]
    show (-a + a) % 101 = 0
    omega
  grind
theorem toF_sub (a b : Int) : toF (a - b) = toF a - toF b := by
  rw [Int.sub_eq_add_neg, toF_add, toF_neg]
  grind
theorem toF_101 : toF 101 = 0 := by decide
theorem toF_mulV (x y : Fp) : toF ((x.val : Int) * (y.val : Int)) = x * y := by rw [toF_mul, toF_of, toF_of]
theorem fp_lt (x : Fp) : (x.val : Int) < 101 ∧ 0 ≤ (x.val : Int) := by omega
theorem fp_mul_lt (x y : Fp) : (x.val : Int) * (y.val : Int) ≤ 10000 ∧ 0 ≤ (x.val : Int) * (y.val : Int) := by
  have h1 : x.val ≤ 100 := by omega
  have h2 : y.val ≤ 100 := by omega
  have h3 : x.val * y.val ≤ 100 * 100 := Nat.mul_le_mul h1 h2
  constructor
  · have : ((x.val * y.val : Nat) : Int) ≤ 10000 := by omega
    rwa [Int.natCast_mul] at this
  · have : 0 ≤ ((x.val * y.val : Nat) : Int) := by omega
    rwa [Int.natCast_mul] at this
theorem fp_0 {x : Fp} : (x.val : Int) = 0 ↔ x = 0 := by
  constructor
  · intro h
    apply fp_ext
    simpa using h
  · intro h
    rw [h]
    rfl
/-- powers by repeated product -/
def fpw (x : Fp) : Nat → Fp
  | 0 => 1
  | n + 1 => fpw x n * x
theorem fpw_inv : ∀ x : Fp, x ≠ 0 → x * fpw x 99 = 1 := by decide +kernel
theorem fp_inv (x : Fp) (h : x ≠ 0) : ∃ y : Fp, x * y = 1 := ⟨_, fpw_inv x h⟩
theorem fp_nz {x y : Fp} (h : x * y = 0) : x = 0 ∨ y = 0 := by
  by_cases hx : x = 0
  · exact Or.inl hx
  · obtain ⟨z, hz⟩ := fp_inv x hx
    right
    have : z * (x * y) = 0 := by rw [h]; grind
    grind
theorem fp_half : ∀ x : Fp, x = -x → x = 0 := by decide +kernel
end
section
/-! power series over the field: products, degrees -/
def tl (f : Sr) : Sr := fun n => f (n + 1)
def ad (f g : Sr) : Sr := fun n => f n + g n
def sb (f g : Sr) : Sr := fun n => f n - g n
def sc (c : Fp) (f : Sr) : Sr := fun n => c * f n
def z0 : Sr := fun _ => 0
def e1 : Sr := fun n => if n = 0 then 1 else 0
def cv : Sr → Sr → Nat → Fp
  | f, g, 0 => f 0 * g 0
  | f, g, n + 1 => f 0 * g (n + 1) + cv (tl f) g n
theorem cv_0 (f g : Sr) : cv f g 0 = f 0 * g 0 := by rw [cv]
theorem cv_s (f g : Sr) (n : Nat) : cv f g (n + 1) = f 0 * g (n + 1) + cv (tl f) g n := by rw [cv]
theorem cv_addl (f f' g : Sr) (n : Nat) : cv (ad f f') g n = cv f g n + cv f' g n := by
  induction n generalizing f f' with
  | zero => simp only [cv_0, ad]; grind
  | succ n ih =>
    have e : tl (ad f f') = ad (tl f) (tl f') := rfl
    rw [cv_s, cv_s, cv_s, e, ih]
    simp only [ad]
    grind
theorem cv_scl (c : Fp) (f g : Sr) (n : Nat) : cv (sc c f) g n = c * cv f g n := by
  induction n generalizing f with
  | zero => simp only [cv_0, sc]; grind
  | succ n ih =>
    have e : tl (sc c f) = sc c (tl f) := rfl
    rw [cv_s, cv_s, e, ih]
    simp only [sc]
    grind
theorem cv_z0 (g : Sr) (n : Nat) : cv z0 g n = 0 := by
  induction n with
  | zero => simp only [cv_0, z0]; grind
  | succ n ih =>
    have e : tl z0 = z0 := rfl
    rw [cv_s, e, ih]
    simp only [z0]
    grind
theorem cv_e1 (g : Sr) (n : Nat) : cv e1 g n = g n := by
  cases n with
  | zero => simp only [cv_0, e1]; grind
  | succ n =>
    have e : tl e1 = z0 := by funext k; simp [tl, e1, z0]
    rw [cv_s, e, cv_z0]
    simp only [e1]
    grind
/-- the other way to unfold -/
theorem cv_s' (f g : Sr) (n : Nat) : cv f g (n + 1) = f (n + 1) * g 0 + cv f (tl g) n := by
  induction n generalizing f with
  | zero =>
    rw [cv_s, cv_0, cv_0]
    simp only [tl]
    grind
  | succ n ih =>
    rw [cv_s, ih, cv_s f (tl g)]
    simp only [tl]
    grind
theorem cv_comm (f g : Sr) (n : Nat) : cv f g n = cv g f n := by
  induction n generalizing f g with
  | zero => rw [cv_0, cv_0]; grind
  | succ n ih =>
    rw [cv_s, cv_s', ih (tl f) g]
    grind
theorem cv_addr (f g g' : Sr) (n : Nat) : cv f (ad g g') n = cv f g n + cv f g' n := by
  rw [cv_comm, cv_addl, cv_comm g, cv_comm g']
theorem cv_scr (c : Fp) (f g : Sr) (n : Nat) : cv f (sc c g) n = c * cv f g n := by
  rw [cv_comm, cv_scl, cv_comm g]
theorem cv_assoc (f g h : Sr) (n : Nat) : cv (cv f g) h n = cv f (cv g h) n := by
  induction n generalizing f with
  | zero => simp only [cv_0]; grind
  | succ n ih =>
    have e : tl (cv f g) = ad (sc (f 0) (tl g)) (cv (tl f) g) := by
      funext k
      simp only [tl, ad, sc]
      rw [cv_s]
    rw [cv_s, cv_s f, e, cv_addl, cv_scl, ih, cv_s g h, cv_0]
    grind
theorem ad_comm (f g : Sr) : ad f g = ad g f := by funext n; simp only [ad]; grind
theorem cvf_comm (f g : Sr) : cv f g = cv g f := funext (cv_comm f g)
theorem cvf_assoc (f g h : Sr) : cv (cv f g) h = cv f (cv g h) := funext (cv_assoc f g h)
theorem cvf_addl (f f' g : Sr) : cv (ad f f') g = ad (cv f g) (cv f' g) := funext (cv_addl f f' g)
theorem cvf_addr (f g g' : Sr) : cv f (ad g g') = ad (cv f g) (cv f g') := funext (cv_addr f g g')
theorem cvf_scl (c : Fp) (f g : Sr) : cv (sc c f) g = sc c (cv f g) := funext (cv_scl c f g)
theorem cvf_scr (c : Fp) (f g : Sr) : cv f (sc c g) = sc c (cv f g) := funext (cv_scr c f g)
theorem cvf_e1 (g : Sr) : cv e1 g = g := funext (cv_e1 g)
theorem cvf_e1r (g : Sr) : cv g e1 = g := by rw [cvf_comm, cvf_e1]
theorem cvf_z0 (g : Sr) : cv z0 g = z0 := funext (cv_z0 g)
theorem cvf_z0r (g : Sr) : cv g z0 = z0 := by rw [cvf_comm, cvf_z0]
theorem cvf_lc (f g h : Sr) : cv f (cv g h) = cv g (cv f h) := by rw [← cvf_assoc, cvf_comm f g, cvf_assoc]
theorem sc_m1 (f g : Sr) : sb f g = ad f (sc (-1) g) := by funext n; simp only [sb, ad, sc]; grind
theorem cvf_sbl (f f' g : Sr) : cv (sb f f') g = sb (cv f g) (cv f' g) := by rw [sc_m1, sc_m1, cvf_addl, cvf_scl]
theorem cvf_sbr (f g g' : Sr) : cv f (sb g g') = sb (cv f g) (cv f g') := by rw [cvf_comm, cvf_sbl, cvf_comm g, cvf_comm g']
/-- only the first terms count -/
theorem cv_congr {f f' g g' : Sr} {n : Nat} (hf : ∀ k, k ≤ n → f k = f' k) (hg : ∀ k, k ≤ n → g k = g' k) : cv f g n = cv f' g' n := by
  induction n generalizing f f' with
  | zero => rw [cv_0, cv_0, hf 0 (Nat.le_refl _), hg 0 (Nat.le_refl _)]
  | succ n ih =>
    rw [cv_s, cv_s, hf 0 (Nat.zero_le _), hg (n + 1) (Nat.le_refl _), ih (f := tl f) (f' := tl f') (fun k hk => hf (k + 1) (by omega)) (fun k hk => hg k (by omega))]
/-- degrees: f vanishes from N on -/
def van (N : Nat) (f : Sr) : Prop := ∀ n, N ≤ n → f n = 0
def fin (f : Sr) : Prop := ∃ N, van N f
theorem van_mono {N M : Nat} {f : Sr} (h : van N f) (hm : N ≤ M) : van M f := fun n hn => h n (by omega)
theorem van_z0 {f : Sr} (h : van 0 f) : f = z0 := funext fun n => h n (Nat.zero_le _)
theorem z0_van (N : Nat) : van N z0 := fun _ _ => rfl
theorem e1_van {N : Nat} (h : 1 ≤ N) : van N e1 := fun n hn => by simp only [e1]; rw [if_neg (by omega)]
theorem van_ad {N : Nat} {f g : Sr} (hf : van N f) (hg : van N g) : van N (ad f g) := fun n hn => by simp only [ad]; rw [hf n hn, hg n hn]; rfl
theorem van_sc {N : Nat} {f : Sr} (c : Fp) (hf : van N f) : van N (sc c f) := fun n hn => by simp only [sc]; rw [hf n hn]; grind
theorem van_sb {N : Nat} {f g : Sr} (hf : van N f) (hg : van N g) : van N (sb f g) := fun n hn => by simp only [sb]; rw [hf n hn, hg n hn]; rfl
theorem van_cv {N M K : Nat} {f g : Sr} (hf : van N f) (hg : van M g) (hK : N + M ≤ K + 1) : van K (cv f g) := by
  intro n hn
  have hn : N + M ≤ n + 1 := by omega
  clear hK
  induction n generalizing f N K with
  | zero =>
    rw [cv_0]
    by_cases h : N = 0
    · rw [hf 0 (by omega)]; grind
    · rw [hg 0 (by omega)]; grind
  | succ n ih =>
    by_cases h : N = 0
    · subst h
      rw [van_z0 hf, cv_z0]
    · rw [cv_s, hg (n + 1) (by omega), ih (K := n) (f := tl f) (N := N - 1) (fun k hk => hf (k + 1) (by omega)) (by omega) (by omega)]
      grind
/-- the coefficient on top of a product -/
theorem cv_lead {N M : Nat} {f g : Sr} (hf : van (N + 1) f) (hg : van (M + 1) g) : cv f g (N + M) = f N * g M := by
  induction N generalizing f with
  | zero =>
    have e : tl f = z0 := funext fun n => hf (n + 1) (by omega)
    cases M with
    | zero => exact cv_0 f g
    | succ M =>
      rw [Nat.zero_add, cv_s, e, cv_z0]
      grind
  | succ N ih =>
    rw [show N + 1 + M = (N + M) + 1 from by omega, cv_s, hg (N + M + 1) (by omega), ih (f := tl f) (fun k hk => hf (k + 1) (by omega))]
    simp only [tl]
    grind
theorem fin_cv {f g : Sr} (hf : fin f) (hg : fin g) : fin (cv f g) := by
  obtain ⟨N, hN⟩ := hf
  obtain ⟨M, hM⟩ := hg
  exact ⟨N + M, van_cv hN hM (by omega)⟩
theorem fin_ad {f g : Sr} (hf : fin f) (hg : fin g) : fin (ad f g) := by
  obtain ⟨N, hN⟩ := hf
  obtain ⟨M, hM⟩ := hg
  exact ⟨N + M, van_ad (van_mono hN (by omega)) (van_mono hM (by omega))⟩
theorem fin_sc {f : Sr} (c : Fp) (hf : fin f) : fin (sc c f) := by
  obtain ⟨N, hN⟩ := hf
  exact ⟨N, van_sc c hN⟩
theorem fin_z0 : fin z0 := ⟨0, z0_van 0⟩
theorem fin_e1 : fin e1 := ⟨1, e1_van (Nat.le_refl _)⟩
/-- a series that ends and isn't nought has a top -/
theorem fin_top {f : Sr} (hf : fin f) : f = z0 ∨ ∃ e, f e ≠ 0 ∧ van (e + 1) f := by
  obtain ⟨N, hN⟩ := hf
  induction N with
  | zero => exact Or.inl (van_z0 hN)
  | succ N ih =>
    by_cases h : f N = 0
    · refine ih (fun n hn => ?_)
      by_cases h2 : n = N
      · rw [h2]; exact h
      · exact hN n (by omega)
    · exact Or.inr ⟨N, h, hN⟩
/-- a factor with a first term can be taken away -/
theorem cv_can0 {f u : Sr} (hu : u 0 ≠ 0) (h : cv f u = z0) : f = z0 := by
  have key : ∀ N n, n < N → f n = 0 := by
    intro N
    induction N with
    | zero => intro n hn; exact absurd hn (by omega)
    | succ N ih =>
      intro n hn
      by_cases h2 : n < N
      · exact ih n h2
      · have e : n = N := by omega
        subst e
        have h3 : cv f u n = 0 := by rw [h]; rfl
        rw [cv_comm] at h3
        cases n with
        | zero =>
          rw [cv_0] at h3
          rcases fp_nz h3 with h4 | h4
          · exact absurd h4 hu
          · exact h4
        | succ n =>
          rw [cv_s, cv_congr (f := tl u) (f' := tl u) (g := f) (g' := z0) (fun _ _ => rfl) (fun k hk => ih k (by omega)), cv_comm, cv_z0] at h3
          rcases fp_nz (show u 0 * f (n + 1) = 0 by grind) with h4 | h4
          · exact absurd h4 hu
          · exact h4
  exact funext fun n => key (n + 1) n (by omega)
theorem cv_can {f g u : Sr} (hu : u 0 ≠ 0) (h : cv f u = cv g u) : f = g := by
  have h1 : sb f g = z0 := cv_can0 hu (by rw [cvf_sbl, h]; funext n; simp only [sb, z0]; grind)
  funext n
  have h2 : f n - g n = 0 := congrFun h1 n
  grind
/-! sums -/
def su (f : Sr) : Nat → Fp
  | 0 => 0
  | n + 1 => su f n + f n
theorem su_0 (f : Sr) : su f 0 = 0 := rfl
theorem su_s (f : Sr) (n : Nat) : su f (n + 1) = su f n + f n := rfl
theorem su_front (f : Sr) (n : Nat) : su f (n + 1) = f 0 + su (tl f) n := by
  induction n with
  | zero => simp only [su_s, su_0]; grind
  | succ n ih =>
    rw [su_s, ih, su_s]
    simp only [tl]
    grind
theorem su_congr {f g : Sr} {n : Nat} (h : ∀ k, k < n → f k = g k) : su f n = su g n := by
  induction n with
  | zero => rfl
  | succ n ih => rw [su_s, su_s, ih (fun k hk => h k (by omega)), h n (by omega)]
theorem su_nul {f : Sr} {n : Nat} (h : ∀ k, k < n → f k = 0) : su f n = 0 := by
  induction n with
  | zero => rfl
  | succ n ih => rw [su_s, ih (fun k hk => h k (by omega)), h n (by omega)]; rfl
theorem su_split (f : Sr) (m k : Nat) : su f (m + k) = su f m + su (fun j => f (m + j)) k := by
  induction k with
  | zero => rw [Nat.add_zero, su_0]; grind
  | succ k ih => rw [Nat.add_succ, su_s, ih, su_s]; grind
theorem su_ad (f g : Sr) (n : Nat) : su (fun k => f k + g k) n = su f n + su g n := by
  induction n with
  | zero => simp only [su_0]; rfl
  | succ n ih => rw [su_s, ih, su_s, su_s]; grind
theorem su_mul (c : Fp) (f : Sr) (n : Nat) : su (fun k => c * f k) n = c * su f n := by
  induction n with
  | zero => simp only [su_0]; grind
  | succ n ih => rw [su_s, ih, su_s]; grind
theorem su_swap (f : Nat → Nat → Fp) (n m : Nat) : su (fun i => su (f i) m) n = su (fun j => su (fun i => f i j) n) m := by
  induction n with
  | zero => rw [su_0]; symm; exact su_nul (fun _ _ => rfl)
  | succ n ih =>
    rw [su_s, ih, ← su_ad]
    exact su_congr (fun k _ => rfl)
theorem cv_su (f g : Sr) (n : Nat) : cv f g n = su (fun i => f i * g (n - i)) (n + 1) := by
  induction n generalizing f with
  | zero => rw [cv_0, su_s, su_0]; grind
  | succ n ih =>
    rw [cv_s, ih, su_front (fun i => f i * g (n + 1 - i))]
    congr 1
    refine su_congr (fun k hk => ?_)
    simp only [tl]
    rw [show n + 1 - (k + 1) = n - k from by omega]
/-- one term moved up -/
def mo (i : Nat) (x : Fp) : Sr := fun n => if n = i then x else 0
theorem cv_mo (i : Nat) (x : Fp) (g : Sr) (n : Nat) : cv (mo i x) g n = if i ≤ n then x * g (n - i) else 0 := by
  induction n generalizing i with
  | zero =>
    rw [cv_0]
    simp only [mo]
    by_cases h : i = 0
    · subst h; simp
    · rw [if_neg (by omega), if_neg (by omega)]; grind
  | succ n ih =>
    rw [cv_s]
    cases i with
    | zero =>
      have e : tl (mo 0 x) = z0 := by funext k; simp [tl, mo, z0]
      rw [e, cv_z0]
      simp [mo]
    | succ i =>
      have e : tl (mo (i + 1) x) = mo i x := by funext k; simp [tl, mo]
      rw [e, ih]
      simp only [mo]
      rw [if_neg (by omega), show n + 1 - (i + 1) = n - i from by omega]
      by_cases h : i ≤ n
      · rw [if_pos h, if_pos (by omega)]; grind
      · rw [if_neg h, if_neg (by omega)]; grind
end
section
/-! the order of a sequence, and what a quotient in lowest terms says of it -/
def Ord (a : Sr) (L : Nat) : Prop :=
  (∃ f : Sr, ∀ m, a (m + L) = su (fun j => f j * a (m + j)) L) ∧
  (∀ v : Sr, (∀ i, i < L → su (fun j => v j * a (i + j)) L = 0) → ∀ j, j < L → v j = 0)
def Bez (p q : Sr) : Prop := ∃ α β : Sr, fin α ∧ fin β ∧ ad (cv α p) (cv β q) = e1
def Seq (p q a : Sr) (L : Nat) : Prop := q 0 = 1 ∧ cv q a = p ∧ van L p ∧ van (L + 1) q ∧ Bez p q ∧ (L = 0 ∨ p (L - 1) ≠ 0 ∨ q L ≠ 0)
theorem seq_rec {p q a : Sr} {L : Nat} (h0 : q 0 = 1) (ha : cv q a = p) (hp : van L p) (hq : van (L + 1) q) (m : Nat) : a (m + L) = su (fun j => (-q (L - j)) * a (m + j)) L := by
  have h : cv a q (m + L) = 0 := by rw [cv_comm, ha]; exact hp _ (by omega)
  rw [cv_su, show m + L + 1 = m + (L + 1) from by omega, su_split, su_nul (n := m) (fun k hk => by rw [hq _ (by omega)]; grind), su_s] at h
  rw [show m + L - (m + L) = 0 from by omega, h0] at h
  have e : su (fun j => (-q (L - j)) * a (m + j)) L = (-1) * su (fun j => a (m + j) * q (m + L - (m + j))) L := by
    rw [← su_mul]
    refine su_congr (fun k hk => ?_)
    rw [show m + L - (m + k) = L - k from by omega]
    grind
  rw [e]
  grind
theorem seq_ind {p q a : Sr} {L : Nat} (H : Seq p q a L) (v : Sr) (hv : ∀ i, i < L → su (fun j => v j * a (i + j)) L = 0) : ∀ j, j < L → v j = 0 := by
  obtain ⟨h0, ha, hp, hq, ⟨α, β, hα, hβ, hb⟩, hL⟩ := H
  by_cases hL0 : L = 0
  · intro j hj; exact absurd hj (by omega)
  obtain ⟨K, rfl⟩ : ∃ K, L = K + 1 := ⟨L - 1, by omega⟩
  have hrec := seq_rec h0 ha hp hq
  have hall : ∀ N i, i < N → su (fun j => v j * a (i + j)) (K + 1) = 0 := by
    intro N
    induction N with
    | zero => intro i hi; exact absurd hi (by omega)
    | succ N ih =>
      intro i hi
      by_cases h1 : i < K + 1
      · exact hv i h1
      · obtain ⟨m, rfl⟩ : ∃ m, i = m + (K + 1) := ⟨i - (K + 1), by omega⟩
        have e : su (fun j => v j * a (m + (K + 1) + j)) (K + 1) = su (fun j => su (fun k => v j * ((-q (K + 1 - k)) * a (m + j + k))) (K + 1)) (K + 1) := by
          refine su_congr (fun j _ => ?_)
          rw [su_mul, ← hrec (m + j), show m + j + (K + 1) = m + (K + 1) + j from by omega]
        rw [e, su_swap]
        refine su_nul (fun k hk => ?_)
        have e2 : su (fun j => v j * ((-q (K + 1 - k)) * a (m + j + k))) (K + 1) = (-q (K + 1 - k)) * su (fun j => v j * a (m + k + j)) (K + 1) := by
          rw [← su_mul]
          refine su_congr (fun j _ => ?_)
          rw [show m + j + k = m + k + j from by omega]
          grind
        rw [e2, ih (m + k) (by omega)]
        grind
  let w : Sr := fun n => if n < K + 1 then v (K - n) else 0
  have hw : van (K + 1) w := fun n hn => by show (if n < K + 1 then v (K - n) else 0) = 0; rw [if_neg (by omega)]
  have hr : van K (cv w a) := by
    intro n hn
    obtain ⟨m, rfl⟩ : ∃ m, n = m + K := ⟨n - K, by omega⟩
    rw [cv_comm, cv_su, show m + K + 1 = m + (K + 1) from by omega, su_split, su_nul (n := m) (fun k hk => by rw [hw _ (by omega)]; grind)]
    have e : su (fun j => a (m + j) * w (m + K - (m + j))) (K + 1) = su (fun j => v j * a (m + j)) (K + 1) := by
      refine su_congr (fun j hj => ?_)
      have e1 : w (m + K - (m + j)) = v j := by
        show (if m + K - (m + j) < K + 1 then v (K - (m + K - (m + j))) else 0) = v j
        rw [if_pos (by omega), show K - (m + K - (m + j)) = j from by omega]
      rw [e1]
      grind
    rw [e, hall (m + 1) m (by omega)]
    rfl
  let t : Sr := ad (cv α (cv w a)) (cv β w)
  have hpq : cv w p = cv (cv w a) q := by rw [← ha, cvf_assoc, cvf_comm q a]
  have htq : cv t q = w := by
    show cv (ad (cv α (cv w a)) (cv β w)) q = w
    have e : cv w (ad (cv α p) (cv β q)) = w := by rw [hb, cvf_e1r]
    rw [cvf_addl, cvf_assoc α, ← hpq, cvf_lc α, cvf_assoc β, cvf_lc β, ← cvf_addr]
    exact e
  have htp : cv t p = cv w a := by
    show cv (ad (cv α (cv w a)) (cv β w)) p = cv w a
    have e : cv (cv w a) (ad (cv α p) (cv β q)) = cv w a := by rw [hb, cvf_e1r]
    rw [cvf_addl, cvf_assoc α, cvf_assoc β, hpq, cvf_lc α, cvf_lc β, ← cvf_addr]
    exact e
  have ht : fin t := fin_ad (fin_cv hα ⟨_, hr⟩) (fin_cv hβ ⟨_, hw⟩)
  have hw0 : w = z0 := by
    rcases fin_top ht with h | ⟨d, hd, htop⟩
    · rw [← htq, h, cvf_z0]
    · exfalso
      rcases hL with h | h | h
      · omega
      · have e := cv_lead (N := d) (M := K) htop (g := p) (by exact hp)
        rw [htp, hr _ (by omega)] at e
        rcases fp_nz e.symm with h1 | h1
        · exact hd h1
        · exact h (by rw [show K + 1 - 1 = K from by omega]; exact h1)
      · have e := cv_lead (N := d) (M := K + 1) htop (g := q) hq
        rw [htq, hw _ (by omega)] at e
        rcases fp_nz e.symm with h1 | h1
        · exact hd h1
        · exact h h1
  intro j hj
  have h1 : w (K - j) = 0 := by rw [hw0]; rfl
  have h2 : w (K - j) = v j := by
    show (if K - j < K + 1 then v (K - (K - j)) else 0) = v j
    rw [if_pos (by omega), show K - (K - j) = j from by omega]
  rw [← h2, h1]
theorem seq_ord {p q a : Sr} {L : Nat} (H : Seq p q a L) : Ord a L := ⟨⟨_, seq_rec H.1 H.2.1 H.2.2.1 H.2.2.2.1⟩, seq_ind H⟩
/-! Euclid: ideals of two polynomials -/
def Idl (A B f : Sr) : Prop := ∃ x y : Sr, fin x ∧ fin y ∧ f = ad (cv x A) (cv y B)
theorem idl_l (A B : Sr) : Idl A B A := ⟨e1, z0, fin_e1, fin_z0, by rw [cvf_e1, cvf_z0]; funext n; simp only [ad, z0]; grind⟩
theorem idl_r (A B : Sr) : Idl A B B := ⟨z0, e1, fin_z0, fin_e1, by rw [cvf_e1, cvf_z0]; funext n; simp only [ad, z0]; grind⟩
theorem idl_tr {A B U V f : Sr} (hU : Idl A B U) (hV : Idl A B V) (hf : Idl U V f) : Idl A B f := by
  obtain ⟨a, b, ha, hb, eU⟩ := hU
  obtain ⟨c, d, hc, hd, eV⟩ := hV
  obtain ⟨x, y, hx, hy, ef⟩ := hf
  refine ⟨ad (cv x a) (cv y c), ad (cv x b) (cv y d), fin_ad (fin_cv hx ha) (fin_cv hy hc), fin_ad (fin_cv hx hb) (fin_cv hy hd), ?_⟩
  rw [ef, eU, eV, cvf_addr, cvf_addr, cvf_addl, cvf_addl, cvf_assoc, cvf_assoc, cvf_assoc, cvf_assoc]
  funext n
  simp only [ad]
  grind
/-- one step of Euclid's way -/
theorem idl_step {P Q U V k R : Sr} (hk : fin k) (e : U = ad (cv k V) R) (h1 : Idl P Q U) (h2 : Idl P Q V) (h3 : Idl U V P) (h4 : Idl U V Q) : Idl P Q R ∧ Idl V R P ∧ Idl V R Q := by
  have hU : Idl V R U := ⟨k, e1, hk, fin_e1, by rw [cvf_e1]; exact e⟩
  have hR : Idl U V R := ⟨e1, sc (-1) k, fin_e1, fin_sc _ hk, by rw [cvf_e1, cvf_scl, e]; funext n; simp only [ad, sc]; grind⟩
  exact ⟨idl_tr h1 h2 hR, idl_tr hU (idl_l V R) h3, idl_tr hU (idl_l V R) h4⟩
/-- what a greatest common factor is -/
def Gcd (P Q g : Sr) : Prop := ∃ x z : Sr, fin x ∧ fin z ∧ P = cv x g ∧ Q = cv z g ∧ Bez x z
theorem idl_end {P Q U : Sr} (hq : Q 0 ≠ 0) (h1 : Idl P Q U) (h3 : Idl U z0 P) (h4 : Idl U z0 Q) : U 0 ≠ 0 ∧ Gcd P Q U := by
  obtain ⟨α, β, hα, hβ, eU⟩ := h1
  obtain ⟨x, x', hx, -, eP⟩ := h3
  obtain ⟨z, z', hz, -, eQ⟩ := h4
  have eP : P = cv x U := by rw [eP, cvf_z0r]; funext n; simp only [ad, z0]; grind
  have eQ : Q = cv z U := by rw [eQ, cvf_z0r]; funext n; simp only [ad, z0]; grind
  have hU : U 0 ≠ 0 := by
    intro h
    rw [eQ, cv_0, h] at hq
    exact hq (by grind)
  refine ⟨hU, x, z, hx, hz, eP, eQ, α, β, hα, hβ, ?_⟩
  refine cv_can hU ?_
  rw [cvf_e1, cvf_addl, cvf_assoc, cvf_assoc, ← eP, ← eQ]
  exact eU.symm
/-- a quotient that goes up without rest -/
theorem div_exact {P g x t r : Sr} {d : Nat} (hg : g d ≠ 0) (hgv : van (d + 1) g) (hx : fin x) (ht : fin t) (hP : P = cv x g) (hr : van d r) (e : P = ad (cv t g) r) : t = x ∧ r = z0 := by
  have h1 : cv (sb x t) g = r := by
    rw [cvf_sbl, ← hP, e]
    funext n
    simp only [sb, ad]
    grind
  have hf : fin (sb x t) := by rw [sc_m1]; exact fin_ad hx (fin_sc _ ht)
  rcases fin_top hf with h | ⟨k, hk, htop⟩
  · refine ⟨?_, by rw [← h1, h, cvf_z0]⟩
    funext n
    have h2 : x n - t n = 0 := congrFun h n
    grind
  · exfalso
    have h2 := cv_lead (N := k) (M := d) htop hgv
    rw [h1, hr _ (by omega)] at h2
    rcases fp_nz h2.symm with h3 | h3
    · exact hk h3
    · exact hg h3
/-- the factors of a product aren't longer than it -/
theorem van_factor {x g : Sr} {d M : Nat} (hg : g d ≠ 0) (hgv : van (d + 1) g) (hx : fin x) (h : van M (cv x g)) : van M x := by
  rcases fin_top hx with h1 | ⟨k, hk, htop⟩
  · rw [h1]; exact z0_van M
  · have h2 := cv_lead (N := k) (M := d) htop hgv
    by_cases h3 : M ≤ k + d
    · rw [h _ h3] at h2
      rcases fp_nz h2.symm with h4 | h4
      · exact absurd h4 hk
      · exact absurd h4 hg
    · exact van_mono htop (by omega)
theorem bez_sc {x z : Sr} {c c' : Fp} (hc : c' * c = 1) (h : Bez x z) : Bez (sc c x) (sc c z) := by
  obtain ⟨α, β, hα, hβ, e⟩ := h
  refine ⟨sc c' α, sc c' β, fin_sc _ hα, fin_sc _ hβ, ?_⟩
  rw [cvf_scl, cvf_scl, cvf_scr, cvf_scr, ← e]
  funext n
  simp only [ad, sc]
  grind
end
section
/-! elimination by rows; Hankel's table -/
def dot (r v : Sr) : Fp := su (fun j => r j * v j) 17
def ker (sz : Nat) (M : Nat → Sr) (v : Sr) : Prop := ∀ i, i < sz → dot (M i) v = 0
def exch (M : Nat → Sr) (a b : Nat) : Nat → Sr := fun i => if i = a then M b else if i = b then M a else M i
def clr (M : Nat → Sr) (r sz c : Nat) (y : Fp) : Nat → Sr := fun i j => if i = r then M r j * y else if i < sz then M i j - M i c * (M r j * y) else M i j
def EInv (sz : Nat) (M0 M : Nat → Sr) (c r : Nat) : Prop :=
  (∀ v, ker sz M0 v ↔ ker sz M v) ∧ (∀ i j, i < sz → j < r → M i j = if i = j then 1 else 0) ∧ (∀ i j, r ≤ i → i < sz → j < c → M i j = 0)
def IndH (sz : Nat) (M0 : Nat → Sr) (L : Nat) : Prop := ∀ v, van L v → ker sz M0 v → ∀ j, v j = 0
def DepH (sz : Nat) (M0 : Nat → Sr) (L : Nat) : Prop := ∀ j, L ≤ j → j < sz → ∃ v, ker sz M0 v ∧ v j = 1 ∧ van (j + 1) v
theorem dot_mul (r v : Sr) (y : Fp) : dot (fun j => r j * y) v = y * dot r v := by
  unfold dot
  rw [← su_mul]
  exact su_congr (fun k _ => by grind)
theorem dot_sub (r r' v : Sr) (x : Fp) : dot (fun j => r j - x * r' j) v = dot r v - x * dot r' v := by
  have h : dot (fun j => r j - x * r' j) v = dot r v + (-x) * dot r' v := by
    unfold dot
    rw [← su_mul, ← su_ad]
    exact su_congr (fun k _ => by grind)
  rw [h]
  grind
theorem exch_1 (M : Nat → Sr) (a b : Nat) : exch M a b a = M b := by simp [exch]
theorem exch_2 (M : Nat → Sr) (a b : Nat) : exch M a b b = M a := by
  by_cases h : b = a
  · subst h; simp [exch]
  · simp [exch, h]
theorem exch_3 (M : Nat → Sr) {a b i : Nat} (h1 : i ≠ a) (h2 : i ≠ b) : exch M a b i = M i := by simp [exch, h1, h2]
theorem ker_exch {sz : Nat} {M : Nat → Sr} {a b : Nat} (ha : a < sz) (hb : b < sz) (v : Sr) : ker sz M v ↔ ker sz (exch M a b) v := by
  constructor
  · intro h i hi
    by_cases h1 : i = a
    · rw [h1, exch_1]; exact h b hb
    · by_cases h2 : i = b
      · rw [h2, exch_2]; exact h a ha
      · rw [exch_3 M h1 h2]; exact h i hi
  · intro h i hi
    by_cases h1 : i = a
    · have := h b hb; rw [exch_2] at this; rw [h1]; exact this
    · by_cases h2 : i = b
      · have := h a ha; rw [exch_1] at this; rw [h2]; exact this
      · have := h i hi; rw [exch_3 M h1 h2] at this; exact this
theorem clr_r (M : Nat → Sr) (r sz c : Nat) (y : Fp) : clr M r sz c y r = fun j => M r j * y := by funext j; simp [clr]
theorem clr_o (M : Nat → Sr) {r sz c i : Nat} (y : Fp) (h : i ≠ r) (hi : i < sz) : clr M r sz c y i = fun j => M i j - M i c * (M r j * y) := by funext j; simp [clr, h, hi]
theorem ker_clr {sz : Nat} {M : Nat → Sr} {r c : Nat} {y : Fp} (hr : r < sz) (hy : M r c * y = 1) (v : Sr) : ker sz M v ↔ ker sz (clr M r sz c y) v := by
  constructor
  · intro h i hi
    by_cases h1 : i = r
    · rw [h1, clr_r, dot_mul, h r hr]; grind
    · rw [clr_o M y h1 hi, dot_sub, dot_mul, h r hr, h i hi]; grind
  · intro h i hi
    have e : dot (M r) v = 0 := by
      have h2 := h r hr
      rw [clr_r, dot_mul] at h2
      have h3 : M r c * (y * dot (M r) v) = 0 := by rw [h2]; grind
      grind
    by_cases h1 : i = r
    · rw [h1]; exact e
    · have h2 := h i hi
      rw [clr_o M y h1 hi, dot_sub, dot_mul, e] at h2
      grind
theorem su_delta (f : Sr) (i n : Nat) : su (fun j => (if i = j then 1 else 0) * f j) n = if i < n then f i else 0 := by
  induction n with
  | zero => rw [su_0, if_neg (by omega)]
  | succ n ih =>
    rw [su_s, ih]
    by_cases h : i = n
    · subst h
      rw [if_neg (by omega), if_pos rfl, if_pos (by omega)]
      grind
    · rw [if_neg h]
      by_cases h2 : i < n
      · rw [if_pos h2, if_pos (by omega)]; grind
      · rw [if_neg h2, if_neg (by omega)]; grind
/-- a pivot is there while the columns are free -/
theorem e_piv {sz c L : Nat} {M0 M : Nat → Sr} (h : EInv sz M0 M c c) (hc : c < L) (hL : L ≤ sz) (hs : sz ≤ 16) (hI : IndH sz M0 L) : ¬ ∀ i, c ≤ i → i < sz → M i c = 0 := by
  intro hz
  let v : Sr := fun j => if j < c then -(M j c) else if j = c then 1 else 0
  have hv : van L v := fun n hn => by show (if n < c then -(M n c) else if n = c then 1 else 0) = 0; rw [if_neg (by omega), if_neg (by omega)]
  have hk : ker sz M v := by
    intro i hi
    show su (fun j => M i j * v j) 17 = 0
    rw [show 17 = c + (1 + (16 - c)) from by omega, su_split, su_split, su_nul (n := 16 - c) (fun k _ => by
      show M i (c + (1 + k)) * (if c + (1 + k) < c then _ else if c + (1 + k) = c then 1 else 0) = 0
      rw [if_neg (by omega), if_neg (by omega)]; grind), su_s, su_0]
    have e1 : v (c + 0) = 1 := by show (if c + 0 < c then _ else if c + 0 = c then 1 else 0) = 1; rw [if_neg (by omega), if_pos (by omega)]
    rw [e1, Nat.add_zero]
    by_cases h1 : i < c
    · have e2 : su (fun j => M i j * v j) c = -(M i c) := by
        have e3 : su (fun j => M i j * v j) c = su (fun j => (if i = j then 1 else 0) * (-(M j c))) c := by
          refine su_congr (fun k hk => ?_)
          show M i k * (if k < c then -(M k c) else _) = _
          rw [if_pos hk, h.2.1 i k hi hk]
        rw [e3, su_delta, if_pos h1]
      rw [e2]
      grind
    · rw [su_nul (n := c) (fun k hk => by rw [h.2.2 i k (by omega) hi hk]; grind), hz i (by omega) hi]
      grind
  have h1 := hI v hv ((h.1 v).mpr hk) c
  have h2 : v c = 1 := by show (if c < c then _ else if c = c then 1 else 0) = 1; rw [if_neg (by omega), if_pos rfl]
  rw [h2] at h1
  exact absurd h1 (by decide)
/-- none behind them -/
theorem e_nopiv {sz c L : Nat} {M0 M : Nat → Sr} (h : EInv sz M0 M c L) (hc : L ≤ c) (hcs : c < sz) (hs : sz ≤ 16) (hD : DepH sz M0 L) : ∀ i, L ≤ i → i < sz → M i c = 0 := by
  intro i h1 h2
  obtain ⟨v, hk, hv1, hv⟩ := hD c hc hcs
  have h3 := (h.1 v).mp hk i h2
  unfold dot at h3
  rw [show 17 = c + (1 + (16 - c)) from by omega, su_split, su_split, su_nul (n := 16 - c) (fun k _ => by rw [hv _ (by omega)]; grind), su_s, su_0, su_nul (n := c) (fun k hk => by rw [h.2.2 i k h1 h2 hk]; grind), Nat.add_zero, hv1] at h3
  grind
theorem e_skip {sz c L : Nat} {M0 M : Nat → Sr} (h : EInv sz M0 M c L) (hz : ∀ i, L ≤ i → i < sz → M i c = 0) : EInv sz M0 M (c + 1) L := by
  refine ⟨h.1, h.2.1, fun i j h1 h2 h3 => ?_⟩
  by_cases h4 : j = c
  · rw [h4]; exact hz i h1 h2
  · exact h.2.2 i j h1 h2 (by omega)
theorem e_take {sz c pv : Nat} {M0 M : Nat → Sr} {y : Fp} (h : EInv sz M0 M c c) (h1 : c ≤ pv) (h2 : pv < sz) (hy : exch M c pv c c * y = 1) : EInv sz M0 (clr (exch M c pv) c sz c y) (c + 1) (c + 1) := by
  have hcs : c < sz := by omega
  have ex : ∀ i j, i < sz → j < c → exch M c pv i j = M i j := by
    intro i j hi hj
    by_cases e1 : i = c
    · rw [e1, exch_1, h.2.2 pv j h1 h2 hj, h.2.2 c j (Nat.le_refl _) hcs hj]
    · by_cases e2 : i = pv
      · rw [e2, exch_2, h.2.2 pv j h1 h2 hj, h.2.2 c j (Nat.le_refl _) hcs hj]
      · rw [exch_3 M e1 e2]
  have rowc : ∀ j, j < c → exch M c pv c j = 0 := fun j hj => by rw [ex c j hcs hj]; exact h.2.2 c j (Nat.le_refl _) hcs hj
  have col : ∀ i, i < sz → clr (exch M c pv) c sz c y i c = if i = c then 1 else 0 := by
    intro i hi
    by_cases e : i = c
    · rw [if_pos e, e, clr_r]; exact hy
    · rw [if_neg e, clr_o _ y e hi]
      show exch M c pv i c - exch M c pv i c * (exch M c pv c c * y) = 0
      rw [hy]
      grind
  have old : ∀ i j, i < sz → j < c → clr (exch M c pv) c sz c y i j = M i j := by
    intro i j hi hj
    by_cases e : i = c
    · rw [e, clr_r]
      show exch M c pv c j * y = M c j
      rw [rowc j hj, h.2.2 c j (Nat.le_refl _) hcs hj]
      grind
    · rw [clr_o _ y e hi]
      show exch M c pv i j - exch M c pv i c * (exch M c pv c j * y) = M i j
      rw [rowc j hj, ex i j hi hj]
      grind
  refine ⟨fun v => ((h.1 v).trans (ker_exch hcs h2 v)).trans (ker_clr hcs hy v), fun i j hi hj => ?_, fun i j hr hi hj => ?_⟩
  · by_cases e : j = c
    · rw [e, col i hi]
    · rw [old i j hi (by omega)]; exact h.2.1 i j hi (by omega)
  · by_cases e : j = c
    · rw [e, col i hi, if_neg (by omega)]
    · rw [old i j hi (by omega)]; exact h.2.2 i j (by omega) hi (by omega)
theorem e_start (sz : Nat) (M0 : Nat → Sr) : EInv sz M0 M0 0 0 := ⟨fun _ => Iff.rfl, fun i j _ hj => absurd hj (by omega), fun i j _ _ hj => absurd hj (by omega)⟩
/-- the solution in the last column -/
theorem e_solve {L : Nat} {M0 M : Nat → Sr} {f : Sr} (hL : L ≤ 16) (h : EInv L M0 M L L) (hk : ker L M0 (fun j => if j < L then f j else if j = 16 then -1 else 0)) : ∀ i, i < L → M i 16 = f i := by
  intro i hi
  have h1 := (h.1 _).mp hk i hi
  dsimp only [dot] at h1
  rw [show 17 = L + ((16 - L) + 1) from by omega, su_split, su_split, su_s, su_0, su_nul (n := 16 - L) (fun k hk => by rw [if_neg (by omega), if_neg (by omega)]; grind), show L + (16 - L + 0) = 16 from by omega] at h1
  have e : su (fun j => M i j * (if j < L then f j else if j = 16 then -1 else 0)) L = f i := by
    have e2 : su (fun j => M i j * (if j < L then f j else if j = 16 then -1 else 0)) L = su (fun j => (if i = j then 1 else 0) * f j) L := by
      refine su_congr (fun k hk => ?_)
      rw [if_pos hk, h.2.1 i k hi hk]
    rw [e2, su_delta, if_pos hi]
  rw [e, if_neg (by omega), if_pos rfl] at h1
  grind
theorem h_ind {sz L : Nat} {M0 : Nat → Sr} {a : Sr} (hO : Ord a L) (hL : L ≤ sz) (hs : sz ≤ 16) (hM : ∀ i j, i < sz → j < L → M0 i j = a (i + j)) : IndH sz M0 L := by
  intro v hv hk j
  by_cases hj : j < L
  · refine hO.2 v (fun i hi => ?_) j hj
    have h1 := hk i (by omega)
    dsimp only [dot] at h1
    rw [show 17 = L + (17 - L) from by omega, su_split, su_nul (n := 17 - L) (fun k _ => by rw [hv _ (by omega)]; grind)] at h1
    have e : su (fun j => M0 i j * v j) L = su (fun j => v j * a (i + j)) L := su_congr (fun k hk2 => by rw [hM i k (by omega) hk2]; grind)
    rw [e] at h1
    grind
  · exact hv j (by omega)
theorem h_dep {L : Nat} {M0 : Nat → Sr} {a : Sr} (hO : Ord a L) (hM : ∀ i j, i < 16 → j < 16 → M0 i j = a (i + j)) : DepH 16 M0 L := by
  intro j h1 h2
  obtain ⟨f, hf⟩ := hO.1
  refine ⟨fun n => if n = j then 1 else if j - L ≤ n ∧ n < j then -f (n - (j - L)) else 0, ?_, ?_, ?_⟩
  · intro i hi
    dsimp only [dot]
    rw [show 17 = (j - L) + (L + (1 + (16 - j))) from by omega, su_split, su_split, su_split, su_s, su_0]
    rw [su_nul (n := j - L) (fun k hk => by rw [if_neg (by omega), if_neg (by omega)]; grind)]
    rw [su_nul (n := 16 - j) (fun k hk => by rw [if_neg (by omega), if_neg (by omega)]; grind)]
    rw [if_pos (by omega : j - L + (L + 0) = j), show j - L + (L + 0) = j from by omega, hM i j hi h2]
    have e : su (fun k => M0 i (j - L + k) * (if j - L + k = j then 1 else if j - L ≤ j - L + k ∧ j - L + k < j then -f (j - L + k - (j - L)) else 0)) L = -a (i + j) := by
      have h3 := hf (i + (j - L))
      rw [show i + (j - L) + L = i + j from by omega] at h3
      rw [h3, show -su (fun k => f k * a (i + (j - L) + k)) L = (-1) * su (fun k => f k * a (i + (j - L) + k)) L from by grind, ← su_mul]
      refine su_congr (fun k hk => ?_)
      rw [if_neg (by omega), if_pos (by omega), hM i _ hi (by omega), show j - L + k - (j - L) = k from by omega, show i + (j - L + k) = i + (j - L) + k from by omega]
      grind
    rw [e]
    grind
  · exact if_pos rfl
  · intro n hn
    show (if n = j then (1 : Fp) else if j - L ≤ n ∧ n < j then -f (n - (j - L)) else 0) = 0
    rw [if_neg (by omega), if_neg (by omega)]
theorem h_sol {L : Nat} {M0 : Nat → Sr} {a f : Sr} (hL : L < 16) (hf : ∀ m, a (m + L) = su (fun j => f j * a (m + j)) L) (hM : ∀ i j, i < L → j < L → M0 i j = a (i + j)) (hR : ∀ i, i < L → M0 i 16 = a (i + L)) : ker L M0 (fun j => if j < L then f j else if j = 16 then -1 else 0) := by
  intro i hi
  dsimp only [dot]
  rw [show 17 = L + ((16 - L) + 1) from by omega, su_split, su_split, su_s, su_0, su_nul (n := 16 - L) (fun k hk => by rw [if_neg (by omega), if_neg (by omega)]; grind), show L + (16 - L + 0) = 16 from by omega, if_neg (by omega), if_pos rfl, hR i hi, hf i]
  have e : su (fun j => M0 i j * (if j < L then f j else if j = 16 then -1 else 0)) L = su (fun j => f j * a (i + j)) L := by
    refine su_congr (fun k hk => ?_)
    rw [if_pos hk, hM i k hi hk]
    grind
  rw [e]
  grind
/-! far terms: the mirror, and every other term -/
def mir (f : Sr) : Sr := fun n => if n % 2 = 1 then -f n else f n
theorem mir_tl (f : Sr) : tl (mir f) = sc (-1) (mir (tl f)) := by
  funext n
  simp only [tl, mir, sc]
  by_cases h : n % 2 = 1
  · rw [if_neg (by omega), if_pos h]; grind
  · rw [if_pos (by omega), if_neg h]; grind
theorem mir_cv (f g : Sr) (n : Nat) : cv (mir f) (mir g) n = mir (cv f g) n := by
  induction n generalizing f with
  | zero => rw [cv_0]; simp only [mir]; simp [cv_0]
  | succ n ih =>
    rw [cv_s, mir_tl, cv_scl, ih]
    simp only [mir]
    rw [cv_s f g n]
    by_cases h : n % 2 = 1
    · rw [if_neg (by omega : ¬ 0 % 2 = 1), if_neg (by omega), if_pos h, if_neg (by omega)]; grind
    · rw [if_neg (by omega : ¬ 0 % 2 = 1), if_pos (by omega), if_neg h, if_pos (by omega)]; grind
theorem mir_mir (f : Sr) : mir (mir f) = f := by
  funext n
  simp only [mir]
  by_cases h : n % 2 = 1
  · rw [if_pos h, if_pos h]; grind
  · rw [if_neg h, if_neg h]
theorem mir_even (q : Sr) {n : Nat} (h : n % 2 = 1) : cv q (mir q) n = 0 := by
  have h1 := mir_cv q (mir q) n
  rw [mir_mir, cv_comm] at h1
  simp only [mir] at h1
  rw [if_pos h] at h1
  exact fp_half _ h1
theorem van_mir {N : Nat} {f : Sr} (h : van N f) : van N (mir f) := by
  intro n hn
  simp only [mir]
  rw [h n hn]
  split <;> rfl
theorem cv_even {f : Sr} (g : Sr) (hf : ∀ n, n % 2 = 1 → f n = 0) (o n : Nat) (ho : o ≤ 1) : cv f g (2 * n + o) = cv (fun i => f (2 * i)) (fun k => g (2 * k + o)) n := by
  induction n generalizing f with
  | zero =>
    rw [cv_0]
    by_cases h : o = 0
    · subst h; exact cv_0 f g
    · have : o = 1 := by omega
      subst this
      rw [show 2 * 0 + 1 = 0 + 1 from rfl, cv_s, cv_0]
      simp only [tl]
      rw [hf (0 + 1) (by omega)]
      grind
  | succ n ih =>
    rw [show 2 * (n + 1) + o = (2 * n + o + 1) + 1 from by omega, cv_s, cv_s (tl f), cv_s (fun i => f (2 * i))]
    have e : tl f 0 = 0 := hf 1 (by omega)
    rw [e, ih (f := tl (tl f)) (fun k hk => hf (k + 1 + 1) (by omega))]
    have e2 : (fun i => tl (tl f) (2 * i)) = tl (fun i => f (2 * i)) := by
      funext i
      simp only [tl]
      rw [show 2 * i + 1 + 1 = 2 * (i + 1) from by omega]
    rw [e2, show 2 * n + o + 1 + 1 = 2 * (n + 1) + o from by omega]
    show f 0 * g (2 * (n + 1) + o) + (0 * g (2 * n + o + 1) + cv (tl fun i => f (2 * i)) (fun k => g (2 * k + o)) n) = f (2 * 0) * g (2 * (n + 1) + o) + cv (tl fun i => f (2 * i)) (fun k => g (2 * k + o)) n
    grind
def FarI (P Q a : Sr) (n : Nat) (v : Fp) : Prop := Q 0 = 1 ∧ cv Q a = P ∧ van 9 P ∧ van 10 Q ∧ a n = v
theorem far_end {P Q a : Sr} {v : Fp} (h : FarI P Q a 0 v) : P 0 = v := by
  obtain ⟨h0, h1, -, -, h2⟩ := h
  rw [← h1, cv_0, h0, h2]
  grind
theorem far_step {P Q a : Sr} {n : Nat} {v : Fp} (h : FarI P Q a n v) : FarI (fun i => cv P (mir Q) (2 * i + n % 2)) (fun i => cv Q (mir Q) (2 * i)) (fun m => a (2 * m + n % 2)) (n / 2) v ∧ van 18 (cv P (mir Q)) ∧ van 19 (cv Q (mir Q)) := by
  obtain ⟨h0, h1, h2, h3, h4⟩ := h
  have v1 : van 18 (cv P (mir Q)) := van_cv h2 (van_mir h3) (by omega)
  have v2 : van 19 (cv Q (mir Q)) := van_cv h3 (van_mir h3) (by omega)
  refine ⟨⟨?_, ?_, fun i hi => v1 _ (by omega), fun i hi => v2 _ (by omega), ?_⟩, v1, v2⟩
  · show cv Q (mir Q) (2 * 0) = 1
    rw [cv_0]
    simp only [mir]
    rw [if_neg (by omega), h0]
    rfl
  · funext i
    rw [← cv_even (f := cv Q (mir Q)) a (fun n hn => mir_even Q hn) (n % 2) i (by omega), ← h1, cvf_comm Q (mir Q), cv_assoc, cv_comm]
  · show a (2 * (n / 2) + n % 2) = v
    rw [show 2 * (n / 2) + n % 2 = n from by omega, h4]
/-! what the calls do to a sequence -/
theorem op_add {q1 q2 p1 p2 a1 a2 : Sr} (h1 : cv q1 a1 = p1) (h2 : cv q2 a2 = p2) : cv (cv q1 q2) (ad a1 a2) = ad (cv p1 q2) (cv p2 q1) := by
  rw [cvf_addr, cvf_comm q1 q2, cvf_assoc, h1, cvf_comm q2 q1, cvf_assoc, h2, cvf_comm q2 p1, cvf_comm q1 p2]
theorem op_adv {q p a : Sr} (h0 : q 0 = 1) (h1 : cv q a = p) : p 0 = a 0 ∧ ∀ n, cv q (tl a) n = p (n + 1) - a 0 * q (n + 1) := by
  constructor
  · rw [← h1, cv_0, h0]; grind
  · intro n
    rw [← h1, cv_s']
    grind
def pre1 (x : Fp) (a : Sr) : Sr := fun n => if n = 0 then x else a (n - 1)
theorem op_pre {q p a : Sr} (x : Fp) (h1 : cv q a = p) (n : Nat) : cv q (pre1 x a) n = (if n = 0 then 0 else p (n - 1)) + x * q n := by
  cases n with
  | zero => rw [cv_0]; simp only [pre1]; simp; grind
  | succ n =>
    have e : tl (pre1 x a) = a := by funext k; simp [tl, pre1]
    rw [cv_s', e, h1]
    simp only [pre1]
    simp
    grind
def stp : Sr := fun n => if n = 0 then 1 else if n = 1 then -1 else 0
theorem cv_stp (f : Sr) (n : Nat) : cv stp f n = f n - (if n = 0 then 0 else f (n - 1)) := by
  cases n with
  | zero => rw [cv_0]; simp only [stp]; simp; grind
  | succ n =>
    have e : tl stp = mo 0 (-1) := by
      funext k
      simp only [tl, stp, mo]
      by_cases h : k = 0
      · simp [h]
      · rw [if_neg (by omega), if_neg (by omega), if_neg h]
    rw [cv_s, e, cv_mo]
    simp only [stp]
    simp
    grind
theorem van_stp : van 2 stp := fun n hn => by simp only [stp]; rw [if_neg (by omega), if_neg (by omega)]
def acc (a : Sr) : Sr := fun n => su a (n + 1)
theorem stp_acc (a : Sr) : cv stp (acc a) = a := by
  funext n
  rw [cv_stp]
  simp only [acc]
  cases n with
  | zero => simp only [su_s, su_0]; simp; grind
  | succ n => rw [if_neg (by omega), show n + 1 - 1 + 1 = n + 1 from by omega, su_s a (n + 1)]; grind
theorem op_acc {q p a : Sr} (h1 : cv q a = p) : cv (cv q stp) (acc a) = p := by rw [cvf_assoc, stp_acc, h1]
theorem op_dif {q p a : Sr} (h1 : cv q a = p) : cv q (cv stp a) = cv p stp := by rw [cvf_lc, h1, cvf_comm]
/-- two quotients with the same first 32 terms are the same -/
theorem seq_same {p q a p' q' a' : Sr} {L L' : Nat} (H : Seq p q a L) (H' : Seq p' q' a' L') (hL : L ≤ 8) (hL' : L' ≤ 8) (h : ∀ n, n < 32 → a n = a' n) : p = p' ∧ q = q' := by
  obtain ⟨h0, ha, hp, hq, ⟨α, β, hα, hβ, hb⟩, -⟩ := H
  obtain ⟨h0', ha', hp', hq', ⟨α', β', hα', hβ', hb'⟩, -⟩ := H'
  have ex : cv p q' = cv p' q := by
    funext n
    by_cases hn : n < 32
    · have e1 : cv p q' n = cv (cv q q') a n := by rw [← ha, cvf_assoc, cvf_comm a, ← cvf_assoc]
      have e2 : cv p' q n = cv (cv q q') a' n := by rw [← ha', cvf_assoc, cvf_comm a', ← cvf_assoc, cvf_comm q' q]
      rw [e1, e2]
      exact cv_congr (fun _ _ => rfl) (fun k hk => h k (by omega))
    · rw [van_cv (K := 16) hp hq' (by omega) n (by omega), van_cv (K := 16) hp' hq (by omega) n (by omega)]
  let k : Sr := ad (cv α p') (cv β q')
  have hqk : cv k q = q' := by
    show cv (ad (cv α p') (cv β q')) q = q'
    have e : cv q' (ad (cv α p) (cv β q)) = q' := by rw [hb, cvf_e1r]
    rw [cvf_addl, cvf_assoc, cvf_assoc, ← ex, cvf_comm p q', cvf_lc α, cvf_lc β, ← cvf_addr]
    exact e
  have hpk : cv k p = p' := by
    show cv (ad (cv α p') (cv β q')) p = p'
    have e : cv p' (ad (cv α p) (cv β q)) = p' := by rw [hb, cvf_e1r]
    rw [cvf_addl, cvf_assoc, cvf_assoc, cvf_comm q' p, ex, cvf_lc α, cvf_lc β, ← cvf_addr]
    exact e
  have hkf : fin k := fin_ad (fin_cv hα ⟨_, hp'⟩) (fin_cv hβ ⟨_, hq'⟩)
  have hkm : cv k (ad (cv α' p) (cv β' q)) = e1 := by
    rw [cvf_addr, cvf_lc k α', cvf_lc k β', hpk, hqk]
    exact hb'
  have hmf : fin (ad (cv α' p) (cv β' q)) := fin_ad (fin_cv hα' ⟨_, hp⟩) (fin_cv hβ' ⟨_, hq⟩)
  have hk1 : k = e1 := by
    rcases fin_top hkf with z | ⟨d, hd, ht⟩
    · exfalso
      rw [z, cvf_z0] at hkm
      have := congrFun hkm 0
      exact absurd this (by decide)
    · rcases fin_top hmf with z | ⟨d2, hd2, ht2⟩
      · exfalso
        rw [z, cvf_z0r] at hkm
        have := congrFun hkm 0
        exact absurd this (by decide)
      · have h5 := cv_lead ht ht2
        rw [hkm] at h5
        have hd0 : d = 0 := by
          by_cases hdd : d = 0
          · exact hdd
          · exfalso
            have : e1 (d + d2) = 0 := by simp only [e1]; rw [if_neg (by omega)]
            rw [this] at h5
            rcases fp_nz h5.symm with h6 | h6
            · exact hd h6
            · exact hd2 h6
        subst hd0
        have hk0 : k 0 = 1 := by
          have h6 : cv k q 0 = 1 := by rw [hqk]; exact h0'
          rw [cv_0, h0] at h6
          grind
        funext n
        by_cases hn : n = 0
        · rw [hn, hk0]; rfl
        · rw [ht n (by omega)]; simp only [e1]; rw [if_neg hn]
  rw [hk1, cvf_e1] at hqk hpk
  exact ⟨hpk, hqk⟩
theorem seq_det {p q a a' : Sr} (h0 : q 0 = 1) (ha : cv q a = p) (ha' : cv q a' = p) : a = a' := by
  refine cv_can (u := q) (by rw [h0]; decide) ?_
  rw [cvf_comm, ha, cvf_comm, ha']
/-! division of series -/
theorem cv_low {q h : Sr} {n : Nat} (hh : ∀ k, k < n → h k = 0) : cv q h n = q 0 * h n := by
  induction n generalizing h with
  | zero => exact cv_0 q h
  | succ n ih =>
    rw [cv_s', hh 0 (by omega), ih (h := tl h) (fun k hk => hh (k + 1) (by omega))]
    simp only [tl]
    grind
def dvA (p q : Sr) : Nat → Sr
  | 0 => z0
  | n + 1 => fun m => if m = n then p n - cv q (dvA p q n) n else dvA p q n m
def dv (p q : Sr) : Sr := fun n => dvA p q (n + 1) n
theorem dvA_hi (p q : Sr) (N n : Nat) (h : N ≤ n) : dvA p q N n = 0 := by
  induction N with
  | zero => rfl
  | succ N ih =>
    show (if n = N then _ else dvA p q N n) = 0
    rw [if_neg (by omega), ih (by omega)]
theorem dvA_lo (p q : Sr) (N n : Nat) (h : n < N) : dvA p q N n = dv p q n := by
  induction N with
  | zero => exact absurd h (by omega)
  | succ N ih =>
    by_cases e : n = N
    · rw [e]; rfl
    · show (if n = N then _ else dvA p q N n) = dv p q n
      rw [if_neg e, ih (by omega)]
theorem dv_ok {p q : Sr} (h0 : q 0 = 1) : cv q (dv p q) = p := by
  funext n
  have e : cv q (dv p q) n = cv q (ad (dvA p q n) (sb (dv p q) (dvA p q n))) n := cv_congr (fun _ _ => rfl) (fun k _ => by simp only [ad, sb]; grind)
  rw [e, cv_addr, cv_low (h := sb (dv p q) (dvA p q n)) (fun k hk => by simp only [sb]; rw [dvA_lo p q n k hk]; grind), h0]
  simp only [sb]
  rw [dvA_hi p q n n (Nat.le_refl _)]
  have e2 : dv p q n = p n - cv q (dvA p q n) n := by
    show (if n = n then _ else _) = _
    rw [if_pos rfl]
  rw [e2]
  grind
end
section
/-! RecurrenceEngine -/
set_option maxRecDepth 100000
def RX0 : String := "RecurrenceEngine"
def TX0 : u_T := fun k => match k with
  | 0 => ("RecurrenceEngine", "bank", "[I", true)
  | _ => ("RecurrenceEngine", "recent", "[I", true)
def tyX0 : Nat → FieldType := fun k => match k with
  | 0 => .array .int
  | _ => .array .int
abbrev wsX00 : List Cond := u_ws RX0 TX0 2
theorem nmX0 : ∀ a, a < 2 → ∀ b, b < 2 → a ≠ b → (TX0 a).2.1 ≠ (TX0 b).2.1 := by decide +kernel
theorem tyX0_ok : ∀ k, k < 2 → parseFieldDescriptor (TX0 k).2.2.1 = some (tyX0 k) := by decide +kernel
abbrev cX0_init : ByteArray := prog_1_method_1_code
def yX0_init : MethodName := ⟨RX0, "<init>", "()V"⟩
theorem dX0_init_0 : decode cX0_init 0 = .ok (.aload_n 0, 1) := by decide +kernel
theorem dX0_init_1 : decode cX0_init 1 = .ok (.invokespecial 1, 3) := by decide +kernel
theorem dX0_init_4 : decode cX0_init 4 = .ok (.aload_n 0, 1) := by decide +kernel
theorem dX0_init_5 : decode cX0_init 5 = .ok (.sipush 312, 3) := by decide +kernel
theorem dX0_init_8 : decode cX0_init 8 = .ok (.newarray .int, 2) := by decide +kernel
theorem dX0_init_10 : decode cX0_init 10 = .ok (.putfield 7, 3) := by decide +kernel
theorem dX0_init_13 : decode cX0_init 13 = .ok (.aload_n 0, 1) := by decide +kernel
theorem dX0_init_14 : decode cX0_init 14 = .ok (.bipush 8, 2) := by decide +kernel
theorem dX0_init_16 : decode cX0_init 16 = .ok (.newarray .int, 2) := by decide +kernel
theorem dX0_init_18 : decode cX0_init 18 = .ok (.putfield 13, 3) := by decide +kernel
theorem dX0_init_21 : decode cX0_init 21 = .ok (.iconst 0, 1) := by decide +kernel
theorem dX0_init_22 : decode cX0_init 22 = .ok (.istore_n 1, 1) := by decide +kernel
theorem dX0_init_23 : decode cX0_init 23 = .ok (.iload_n 1, 1) := by decide +kernel
theorem dX0_init_24 : decode cX0_init 24 = .ok (.iconst 4, 1) := by decide +kernel
theorem dX0_init_25 : decode cX0_init 25 = .ok (.if_icmp .ge 25, 3) := by decide +kernel
theorem dX0_init_28 : decode cX0_init 28 = .ok (.aload_n 0, 1) := by decide +kernel
theorem dX0_init_29 : decode cX0_init 29 = .ok (.getfield 7, 3) := by decide +kernel
theorem dX0_init_32 : decode cX0_init 32 = .ok (.iconst 5, 1) := by decide +kernel
theorem dX0_init_33 : decode cX0_init 33 = .ok (.iconst 2, 1) := by decide +kernel
theorem dX0_init_34 : decode cX0_init 34 = .ok (.iload_n 1, 1) := by decide +kernel
theorem dX0_init_35 : decode cX0_init 35 = .ok (.imul, 1) := by decide +kernel
theorem dX0_init_36 : decode cX0_init 36 = .ok (.iadd, 1) := by decide +kernel
theorem dX0_init_37 : decode cX0_init 37 = .ok (.iconst 1, 1) := by decide +kernel
theorem dX0_init_38 : decode cX0_init 38 = .ok (.iadd, 1) := by decide +kernel
theorem dX0_init_39 : decode cX0_init 39 = .ok (.bipush 24, 2) := by decide +kernel
theorem dX0_init_41 : decode cX0_init 41 = .ok (.imul, 1) := by decide +kernel
theorem dX0_init_42 : decode cX0_init 42 = .ok (.iconst 1, 1) := by decide +kernel
theorem dX0_init_43 : decode cX0_init 43 = .ok (.iastore, 1) := by decide +kernel
theorem dX0_init_44 : decode cX0_init 44 = .ok (.iinc 1 1, 3) := by decide +kernel
theorem dX0_init_47 : decode cX0_init 47 = .ok (.goto (-24), 3) := by decide +kernel
theorem dX0_init_50 : decode cX0_init 50 = .ok (.return_, 1) := by decide +kernel
abbrev cX0_define : ByteArray := prog_1_method_20_code
def yX0_define : MethodName := ⟨RX0, "define", "(IIII)I"⟩
theorem dX0_define_0 : decode cX0_define 0 = .ok (.iload_n 1, 1) := by decide +kernel
theorem dX0_define_1 : decode cX0_define 1 = .ok (.invokestatic 60, 3) := by decide +kernel
theorem dX0_define_4 : decode cX0_define 4 = .ok (.ifCond .eq 5, 3) := by decide +kernel
theorem dX0_define_7 : decode cX0_define 7 = .ok (.iconst (-1), 1) := by decide +kernel
theorem dX0_define_8 : decode cX0_define 8 = .ok (.ireturn, 1) := by decide +kernel
theorem dX0_define_9 : decode cX0_define 9 = .ok (.iload_n 2, 1) := by decide +kernel
theorem dX0_define_10 : decode cX0_define 10 = .ok (.iconst 1, 1) := by decide +kernel
theorem dX0_define_11 : decode cX0_define 11 = .ok (.if_icmp .lt 8, 3) := by decide +kernel
theorem dX0_define_14 : decode cX0_define 14 = .ok (.iload_n 2, 1) := by decide +kernel
theorem dX0_define_15 : decode cX0_define 15 = .ok (.iconst 4, 1) := by decide +kernel
theorem dX0_define_16 : decode cX0_define 16 = .ok (.if_icmp .le 6, 3) := by decide +kernel
theorem dX0_define_19 : decode cX0_define 19 = .ok (.bipush (-2), 2) := by decide +kernel
theorem dX0_define_21 : decode cX0_define 21 = .ok (.ireturn, 1) := by decide +kernel
theorem dX0_define_22 : decode cX0_define 22 = .ok (.iload_n 3, 1) := by decide +kernel
theorem dX0_define_23 : decode cX0_define 23 = .ok (.ldc 64, 2) := by decide +kernel
theorem dX0_define_25 : decode cX0_define 25 = .ok (.iand, 1) := by decide +kernel
theorem dX0_define_26 : decode cX0_define 26 = .ok (.istore 5, 2) := by decide +kernel
theorem dX0_define_28 : decode cX0_define 28 = .ok (.iload 4, 2) := by decide +kernel
theorem dX0_define_30 : decode cX0_define 30 = .ok (.ldc 64, 2) := by decide +kernel
theorem dX0_define_32 : decode cX0_define 32 = .ok (.iand, 1) := by decide +kernel
theorem dX0_define_33 : decode cX0_define 33 = .ok (.istore 6, 2) := by decide +kernel
theorem dX0_define_35 : decode cX0_define 35 = .ok (.aload_n 0, 1) := by decide +kernel
theorem dX0_define_36 : decode cX0_define 36 = .ok (.iconst 1, 1) := by decide +kernel
theorem dX0_define_37 : decode cX0_define 37 = .ok (.invokevirtual 20, 3) := by decide +kernel
theorem dX0_define_40 : decode cX0_define 40 = .ok (.aload_n 0, 1) := by decide +kernel
theorem dX0_define_41 : decode cX0_define 41 = .ok (.iconst 2, 1) := by decide +kernel
theorem dX0_define_42 : decode cX0_define 42 = .ok (.invokevirtual 20, 3) := by decide +kernel
theorem dX0_define_45 : decode cX0_define 45 = .ok (.aload_n 0, 1) := by decide +kernel
theorem dX0_define_46 : decode cX0_define 46 = .ok (.getfield 7, 3) := by decide +kernel
theorem dX0_define_49 : decode cX0_define 49 = .ok (.bipush 24, 2) := by decide +kernel
theorem dX0_define_51 : decode cX0_define 51 = .ok (.iconst 1, 1) := by decide +kernel
theorem dX0_define_52 : decode cX0_define 52 = .ok (.iastore, 1) := by decide +kernel
theorem dX0_define_53 : decode cX0_define 53 = .ok (.iconst 1, 1) := by decide +kernel
theorem dX0_define_54 : decode cX0_define 54 = .ok (.istore 7, 2) := by decide +kernel
theorem dX0_define_56 : decode cX0_define 56 = .ok (.iload 7, 2) := by decide +kernel
theorem dX0_define_58 : decode cX0_define 58 = .ok (.iload_n 2, 1) := by decide +kernel
theorem dX0_define_59 : decode cX0_define 59 = .ok (.if_icmp .gt 59, 3) := by decide +kernel
theorem dX0_define_62 : decode cX0_define 62 = .ok (.aload_n 0, 1) := by decide +kernel
theorem dX0_define_63 : decode cX0_define 63 = .ok (.getfield 7, 3) := by decide +kernel
theorem dX0_define_66 : decode cX0_define 66 = .ok (.bipush 24, 2) := by decide +kernel
theorem dX0_define_68 : decode cX0_define 68 = .ok (.iload 7, 2) := by decide +kernel
theorem dX0_define_70 : decode cX0_define 70 = .ok (.iadd, 1) := by decide +kernel
theorem dX0_define_71 : decode cX0_define 71 = .ok (.iload 5, 2) := by decide +kernel
theorem dX0_define_73 : decode cX0_define 73 = .ok (.bipush 101, 2) := by decide +kernel
theorem dX0_define_75 : decode cX0_define 75 = .ok (.irem, 1) := by decide +kernel
theorem dX0_define_76 : decode cX0_define 76 = .ok (.ineg, 1) := by decide +kernel
theorem dX0_define_77 : decode cX0_define 77 = .ok (.invokestatic 16, 3) := by decide +kernel
theorem dX0_define_80 : decode cX0_define 80 = .ok (.iastore, 1) := by decide +kernel
theorem dX0_define_81 : decode cX0_define 81 = .ok (.aload_n 0, 1) := by decide +kernel
theorem dX0_define_82 : decode cX0_define 82 = .ok (.getfield 7, 3) := by decide +kernel
theorem dX0_define_85 : decode cX0_define 85 = .ok (.bipush 48, 2) := by decide +kernel
theorem dX0_define_87 : decode cX0_define 87 = .ok (.iload 7, 2) := by decide +kernel
theorem dX0_define_89 : decode cX0_define 89 = .ok (.iadd, 1) := by decide +kernel
theorem dX0_define_90 : decode cX0_define 90 = .ok (.iconst 1, 1) := by decide +kernel
theorem dX0_define_91 : decode cX0_define 91 = .ok (.isub, 1) := by decide +kernel
theorem dX0_define_92 : decode cX0_define 92 = .ok (.iload 6, 2) := by decide +kernel
theorem dX0_define_94 : decode cX0_define 94 = .ok (.bipush 101, 2) := by decide +kernel
theorem dX0_define_96 : decode cX0_define 96 = .ok (.irem, 1) := by decide +kernel
theorem dX0_define_97 : decode cX0_define 97 = .ok (.iastore, 1) := by decide +kernel
theorem dX0_define_98 : decode cX0_define 98 = .ok (.iload 5, 2) := by decide +kernel
theorem dX0_define_100 : decode cX0_define 100 = .ok (.bipush 101, 2) := by decide +kernel
theorem dX0_define_102 : decode cX0_define 102 = .ok (.idiv, 1) := by decide +kernel
theorem dX0_define_103 : decode cX0_define 103 = .ok (.istore 5, 2) := by decide +kernel
theorem dX0_define_105 : decode cX0_define 105 = .ok (.iload 6, 2) := by decide +kernel
theorem dX0_define_107 : decode cX0_define 107 = .ok (.bipush 101, 2) := by decide +kernel
theorem dX0_define_109 : decode cX0_define 109 = .ok (.idiv, 1) := by decide +kernel
theorem dX0_define_110 : decode cX0_define 110 = .ok (.istore 6, 2) := by decide +kernel
theorem dX0_define_112 : decode cX0_define 112 = .ok (.iinc 7 1, 3) := by decide +kernel
theorem dX0_define_115 : decode cX0_define 115 = .ok (.goto (-59), 3) := by decide +kernel
theorem dX0_define_118 : decode cX0_define 118 = .ok (.aload_n 0, 1) := by decide +kernel
theorem dX0_define_119 : decode cX0_define 119 = .ok (.iconst 0, 1) := by decide +kernel
theorem dX0_define_120 : decode cX0_define 120 = .ok (.iconst 2, 1) := by decide +kernel
theorem dX0_define_121 : decode cX0_define 121 = .ok (.iconst 1, 1) := by decide +kernel
theorem dX0_define_122 : decode cX0_define 122 = .ok (.invokevirtual 65, 3) := by decide +kernel
theorem dX0_define_125 : decode cX0_define 125 = .ok (.iload_n 2, 1) := by decide +kernel
theorem dX0_define_126 : decode cX0_define 126 = .ok (.istore 7, 2) := by decide +kernel
theorem dX0_define_128 : decode cX0_define 128 = .ok (.iload 7, 2) := by decide +kernel
theorem dX0_define_130 : decode cX0_define 130 = .ok (.bipush 24, 2) := by decide +kernel
theorem dX0_define_132 : decode cX0_define 132 = .ok (.if_icmp .ge 19, 3) := by decide +kernel
theorem dX0_define_135 : decode cX0_define 135 = .ok (.aload_n 0, 1) := by decide +kernel
theorem dX0_define_136 : decode cX0_define 136 = .ok (.getfield 7, 3) := by decide +kernel
theorem dX0_define_139 : decode cX0_define 139 = .ok (.iconst 0, 1) := by decide +kernel
theorem dX0_define_140 : decode cX0_define 140 = .ok (.iload 7, 2) := by decide +kernel
theorem dX0_define_142 : decode cX0_define 142 = .ok (.iadd, 1) := by decide +kernel
theorem dX0_define_143 : decode cX0_define 143 = .ok (.iconst 0, 1) := by decide +kernel
theorem dX0_define_144 : decode cX0_define 144 = .ok (.iastore, 1) := by decide +kernel
theorem dX0_define_145 : decode cX0_define 145 = .ok (.iinc 7 1, 3) := by decide +kernel
theorem dX0_define_148 : decode cX0_define 148 = .ok (.goto (-20), 3) := by decide +kernel
theorem dX0_define_151 : decode cX0_define 151 = .ok (.aload_n 0, 1) := by decide +kernel
theorem dX0_define_152 : decode cX0_define 152 = .ok (.iload_n 1, 1) := by decide +kernel
theorem dX0_define_153 : decode cX0_define 153 = .ok (.invokevirtual 69, 3) := by decide +kernel
theorem dX0_define_156 : decode cX0_define 156 = .ok (.pop, 1) := by decide +kernel
theorem dX0_define_157 : decode cX0_define 157 = .ok (.iconst 0, 1) := by decide +kernel
theorem dX0_define_158 : decode cX0_define 158 = .ok (.ireturn, 1) := by decide +kernel
abbrev cX0_bad : ByteArray := prog_1_method_2_code
def yX0_bad : MethodName := ⟨RX0, "bad", "(I)Z"⟩
theorem dX0_bad_0 : decode cX0_bad 0 = .ok (.iload_n 0, 1) := by decide +kernel
theorem dX0_bad_1 : decode cX0_bad 1 = .ok (.ifCond .lt 8, 3) := by decide +kernel
theorem dX0_bad_4 : decode cX0_bad 4 = .ok (.iload_n 0, 1) := by decide +kernel
theorem dX0_bad_5 : decode cX0_bad 5 = .ok (.iconst 3, 1) := by decide +kernel
theorem dX0_bad_6 : decode cX0_bad 6 = .ok (.if_icmp .le 7, 3) := by decide +kernel
theorem dX0_bad_9 : decode cX0_bad 9 = .ok (.iconst 1, 1) := by decide +kernel
theorem dX0_bad_10 : decode cX0_bad 10 = .ok (.goto 4, 3) := by decide +kernel
theorem dX0_bad_13 : decode cX0_bad 13 = .ok (.iconst 0, 1) := by decide +kernel
theorem dX0_bad_14 : decode cX0_bad 14 = .ok (.ireturn, 1) := by decide +kernel
abbrev cX0_clearPoly : ByteArray := prog_1_method_8_code
def yX0_clearPoly : MethodName := ⟨RX0, "clearPoly", "(I)V"⟩
theorem dX0_clearPoly_0 : decode cX0_clearPoly 0 = .ok (.iconst 0, 1) := by decide +kernel
theorem dX0_clearPoly_1 : decode cX0_clearPoly 1 = .ok (.istore_n 2, 1) := by decide +kernel
theorem dX0_clearPoly_2 : decode cX0_clearPoly 2 = .ok (.iload_n 2, 1) := by decide +kernel
theorem dX0_clearPoly_3 : decode cX0_clearPoly 3 = .ok (.bipush 24, 2) := by decide +kernel
theorem dX0_clearPoly_5 : decode cX0_clearPoly 5 = .ok (.if_icmp .ge 21, 3) := by decide +kernel
theorem dX0_clearPoly_8 : decode cX0_clearPoly 8 = .ok (.aload_n 0, 1) := by decide +kernel
theorem dX0_clearPoly_9 : decode cX0_clearPoly 9 = .ok (.getfield 7, 3) := by decide +kernel
theorem dX0_clearPoly_12 : decode cX0_clearPoly 12 = .ok (.iload_n 1, 1) := by decide +kernel
theorem dX0_clearPoly_13 : decode cX0_clearPoly 13 = .ok (.bipush 24, 2) := by decide +kernel
theorem dX0_clearPoly_15 : decode cX0_clearPoly 15 = .ok (.imul, 1) := by decide +kernel
theorem dX0_clearPoly_16 : decode cX0_clearPoly 16 = .ok (.iload_n 2, 1) := by decide +kernel
theorem dX0_clearPoly_17 : decode cX0_clearPoly 17 = .ok (.iadd, 1) := by decide +kernel
theorem dX0_clearPoly_18 : decode cX0_clearPoly 18 = .ok (.iconst 0, 1) := by decide +kernel
theorem dX0_clearPoly_19 : decode cX0_clearPoly 19 = .ok (.iastore, 1) := by decide +kernel
theorem dX0_clearPoly_20 : decode cX0_clearPoly 20 = .ok (.iinc 2 1, 3) := by decide +kernel
theorem dX0_clearPoly_23 : decode cX0_clearPoly 23 = .ok (.goto (-21), 3) := by decide +kernel
theorem dX0_clearPoly_26 : decode cX0_clearPoly 26 = .ok (.return_, 1) := by decide +kernel
abbrev cX0_mod : ByteArray := prog_1_method_5_code
def yX0_mod : MethodName := ⟨RX0, "mod", "(I)I"⟩
theorem dX0_mod_0 : decode cX0_mod 0 = .ok (.iload_n 0, 1) := by decide +kernel
theorem dX0_mod_1 : decode cX0_mod 1 = .ok (.bipush 101, 2) := by decide +kernel
theorem dX0_mod_3 : decode cX0_mod 3 = .ok (.irem, 1) := by decide +kernel
theorem dX0_mod_4 : decode cX0_mod 4 = .ok (.istore_n 1, 1) := by decide +kernel
theorem dX0_mod_5 : decode cX0_mod 5 = .ok (.iload_n 1, 1) := by decide +kernel
theorem dX0_mod_6 : decode cX0_mod 6 = .ok (.ifCond .ge 10, 3) := by decide +kernel
theorem dX0_mod_9 : decode cX0_mod 9 = .ok (.iload_n 1, 1) := by decide +kernel
theorem dX0_mod_10 : decode cX0_mod 10 = .ok (.bipush 101, 2) := by decide +kernel
theorem dX0_mod_12 : decode cX0_mod 12 = .ok (.iadd, 1) := by decide +kernel
theorem dX0_mod_13 : decode cX0_mod 13 = .ok (.goto 4, 3) := by decide +kernel
theorem dX0_mod_16 : decode cX0_mod 16 = .ok (.iload_n 1, 1) := by decide +kernel
theorem dX0_mod_17 : decode cX0_mod 17 = .ok (.ireturn, 1) := by decide +kernel
abbrev cX0_multiply : ByteArray := prog_1_method_12_code
def yX0_multiply : MethodName := ⟨RX0, "multiply", "(III)V"⟩
theorem dX0_multiply_0 : decode cX0_multiply 0 = .ok (.aload_n 0, 1) := by decide +kernel
theorem dX0_multiply_1 : decode cX0_multiply 1 = .ok (.iconst 4, 1) := by decide +kernel
theorem dX0_multiply_2 : decode cX0_multiply 2 = .ok (.invokevirtual 20, 3) := by decide +kernel
theorem dX0_multiply_5 : decode cX0_multiply 5 = .ok (.aload_n 0, 1) := by decide +kernel
theorem dX0_multiply_6 : decode cX0_multiply 6 = .ok (.iload_n 2, 1) := by decide +kernel
theorem dX0_multiply_7 : decode cX0_multiply 7 = .ok (.invokevirtual 24, 3) := by decide +kernel
theorem dX0_multiply_10 : decode cX0_multiply 10 = .ok (.istore 4, 2) := by decide +kernel
theorem dX0_multiply_12 : decode cX0_multiply 12 = .ok (.iconst 0, 1) := by decide +kernel
theorem dX0_multiply_13 : decode cX0_multiply 13 = .ok (.istore 5, 2) := by decide +kernel
theorem dX0_multiply_15 : decode cX0_multiply 15 = .ok (.iload 5, 2) := by decide +kernel
theorem dX0_multiply_17 : decode cX0_multiply 17 = .ok (.iload 4, 2) := by decide +kernel
theorem dX0_multiply_19 : decode cX0_multiply 19 = .ok (.if_icmp .gt 29, 3) := by decide +kernel
theorem dX0_multiply_22 : decode cX0_multiply 22 = .ok (.aload_n 0, 1) := by decide +kernel
theorem dX0_multiply_23 : decode cX0_multiply 23 = .ok (.iconst 4, 1) := by decide +kernel
theorem dX0_multiply_24 : decode cX0_multiply 24 = .ok (.iload_n 3, 1) := by decide +kernel
theorem dX0_multiply_25 : decode cX0_multiply 25 = .ok (.aload_n 0, 1) := by decide +kernel
theorem dX0_multiply_26 : decode cX0_multiply 26 = .ok (.getfield 7, 3) := by decide +kernel
theorem dX0_multiply_29 : decode cX0_multiply 29 = .ok (.iload_n 2, 1) := by decide +kernel
theorem dX0_multiply_30 : decode cX0_multiply 30 = .ok (.bipush 24, 2) := by decide +kernel
theorem dX0_multiply_32 : decode cX0_multiply 32 = .ok (.imul, 1) := by decide +kernel
theorem dX0_multiply_33 : decode cX0_multiply 33 = .ok (.iload 5, 2) := by decide +kernel
theorem dX0_multiply_35 : decode cX0_multiply 35 = .ok (.iadd, 1) := by decide +kernel
theorem dX0_multiply_36 : decode cX0_multiply 36 = .ok (.iaload, 1) := by decide +kernel
theorem dX0_multiply_37 : decode cX0_multiply 37 = .ok (.iload 5, 2) := by decide +kernel
theorem dX0_multiply_39 : decode cX0_multiply 39 = .ok (.invokevirtual 27, 3) := by decide +kernel
theorem dX0_multiply_42 : decode cX0_multiply 42 = .ok (.iinc 5 1, 3) := by decide +kernel
theorem dX0_multiply_45 : decode cX0_multiply 45 = .ok (.goto (-30), 3) := by decide +kernel
theorem dX0_multiply_48 : decode cX0_multiply 48 = .ok (.aload_n 0, 1) := by decide +kernel
theorem dX0_multiply_49 : decode cX0_multiply 49 = .ok (.iload_n 1, 1) := by decide +kernel
theorem dX0_multiply_50 : decode cX0_multiply 50 = .ok (.iconst 4, 1) := by decide +kernel
theorem dX0_multiply_51 : decode cX0_multiply 51 = .ok (.invokevirtual 31, 3) := by decide +kernel
theorem dX0_multiply_54 : decode cX0_multiply 54 = .ok (.return_, 1) := by decide +kernel
abbrev cX0_degree : ByteArray := prog_1_method_7_code
def yX0_degree : MethodName := ⟨RX0, "degree", "(I)I"⟩
theorem dX0_degree_0 : decode cX0_degree 0 = .ok (.bipush 23, 2) := by decide +kernel
theorem dX0_degree_2 : decode cX0_degree 2 = .ok (.istore_n 2, 1) := by decide +kernel
theorem dX0_degree_3 : decode cX0_degree 3 = .ok (.iload_n 2, 1) := by decide +kernel
theorem dX0_degree_4 : decode cX0_degree 4 = .ok (.ifCond .lt 23, 3) := by decide +kernel
theorem dX0_degree_7 : decode cX0_degree 7 = .ok (.aload_n 0, 1) := by decide +kernel
theorem dX0_degree_8 : decode cX0_degree 8 = .ok (.getfield 7, 3) := by decide +kernel
theorem dX0_degree_11 : decode cX0_degree 11 = .ok (.iload_n 1, 1) := by decide +kernel
theorem dX0_degree_12 : decode cX0_degree 12 = .ok (.bipush 24, 2) := by decide +kernel
theorem dX0_degree_14 : decode cX0_degree 14 = .ok (.imul, 1) := by decide +kernel
theorem dX0_degree_15 : decode cX0_degree 15 = .ok (.iload_n 2, 1) := by decide +kernel
theorem dX0_degree_16 : decode cX0_degree 16 = .ok (.iadd, 1) := by decide +kernel
theorem dX0_degree_17 : decode cX0_degree 17 = .ok (.iaload, 1) := by decide +kernel
theorem dX0_degree_18 : decode cX0_degree 18 = .ok (.ifCond .ne 9, 3) := by decide +kernel
theorem dX0_degree_21 : decode cX0_degree 21 = .ok (.iinc 2 (-1), 3) := by decide +kernel
theorem dX0_degree_24 : decode cX0_degree 24 = .ok (.goto (-21), 3) := by decide +kernel
theorem dX0_degree_27 : decode cX0_degree 27 = .ok (.iload_n 2, 1) := by decide +kernel
theorem dX0_degree_28 : decode cX0_degree 28 = .ok (.ireturn, 1) := by decide +kernel
abbrev cX0_addTimes : ByteArray := prog_1_method_11_code
def yX0_addTimes : MethodName := ⟨RX0, "addTimes", "(IIII)V"⟩
theorem dX0_addTimes_0 : decode cX0_addTimes 0 = .ok (.iload 4, 2) := by decide +kernel
theorem dX0_addTimes_2 : decode cX0_addTimes 2 = .ok (.istore 5, 2) := by decide +kernel
theorem dX0_addTimes_4 : decode cX0_addTimes 4 = .ok (.iload 5, 2) := by decide +kernel
theorem dX0_addTimes_6 : decode cX0_addTimes 6 = .ok (.bipush 24, 2) := by decide +kernel
theorem dX0_addTimes_8 : decode cX0_addTimes 8 = .ok (.if_icmp .ge 54, 3) := by decide +kernel
theorem dX0_addTimes_11 : decode cX0_addTimes 11 = .ok (.aload_n 0, 1) := by decide +kernel
theorem dX0_addTimes_12 : decode cX0_addTimes 12 = .ok (.getfield 7, 3) := by decide +kernel
theorem dX0_addTimes_15 : decode cX0_addTimes 15 = .ok (.iload_n 1, 1) := by decide +kernel
theorem dX0_addTimes_16 : decode cX0_addTimes 16 = .ok (.bipush 24, 2) := by decide +kernel
theorem dX0_addTimes_18 : decode cX0_addTimes 18 = .ok (.imul, 1) := by decide +kernel
theorem dX0_addTimes_19 : decode cX0_addTimes 19 = .ok (.iload 5, 2) := by decide +kernel
theorem dX0_addTimes_21 : decode cX0_addTimes 21 = .ok (.iadd, 1) := by decide +kernel
theorem dX0_addTimes_22 : decode cX0_addTimes 22 = .ok (.aload_n 0, 1) := by decide +kernel
theorem dX0_addTimes_23 : decode cX0_addTimes 23 = .ok (.getfield 7, 3) := by decide +kernel
theorem dX0_addTimes_26 : decode cX0_addTimes 26 = .ok (.iload_n 1, 1) := by decide +kernel
theorem dX0_addTimes_27 : decode cX0_addTimes 27 = .ok (.bipush 24, 2) := by decide +kernel
theorem dX0_addTimes_29 : decode cX0_addTimes 29 = .ok (.imul, 1) := by decide +kernel
theorem dX0_addTimes_30 : decode cX0_addTimes 30 = .ok (.iload 5, 2) := by decide +kernel
theorem dX0_addTimes_32 : decode cX0_addTimes 32 = .ok (.iadd, 1) := by decide +kernel
theorem dX0_addTimes_33 : decode cX0_addTimes 33 = .ok (.iaload, 1) := by decide +kernel
theorem dX0_addTimes_34 : decode cX0_addTimes 34 = .ok (.iload_n 3, 1) := by decide +kernel
theorem dX0_addTimes_35 : decode cX0_addTimes 35 = .ok (.aload_n 0, 1) := by decide +kernel
theorem dX0_addTimes_36 : decode cX0_addTimes 36 = .ok (.getfield 7, 3) := by decide +kernel
theorem dX0_addTimes_39 : decode cX0_addTimes 39 = .ok (.iload_n 2, 1) := by decide +kernel
theorem dX0_addTimes_40 : decode cX0_addTimes 40 = .ok (.bipush 24, 2) := by decide +kernel
theorem dX0_addTimes_42 : decode cX0_addTimes 42 = .ok (.imul, 1) := by decide +kernel
theorem dX0_addTimes_43 : decode cX0_addTimes 43 = .ok (.iload 5, 2) := by decide +kernel
theorem dX0_addTimes_45 : decode cX0_addTimes 45 = .ok (.iadd, 1) := by decide +kernel
theorem dX0_addTimes_46 : decode cX0_addTimes 46 = .ok (.iload 4, 2) := by decide +kernel
theorem dX0_addTimes_48 : decode cX0_addTimes 48 = .ok (.isub, 1) := by decide +kernel
theorem dX0_addTimes_49 : decode cX0_addTimes 49 = .ok (.iaload, 1) := by decide +kernel
theorem dX0_addTimes_50 : decode cX0_addTimes 50 = .ok (.imul, 1) := by decide +kernel
theorem dX0_addTimes_51 : decode cX0_addTimes 51 = .ok (.iadd, 1) := by decide +kernel
theorem dX0_addTimes_52 : decode cX0_addTimes 52 = .ok (.invokestatic 16, 3) := by decide +kernel
theorem dX0_addTimes_55 : decode cX0_addTimes 55 = .ok (.iastore, 1) := by decide +kernel
theorem dX0_addTimes_56 : decode cX0_addTimes 56 = .ok (.iinc 5 1, 3) := by decide +kernel
theorem dX0_addTimes_59 : decode cX0_addTimes 59 = .ok (.goto (-55), 3) := by decide +kernel
theorem dX0_addTimes_62 : decode cX0_addTimes 62 = .ok (.return_, 1) := by decide +kernel
abbrev cX0_copyPoly : ByteArray := prog_1_method_9_code
def yX0_copyPoly : MethodName := ⟨RX0, "copyPoly", "(II)V"⟩
theorem dX0_copyPoly_0 : decode cX0_copyPoly 0 = .ok (.iconst 0, 1) := by decide +kernel
theorem dX0_copyPoly_1 : decode cX0_copyPoly 1 = .ok (.istore_n 3, 1) := by decide +kernel
theorem dX0_copyPoly_2 : decode cX0_copyPoly 2 = .ok (.iload_n 3, 1) := by decide +kernel
theorem dX0_copyPoly_3 : decode cX0_copyPoly 3 = .ok (.bipush 24, 2) := by decide +kernel
theorem dX0_copyPoly_5 : decode cX0_copyPoly 5 = .ok (.if_icmp .ge 31, 3) := by decide +kernel
theorem dX0_copyPoly_8 : decode cX0_copyPoly 8 = .ok (.aload_n 0, 1) := by decide +kernel
theorem dX0_copyPoly_9 : decode cX0_copyPoly 9 = .ok (.getfield 7, 3) := by decide +kernel
theorem dX0_copyPoly_12 : decode cX0_copyPoly 12 = .ok (.iload_n 1, 1) := by decide +kernel
theorem dX0_copyPoly_13 : decode cX0_copyPoly 13 = .ok (.bipush 24, 2) := by decide +kernel
theorem dX0_copyPoly_15 : decode cX0_copyPoly 15 = .ok (.imul, 1) := by decide +kernel
theorem dX0_copyPoly_16 : decode cX0_copyPoly 16 = .ok (.iload_n 3, 1) := by decide +kernel
theorem dX0_copyPoly_17 : decode cX0_copyPoly 17 = .ok (.iadd, 1) := by decide +kernel
theorem dX0_copyPoly_18 : decode cX0_copyPoly 18 = .ok (.aload_n 0, 1) := by decide +kernel
theorem dX0_copyPoly_19 : decode cX0_copyPoly 19 = .ok (.getfield 7, 3) := by decide +kernel
theorem dX0_copyPoly_22 : decode cX0_copyPoly 22 = .ok (.iload_n 2, 1) := by decide +kernel
theorem dX0_copyPoly_23 : decode cX0_copyPoly 23 = .ok (.bipush 24, 2) := by decide +kernel
theorem dX0_copyPoly_25 : decode cX0_copyPoly 25 = .ok (.imul, 1) := by decide +kernel
theorem dX0_copyPoly_26 : decode cX0_copyPoly 26 = .ok (.iload_n 3, 1) := by decide +kernel
theorem dX0_copyPoly_27 : decode cX0_copyPoly 27 = .ok (.iadd, 1) := by decide +kernel
theorem dX0_copyPoly_28 : decode cX0_copyPoly 28 = .ok (.iaload, 1) := by decide +kernel
theorem dX0_copyPoly_29 : decode cX0_copyPoly 29 = .ok (.iastore, 1) := by decide +kernel
theorem dX0_copyPoly_30 : decode cX0_copyPoly 30 = .ok (.iinc 3 1, 3) := by decide +kernel
theorem dX0_copyPoly_33 : decode cX0_copyPoly 33 = .ok (.goto (-31), 3) := by decide +kernel
theorem dX0_copyPoly_36 : decode cX0_copyPoly 36 = .ok (.return_, 1) := by decide +kernel
abbrev cX0_keep : ByteArray := prog_1_method_17_code
def yX0_keep : MethodName := ⟨RX0, "keep", "(I)I"⟩
theorem dX0_keep_0 : decode cX0_keep 0 = .ok (.aload_n 0, 1) := by decide +kernel
theorem dX0_keep_1 : decode cX0_keep 1 = .ok (.invokevirtual 47, 3) := by decide +kernel
theorem dX0_keep_4 : decode cX0_keep 4 = .ok (.aload_n 0, 1) := by decide +kernel
theorem dX0_keep_5 : decode cX0_keep 5 = .ok (.iconst 0, 1) := by decide +kernel
theorem dX0_keep_6 : decode cX0_keep 6 = .ok (.iconst 1, 1) := by decide +kernel
theorem dX0_keep_7 : decode cX0_keep 7 = .ok (.invokevirtual 50, 3) := by decide +kernel
theorem dX0_keep_10 : decode cX0_keep 10 = .ok (.istore_n 2, 1) := by decide +kernel
theorem dX0_keep_11 : decode cX0_keep 11 = .ok (.iload_n 2, 1) := by decide +kernel
theorem dX0_keep_12 : decode cX0_keep 12 = .ok (.bipush 8, 2) := by decide +kernel
theorem dX0_keep_14 : decode cX0_keep 14 = .ok (.if_icmp .le 6, 3) := by decide +kernel
theorem dX0_keep_17 : decode cX0_keep 17 = .ok (.bipush (-3), 2) := by decide +kernel
theorem dX0_keep_19 : decode cX0_keep 19 = .ok (.ireturn, 1) := by decide +kernel
theorem dX0_keep_20 : decode cX0_keep 20 = .ok (.iload_n 1, 1) := by decide +kernel
theorem dX0_keep_21 : decode cX0_keep 21 = .ok (.invokestatic 54, 3) := by decide +kernel
theorem dX0_keep_24 : decode cX0_keep 24 = .ok (.istore_n 3, 1) := by decide +kernel
theorem dX0_keep_25 : decode cX0_keep 25 = .ok (.iload_n 1, 1) := by decide +kernel
theorem dX0_keep_26 : decode cX0_keep 26 = .ok (.invokestatic 57, 3) := by decide +kernel
theorem dX0_keep_29 : decode cX0_keep 29 = .ok (.istore 4, 2) := by decide +kernel
theorem dX0_keep_31 : decode cX0_keep 31 = .ok (.aload_n 0, 1) := by decide +kernel
theorem dX0_keep_32 : decode cX0_keep 32 = .ok (.iload_n 3, 1) := by decide +kernel
theorem dX0_keep_33 : decode cX0_keep 33 = .ok (.iconst 0, 1) := by decide +kernel
theorem dX0_keep_34 : decode cX0_keep 34 = .ok (.invokevirtual 31, 3) := by decide +kernel
theorem dX0_keep_37 : decode cX0_keep 37 = .ok (.aload_n 0, 1) := by decide +kernel
theorem dX0_keep_38 : decode cX0_keep 38 = .ok (.iload 4, 2) := by decide +kernel
theorem dX0_keep_40 : decode cX0_keep 40 = .ok (.iconst 1, 1) := by decide +kernel
theorem dX0_keep_41 : decode cX0_keep 41 = .ok (.invokevirtual 31, 3) := by decide +kernel
theorem dX0_keep_44 : decode cX0_keep 44 = .ok (.iload_n 2, 1) := by decide +kernel
theorem dX0_keep_45 : decode cX0_keep 45 = .ok (.ireturn, 1) := by decide +kernel
abbrev cX0_reduce : ByteArray := prog_1_method_15_code
def yX0_reduce : MethodName := ⟨RX0, "reduce", "()V"⟩
theorem dX0_reduce_0 : decode cX0_reduce 0 = .ok (.aload_n 0, 1) := by decide +kernel
theorem dX0_reduce_1 : decode cX0_reduce 1 = .ok (.invokevirtual 41, 3) := by decide +kernel
theorem dX0_reduce_4 : decode cX0_reduce 4 = .ok (.aload_n 0, 1) := by decide +kernel
theorem dX0_reduce_5 : decode cX0_reduce 5 = .ok (.iconst 3, 1) := by decide +kernel
theorem dX0_reduce_6 : decode cX0_reduce 6 = .ok (.iconst 0, 1) := by decide +kernel
theorem dX0_reduce_7 : decode cX0_reduce 7 = .ok (.invokevirtual 31, 3) := by decide +kernel
theorem dX0_reduce_10 : decode cX0_reduce 10 = .ok (.aload_n 0, 1) := by decide +kernel
theorem dX0_reduce_11 : decode cX0_reduce 11 = .ok (.iconst 3, 1) := by decide +kernel
theorem dX0_reduce_12 : decode cX0_reduce 12 = .ok (.iconst 2, 1) := by decide +kernel
theorem dX0_reduce_13 : decode cX0_reduce 13 = .ok (.invokevirtual 38, 3) := by decide +kernel
theorem dX0_reduce_16 : decode cX0_reduce 16 = .ok (.aload_n 0, 1) := by decide +kernel
theorem dX0_reduce_17 : decode cX0_reduce 17 = .ok (.iconst 0, 1) := by decide +kernel
theorem dX0_reduce_18 : decode cX0_reduce 18 = .ok (.iconst 4, 1) := by decide +kernel
theorem dX0_reduce_19 : decode cX0_reduce 19 = .ok (.invokevirtual 31, 3) := by decide +kernel
theorem dX0_reduce_22 : decode cX0_reduce 22 = .ok (.aload_n 0, 1) := by decide +kernel
theorem dX0_reduce_23 : decode cX0_reduce 23 = .ok (.iconst 3, 1) := by decide +kernel
theorem dX0_reduce_24 : decode cX0_reduce 24 = .ok (.iconst 1, 1) := by decide +kernel
theorem dX0_reduce_25 : decode cX0_reduce 25 = .ok (.invokevirtual 31, 3) := by decide +kernel
theorem dX0_reduce_28 : decode cX0_reduce 28 = .ok (.aload_n 0, 1) := by decide +kernel
theorem dX0_reduce_29 : decode cX0_reduce 29 = .ok (.iconst 3, 1) := by decide +kernel
theorem dX0_reduce_30 : decode cX0_reduce 30 = .ok (.iconst 2, 1) := by decide +kernel
theorem dX0_reduce_31 : decode cX0_reduce 31 = .ok (.invokevirtual 38, 3) := by decide +kernel
theorem dX0_reduce_34 : decode cX0_reduce 34 = .ok (.aload_n 0, 1) := by decide +kernel
theorem dX0_reduce_35 : decode cX0_reduce 35 = .ok (.iconst 1, 1) := by decide +kernel
theorem dX0_reduce_36 : decode cX0_reduce 36 = .ok (.iconst 4, 1) := by decide +kernel
theorem dX0_reduce_37 : decode cX0_reduce 37 = .ok (.invokevirtual 31, 3) := by decide +kernel
theorem dX0_reduce_40 : decode cX0_reduce 40 = .ok (.aload_n 0, 1) := by decide +kernel
theorem dX0_reduce_41 : decode cX0_reduce 41 = .ok (.getfield 7, 3) := by decide +kernel
theorem dX0_reduce_44 : decode cX0_reduce 44 = .ok (.bipush 24, 2) := by decide +kernel
theorem dX0_reduce_46 : decode cX0_reduce 46 = .ok (.iaload, 1) := by decide +kernel
theorem dX0_reduce_47 : decode cX0_reduce 47 = .ok (.invokestatic 35, 3) := by decide +kernel
theorem dX0_reduce_50 : decode cX0_reduce 50 = .ok (.istore_n 1, 1) := by decide +kernel
theorem dX0_reduce_51 : decode cX0_reduce 51 = .ok (.aload_n 0, 1) := by decide +kernel
theorem dX0_reduce_52 : decode cX0_reduce 52 = .ok (.iconst 0, 1) := by decide +kernel
theorem dX0_reduce_53 : decode cX0_reduce 53 = .ok (.iload_n 1, 1) := by decide +kernel
theorem dX0_reduce_54 : decode cX0_reduce 54 = .ok (.invokevirtual 44, 3) := by decide +kernel
theorem dX0_reduce_57 : decode cX0_reduce 57 = .ok (.aload_n 0, 1) := by decide +kernel
theorem dX0_reduce_58 : decode cX0_reduce 58 = .ok (.iconst 1, 1) := by decide +kernel
theorem dX0_reduce_59 : decode cX0_reduce 59 = .ok (.iload_n 1, 1) := by decide +kernel
theorem dX0_reduce_60 : decode cX0_reduce 60 = .ok (.invokevirtual 44, 3) := by decide +kernel
theorem dX0_reduce_63 : decode cX0_reduce 63 = .ok (.return_, 1) := by decide +kernel
abbrev cX0_commonFactor : ByteArray := prog_1_method_14_code
def yX0_commonFactor : MethodName := ⟨RX0, "commonFactor", "()V"⟩
theorem dX0_commonFactor_0 : decode cX0_commonFactor 0 = .ok (.aload_n 0, 1) := by decide +kernel
theorem dX0_commonFactor_1 : decode cX0_commonFactor 1 = .ok (.iconst 2, 1) := by decide +kernel
theorem dX0_commonFactor_2 : decode cX0_commonFactor 2 = .ok (.iconst 0, 1) := by decide +kernel
theorem dX0_commonFactor_3 : decode cX0_commonFactor 3 = .ok (.invokevirtual 31, 3) := by decide +kernel
theorem dX0_commonFactor_6 : decode cX0_commonFactor 6 = .ok (.aload_n 0, 1) := by decide +kernel
theorem dX0_commonFactor_7 : decode cX0_commonFactor 7 = .ok (.iconst 3, 1) := by decide +kernel
theorem dX0_commonFactor_8 : decode cX0_commonFactor 8 = .ok (.iconst 1, 1) := by decide +kernel
theorem dX0_commonFactor_9 : decode cX0_commonFactor 9 = .ok (.invokevirtual 31, 3) := by decide +kernel
theorem dX0_commonFactor_12 : decode cX0_commonFactor 12 = .ok (.aload_n 0, 1) := by decide +kernel
theorem dX0_commonFactor_13 : decode cX0_commonFactor 13 = .ok (.iconst 3, 1) := by decide +kernel
theorem dX0_commonFactor_14 : decode cX0_commonFactor 14 = .ok (.invokevirtual 24, 3) := by decide +kernel
theorem dX0_commonFactor_17 : decode cX0_commonFactor 17 = .ok (.istore_n 1, 1) := by decide +kernel
theorem dX0_commonFactor_18 : decode cX0_commonFactor 18 = .ok (.iconst 0, 1) := by decide +kernel
theorem dX0_commonFactor_19 : decode cX0_commonFactor 19 = .ok (.istore_n 2, 1) := by decide +kernel
theorem dX0_commonFactor_20 : decode cX0_commonFactor 20 = .ok (.iload_n 2, 1) := by decide +kernel
theorem dX0_commonFactor_21 : decode cX0_commonFactor 21 = .ok (.bipush 24, 2) := by decide +kernel
theorem dX0_commonFactor_23 : decode cX0_commonFactor 23 = .ok (.if_icmp .ge 43, 3) := by decide +kernel
theorem dX0_commonFactor_26 : decode cX0_commonFactor 26 = .ok (.iload_n 1, 1) := by decide +kernel
theorem dX0_commonFactor_27 : decode cX0_commonFactor 27 = .ok (.ifCond .lt 39, 3) := by decide +kernel
theorem dX0_commonFactor_30 : decode cX0_commonFactor 30 = .ok (.aload_n 0, 1) := by decide +kernel
theorem dX0_commonFactor_31 : decode cX0_commonFactor 31 = .ok (.iconst 2, 1) := by decide +kernel
theorem dX0_commonFactor_32 : decode cX0_commonFactor 32 = .ok (.iconst 3, 1) := by decide +kernel
theorem dX0_commonFactor_33 : decode cX0_commonFactor 33 = .ok (.invokevirtual 38, 3) := by decide +kernel
theorem dX0_commonFactor_36 : decode cX0_commonFactor 36 = .ok (.aload_n 0, 1) := by decide +kernel
theorem dX0_commonFactor_37 : decode cX0_commonFactor 37 = .ok (.iconst 4, 1) := by decide +kernel
theorem dX0_commonFactor_38 : decode cX0_commonFactor 38 = .ok (.iconst 2, 1) := by decide +kernel
theorem dX0_commonFactor_39 : decode cX0_commonFactor 39 = .ok (.invokevirtual 31, 3) := by decide +kernel
theorem dX0_commonFactor_42 : decode cX0_commonFactor 42 = .ok (.aload_n 0, 1) := by decide +kernel
theorem dX0_commonFactor_43 : decode cX0_commonFactor 43 = .ok (.iconst 2, 1) := by decide +kernel
theorem dX0_commonFactor_44 : decode cX0_commonFactor 44 = .ok (.iconst 3, 1) := by decide +kernel
theorem dX0_commonFactor_45 : decode cX0_commonFactor 45 = .ok (.invokevirtual 31, 3) := by decide +kernel
theorem dX0_commonFactor_48 : decode cX0_commonFactor 48 = .ok (.aload_n 0, 1) := by decide +kernel
theorem dX0_commonFactor_49 : decode cX0_commonFactor 49 = .ok (.iconst 3, 1) := by decide +kernel
theorem dX0_commonFactor_50 : decode cX0_commonFactor 50 = .ok (.iconst 4, 1) := by decide +kernel
theorem dX0_commonFactor_51 : decode cX0_commonFactor 51 = .ok (.invokevirtual 31, 3) := by decide +kernel
theorem dX0_commonFactor_54 : decode cX0_commonFactor 54 = .ok (.aload_n 0, 1) := by decide +kernel
theorem dX0_commonFactor_55 : decode cX0_commonFactor 55 = .ok (.iconst 3, 1) := by decide +kernel
theorem dX0_commonFactor_56 : decode cX0_commonFactor 56 = .ok (.invokevirtual 24, 3) := by decide +kernel
theorem dX0_commonFactor_59 : decode cX0_commonFactor 59 = .ok (.istore_n 1, 1) := by decide +kernel
theorem dX0_commonFactor_60 : decode cX0_commonFactor 60 = .ok (.iinc 2 1, 3) := by decide +kernel
theorem dX0_commonFactor_63 : decode cX0_commonFactor 63 = .ok (.goto (-43), 3) := by decide +kernel
theorem dX0_commonFactor_66 : decode cX0_commonFactor 66 = .ok (.return_, 1) := by decide +kernel
abbrev cX0_divide : ByteArray := prog_1_method_13_code
def yX0_divide : MethodName := ⟨RX0, "divide", "(II)V"⟩
theorem dX0_divide_0 : decode cX0_divide 0 = .ok (.aload_n 0, 1) := by decide +kernel
theorem dX0_divide_1 : decode cX0_divide 1 = .ok (.iconst 4, 1) := by decide +kernel
theorem dX0_divide_2 : decode cX0_divide 2 = .ok (.invokevirtual 20, 3) := by decide +kernel
theorem dX0_divide_5 : decode cX0_divide 5 = .ok (.aload_n 0, 1) := by decide +kernel
theorem dX0_divide_6 : decode cX0_divide 6 = .ok (.iload_n 2, 1) := by decide +kernel
theorem dX0_divide_7 : decode cX0_divide 7 = .ok (.invokevirtual 24, 3) := by decide +kernel
theorem dX0_divide_10 : decode cX0_divide 10 = .ok (.istore_n 3, 1) := by decide +kernel
theorem dX0_divide_11 : decode cX0_divide 11 = .ok (.iload_n 3, 1) := by decide +kernel
theorem dX0_divide_12 : decode cX0_divide 12 = .ok (.ifCond .ge 4, 3) := by decide +kernel
theorem dX0_divide_15 : decode cX0_divide 15 = .ok (.return_, 1) := by decide +kernel
theorem dX0_divide_16 : decode cX0_divide 16 = .ok (.aload_n 0, 1) := by decide +kernel
theorem dX0_divide_17 : decode cX0_divide 17 = .ok (.getfield 7, 3) := by decide +kernel
theorem dX0_divide_20 : decode cX0_divide 20 = .ok (.iload_n 2, 1) := by decide +kernel
theorem dX0_divide_21 : decode cX0_divide 21 = .ok (.bipush 24, 2) := by decide +kernel
theorem dX0_divide_23 : decode cX0_divide 23 = .ok (.imul, 1) := by decide +kernel
theorem dX0_divide_24 : decode cX0_divide 24 = .ok (.iload_n 3, 1) := by decide +kernel
theorem dX0_divide_25 : decode cX0_divide 25 = .ok (.iadd, 1) := by decide +kernel
theorem dX0_divide_26 : decode cX0_divide 26 = .ok (.iaload, 1) := by decide +kernel
theorem dX0_divide_27 : decode cX0_divide 27 = .ok (.invokestatic 35, 3) := by decide +kernel
theorem dX0_divide_30 : decode cX0_divide 30 = .ok (.istore 4, 2) := by decide +kernel
theorem dX0_divide_32 : decode cX0_divide 32 = .ok (.bipush 23, 2) := by decide +kernel
theorem dX0_divide_34 : decode cX0_divide 34 = .ok (.istore 5, 2) := by decide +kernel
theorem dX0_divide_36 : decode cX0_divide 36 = .ok (.iload 5, 2) := by decide +kernel
theorem dX0_divide_38 : decode cX0_divide 38 = .ok (.iload_n 3, 1) := by decide +kernel
theorem dX0_divide_39 : decode cX0_divide 39 = .ok (.if_icmp .lt 58, 3) := by decide +kernel
theorem dX0_divide_42 : decode cX0_divide 42 = .ok (.aload_n 0, 1) := by decide +kernel
theorem dX0_divide_43 : decode cX0_divide 43 = .ok (.getfield 7, 3) := by decide +kernel
theorem dX0_divide_46 : decode cX0_divide 46 = .ok (.iload_n 1, 1) := by decide +kernel
theorem dX0_divide_47 : decode cX0_divide 47 = .ok (.bipush 24, 2) := by decide +kernel
theorem dX0_divide_49 : decode cX0_divide 49 = .ok (.imul, 1) := by decide +kernel
theorem dX0_divide_50 : decode cX0_divide 50 = .ok (.iload 5, 2) := by decide +kernel
theorem dX0_divide_52 : decode cX0_divide 52 = .ok (.iadd, 1) := by decide +kernel
theorem dX0_divide_53 : decode cX0_divide 53 = .ok (.iaload, 1) := by decide +kernel
theorem dX0_divide_54 : decode cX0_divide 54 = .ok (.iload 4, 2) := by decide +kernel
theorem dX0_divide_56 : decode cX0_divide 56 = .ok (.imul, 1) := by decide +kernel
theorem dX0_divide_57 : decode cX0_divide 57 = .ok (.bipush 101, 2) := by decide +kernel
theorem dX0_divide_59 : decode cX0_divide 59 = .ok (.irem, 1) := by decide +kernel
theorem dX0_divide_60 : decode cX0_divide 60 = .ok (.istore 6, 2) := by decide +kernel
theorem dX0_divide_62 : decode cX0_divide 62 = .ok (.aload_n 0, 1) := by decide +kernel
theorem dX0_divide_63 : decode cX0_divide 63 = .ok (.getfield 7, 3) := by decide +kernel
theorem dX0_divide_66 : decode cX0_divide 66 = .ok (.bipush 96, 2) := by decide +kernel
theorem dX0_divide_68 : decode cX0_divide 68 = .ok (.iload 5, 2) := by decide +kernel
theorem dX0_divide_70 : decode cX0_divide 70 = .ok (.iadd, 1) := by decide +kernel
theorem dX0_divide_71 : decode cX0_divide 71 = .ok (.iload_n 3, 1) := by decide +kernel
theorem dX0_divide_72 : decode cX0_divide 72 = .ok (.isub, 1) := by decide +kernel
theorem dX0_divide_73 : decode cX0_divide 73 = .ok (.iload 6, 2) := by decide +kernel
theorem dX0_divide_75 : decode cX0_divide 75 = .ok (.iastore, 1) := by decide +kernel
theorem dX0_divide_76 : decode cX0_divide 76 = .ok (.aload_n 0, 1) := by decide +kernel
theorem dX0_divide_77 : decode cX0_divide 77 = .ok (.iload_n 1, 1) := by decide +kernel
theorem dX0_divide_78 : decode cX0_divide 78 = .ok (.iload_n 2, 1) := by decide +kernel
theorem dX0_divide_79 : decode cX0_divide 79 = .ok (.bipush 101, 2) := by decide +kernel
theorem dX0_divide_81 : decode cX0_divide 81 = .ok (.iload 6, 2) := by decide +kernel
theorem dX0_divide_83 : decode cX0_divide 83 = .ok (.isub, 1) := by decide +kernel
theorem dX0_divide_84 : decode cX0_divide 84 = .ok (.iload 5, 2) := by decide +kernel
theorem dX0_divide_86 : decode cX0_divide 86 = .ok (.iload_n 3, 1) := by decide +kernel
theorem dX0_divide_87 : decode cX0_divide 87 = .ok (.isub, 1) := by decide +kernel
theorem dX0_divide_88 : decode cX0_divide 88 = .ok (.invokevirtual 27, 3) := by decide +kernel
theorem dX0_divide_91 : decode cX0_divide 91 = .ok (.iinc 5 (-1), 3) := by decide +kernel
theorem dX0_divide_94 : decode cX0_divide 94 = .ok (.goto (-58), 3) := by decide +kernel
theorem dX0_divide_97 : decode cX0_divide 97 = .ok (.return_, 1) := by decide +kernel
abbrev cX0_inverse : ByteArray := prog_1_method_6_code
def yX0_inverse : MethodName := ⟨RX0, "inverse", "(I)I"⟩
theorem dX0_inverse_0 : decode cX0_inverse 0 = .ok (.iconst 1, 1) := by decide +kernel
theorem dX0_inverse_1 : decode cX0_inverse 1 = .ok (.istore_n 1, 1) := by decide +kernel
theorem dX0_inverse_2 : decode cX0_inverse 2 = .ok (.iconst 0, 1) := by decide +kernel
theorem dX0_inverse_3 : decode cX0_inverse 3 = .ok (.istore_n 2, 1) := by decide +kernel
theorem dX0_inverse_4 : decode cX0_inverse 4 = .ok (.iload_n 2, 1) := by decide +kernel
theorem dX0_inverse_5 : decode cX0_inverse 5 = .ok (.bipush 99, 2) := by decide +kernel
theorem dX0_inverse_7 : decode cX0_inverse 7 = .ok (.if_icmp .ge 16, 3) := by decide +kernel
theorem dX0_inverse_10 : decode cX0_inverse 10 = .ok (.iload_n 1, 1) := by decide +kernel
theorem dX0_inverse_11 : decode cX0_inverse 11 = .ok (.iload_n 0, 1) := by decide +kernel
theorem dX0_inverse_12 : decode cX0_inverse 12 = .ok (.imul, 1) := by decide +kernel
theorem dX0_inverse_13 : decode cX0_inverse 13 = .ok (.bipush 101, 2) := by decide +kernel
theorem dX0_inverse_15 : decode cX0_inverse 15 = .ok (.irem, 1) := by decide +kernel
theorem dX0_inverse_16 : decode cX0_inverse 16 = .ok (.istore_n 1, 1) := by decide +kernel
theorem dX0_inverse_17 : decode cX0_inverse 17 = .ok (.iinc 2 1, 3) := by decide +kernel
theorem dX0_inverse_20 : decode cX0_inverse 20 = .ok (.goto (-16), 3) := by decide +kernel
theorem dX0_inverse_23 : decode cX0_inverse 23 = .ok (.iload_n 1, 1) := by decide +kernel
theorem dX0_inverse_24 : decode cX0_inverse 24 = .ok (.ireturn, 1) := by decide +kernel
abbrev cX0_scalePoly : ByteArray := prog_1_method_10_code
def yX0_scalePoly : MethodName := ⟨RX0, "scalePoly", "(II)V"⟩
theorem dX0_scalePoly_0 : decode cX0_scalePoly 0 = .ok (.iconst 0, 1) := by decide +kernel
theorem dX0_scalePoly_1 : decode cX0_scalePoly 1 = .ok (.istore_n 3, 1) := by decide +kernel
theorem dX0_scalePoly_2 : decode cX0_scalePoly 2 = .ok (.iload_n 3, 1) := by decide +kernel
theorem dX0_scalePoly_3 : decode cX0_scalePoly 3 = .ok (.bipush 24, 2) := by decide +kernel
theorem dX0_scalePoly_5 : decode cX0_scalePoly 5 = .ok (.if_icmp .ge 36, 3) := by decide +kernel
theorem dX0_scalePoly_8 : decode cX0_scalePoly 8 = .ok (.aload_n 0, 1) := by decide +kernel
theorem dX0_scalePoly_9 : decode cX0_scalePoly 9 = .ok (.getfield 7, 3) := by decide +kernel
theorem dX0_scalePoly_12 : decode cX0_scalePoly 12 = .ok (.iload_n 1, 1) := by decide +kernel
theorem dX0_scalePoly_13 : decode cX0_scalePoly 13 = .ok (.bipush 24, 2) := by decide +kernel
theorem dX0_scalePoly_15 : decode cX0_scalePoly 15 = .ok (.imul, 1) := by decide +kernel
theorem dX0_scalePoly_16 : decode cX0_scalePoly 16 = .ok (.iload_n 3, 1) := by decide +kernel
theorem dX0_scalePoly_17 : decode cX0_scalePoly 17 = .ok (.iadd, 1) := by decide +kernel
theorem dX0_scalePoly_18 : decode cX0_scalePoly 18 = .ok (.aload_n 0, 1) := by decide +kernel
theorem dX0_scalePoly_19 : decode cX0_scalePoly 19 = .ok (.getfield 7, 3) := by decide +kernel
theorem dX0_scalePoly_22 : decode cX0_scalePoly 22 = .ok (.iload_n 1, 1) := by decide +kernel
theorem dX0_scalePoly_23 : decode cX0_scalePoly 23 = .ok (.bipush 24, 2) := by decide +kernel
theorem dX0_scalePoly_25 : decode cX0_scalePoly 25 = .ok (.imul, 1) := by decide +kernel
theorem dX0_scalePoly_26 : decode cX0_scalePoly 26 = .ok (.iload_n 3, 1) := by decide +kernel
theorem dX0_scalePoly_27 : decode cX0_scalePoly 27 = .ok (.iadd, 1) := by decide +kernel
theorem dX0_scalePoly_28 : decode cX0_scalePoly 28 = .ok (.iaload, 1) := by decide +kernel
theorem dX0_scalePoly_29 : decode cX0_scalePoly 29 = .ok (.iload_n 2, 1) := by decide +kernel
theorem dX0_scalePoly_30 : decode cX0_scalePoly 30 = .ok (.imul, 1) := by decide +kernel
theorem dX0_scalePoly_31 : decode cX0_scalePoly 31 = .ok (.bipush 101, 2) := by decide +kernel
theorem dX0_scalePoly_33 : decode cX0_scalePoly 33 = .ok (.irem, 1) := by decide +kernel
theorem dX0_scalePoly_34 : decode cX0_scalePoly 34 = .ok (.iastore, 1) := by decide +kernel
theorem dX0_scalePoly_35 : decode cX0_scalePoly 35 = .ok (.iinc 3 1, 3) := by decide +kernel
theorem dX0_scalePoly_38 : decode cX0_scalePoly 38 = .ok (.goto (-36), 3) := by decide +kernel
theorem dX0_scalePoly_41 : decode cX0_scalePoly 41 = .ok (.return_, 1) := by decide +kernel
abbrev cX0_orderOf : ByteArray := prog_1_method_16_code
def yX0_orderOf : MethodName := ⟨RX0, "orderOf", "(II)I"⟩
theorem dX0_orderOf_0 : decode cX0_orderOf 0 = .ok (.aload_n 0, 1) := by decide +kernel
theorem dX0_orderOf_1 : decode cX0_orderOf 1 = .ok (.iload_n 1, 1) := by decide +kernel
theorem dX0_orderOf_2 : decode cX0_orderOf 2 = .ok (.invokevirtual 24, 3) := by decide +kernel
theorem dX0_orderOf_5 : decode cX0_orderOf 5 = .ok (.iconst 1, 1) := by decide +kernel
theorem dX0_orderOf_6 : decode cX0_orderOf 6 = .ok (.iadd, 1) := by decide +kernel
theorem dX0_orderOf_7 : decode cX0_orderOf 7 = .ok (.istore_n 3, 1) := by decide +kernel
theorem dX0_orderOf_8 : decode cX0_orderOf 8 = .ok (.aload_n 0, 1) := by decide +kernel
theorem dX0_orderOf_9 : decode cX0_orderOf 9 = .ok (.iload_n 2, 1) := by decide +kernel
theorem dX0_orderOf_10 : decode cX0_orderOf 10 = .ok (.invokevirtual 24, 3) := by decide +kernel
theorem dX0_orderOf_13 : decode cX0_orderOf 13 = .ok (.istore 4, 2) := by decide +kernel
theorem dX0_orderOf_15 : decode cX0_orderOf 15 = .ok (.iload_n 3, 1) := by decide +kernel
theorem dX0_orderOf_16 : decode cX0_orderOf 16 = .ok (.iload 4, 2) := by decide +kernel
theorem dX0_orderOf_18 : decode cX0_orderOf 18 = .ok (.if_icmp .le 7, 3) := by decide +kernel
theorem dX0_orderOf_21 : decode cX0_orderOf 21 = .ok (.iload_n 3, 1) := by decide +kernel
theorem dX0_orderOf_22 : decode cX0_orderOf 22 = .ok (.goto 5, 3) := by decide +kernel
theorem dX0_orderOf_25 : decode cX0_orderOf 25 = .ok (.iload 4, 2) := by decide +kernel
theorem dX0_orderOf_27 : decode cX0_orderOf 27 = .ok (.ireturn, 1) := by decide +kernel
abbrev cX0_top : ByteArray := prog_1_method_3_code
def yX0_top : MethodName := ⟨RX0, "top", "(I)I"⟩
theorem dX0_top_0 : decode cX0_top 0 = .ok (.iconst 5, 1) := by decide +kernel
theorem dX0_top_1 : decode cX0_top 1 = .ok (.iconst 2, 1) := by decide +kernel
theorem dX0_top_2 : decode cX0_top 2 = .ok (.iload_n 0, 1) := by decide +kernel
theorem dX0_top_3 : decode cX0_top 3 = .ok (.imul, 1) := by decide +kernel
theorem dX0_top_4 : decode cX0_top 4 = .ok (.iadd, 1) := by decide +kernel
theorem dX0_top_5 : decode cX0_top 5 = .ok (.ireturn, 1) := by decide +kernel
abbrev cX0_bottom : ByteArray := prog_1_method_4_code
def yX0_bottom : MethodName := ⟨RX0, "bottom", "(I)I"⟩
theorem dX0_bottom_0 : decode cX0_bottom 0 = .ok (.iconst 5, 1) := by decide +kernel
theorem dX0_bottom_1 : decode cX0_bottom 1 = .ok (.iconst 2, 1) := by decide +kernel
theorem dX0_bottom_2 : decode cX0_bottom 2 = .ok (.iload_n 0, 1) := by decide +kernel
theorem dX0_bottom_3 : decode cX0_bottom 3 = .ok (.imul, 1) := by decide +kernel
theorem dX0_bottom_4 : decode cX0_bottom 4 = .ok (.iadd, 1) := by decide +kernel
theorem dX0_bottom_5 : decode cX0_bottom 5 = .ok (.iconst 1, 1) := by decide +kernel
theorem dX0_bottom_6 : decode cX0_bottom 6 = .ok (.iadd, 1) := by decide +kernel
theorem dX0_bottom_7 : decode cX0_bottom 7 = .ok (.ireturn, 1) := by decide +kernel
abbrev cX0_add : ByteArray := prog_1_method_21_code
def yX0_add : MethodName := ⟨RX0, "add", "(III)I"⟩
theorem dX0_add_0 : decode cX0_add 0 = .ok (.iload_n 1, 1) := by decide +kernel
theorem dX0_add_1 : decode cX0_add 1 = .ok (.invokestatic 60, 3) := by decide +kernel
theorem dX0_add_4 : decode cX0_add 4 = .ok (.ifCond .ne 17, 3) := by decide +kernel
theorem dX0_add_7 : decode cX0_add 7 = .ok (.iload_n 2, 1) := by decide +kernel
theorem dX0_add_8 : decode cX0_add 8 = .ok (.invokestatic 60, 3) := by decide +kernel
theorem dX0_add_11 : decode cX0_add 11 = .ok (.ifCond .ne 10, 3) := by decide +kernel
theorem dX0_add_14 : decode cX0_add 14 = .ok (.iload_n 3, 1) := by decide +kernel
theorem dX0_add_15 : decode cX0_add 15 = .ok (.invokestatic 60, 3) := by decide +kernel
theorem dX0_add_18 : decode cX0_add 18 = .ok (.ifCond .eq 5, 3) := by decide +kernel
theorem dX0_add_21 : decode cX0_add 21 = .ok (.iconst (-1), 1) := by decide +kernel
theorem dX0_add_22 : decode cX0_add 22 = .ok (.ireturn, 1) := by decide +kernel
theorem dX0_add_23 : decode cX0_add 23 = .ok (.iload_n 2, 1) := by decide +kernel
theorem dX0_add_24 : decode cX0_add 24 = .ok (.invokestatic 54, 3) := by decide +kernel
theorem dX0_add_27 : decode cX0_add 27 = .ok (.istore 4, 2) := by decide +kernel
theorem dX0_add_29 : decode cX0_add 29 = .ok (.iload_n 2, 1) := by decide +kernel
theorem dX0_add_30 : decode cX0_add 30 = .ok (.invokestatic 57, 3) := by decide +kernel
theorem dX0_add_33 : decode cX0_add 33 = .ok (.istore 5, 2) := by decide +kernel
theorem dX0_add_35 : decode cX0_add 35 = .ok (.iload_n 3, 1) := by decide +kernel
theorem dX0_add_36 : decode cX0_add 36 = .ok (.invokestatic 54, 3) := by decide +kernel
theorem dX0_add_39 : decode cX0_add 39 = .ok (.istore 6, 2) := by decide +kernel
theorem dX0_add_41 : decode cX0_add 41 = .ok (.iload_n 3, 1) := by decide +kernel
theorem dX0_add_42 : decode cX0_add 42 = .ok (.invokestatic 57, 3) := by decide +kernel
theorem dX0_add_45 : decode cX0_add 45 = .ok (.istore 7, 2) := by decide +kernel
theorem dX0_add_47 : decode cX0_add 47 = .ok (.aload_n 0, 1) := by decide +kernel
theorem dX0_add_48 : decode cX0_add 48 = .ok (.iconst 0, 1) := by decide +kernel
theorem dX0_add_49 : decode cX0_add 49 = .ok (.iload 4, 2) := by decide +kernel
theorem dX0_add_51 : decode cX0_add 51 = .ok (.iload 7, 2) := by decide +kernel
theorem dX0_add_53 : decode cX0_add 53 = .ok (.invokevirtual 65, 3) := by decide +kernel
theorem dX0_add_56 : decode cX0_add 56 = .ok (.aload_n 0, 1) := by decide +kernel
theorem dX0_add_57 : decode cX0_add 57 = .ok (.iconst 2, 1) := by decide +kernel
theorem dX0_add_58 : decode cX0_add 58 = .ok (.iload 6, 2) := by decide +kernel
theorem dX0_add_60 : decode cX0_add 60 = .ok (.iload 5, 2) := by decide +kernel
theorem dX0_add_62 : decode cX0_add 62 = .ok (.invokevirtual 65, 3) := by decide +kernel
theorem dX0_add_65 : decode cX0_add 65 = .ok (.aload_n 0, 1) := by decide +kernel
theorem dX0_add_66 : decode cX0_add 66 = .ok (.iconst 0, 1) := by decide +kernel
theorem dX0_add_67 : decode cX0_add 67 = .ok (.iconst 2, 1) := by decide +kernel
theorem dX0_add_68 : decode cX0_add 68 = .ok (.iconst 1, 1) := by decide +kernel
theorem dX0_add_69 : decode cX0_add 69 = .ok (.iconst 0, 1) := by decide +kernel
theorem dX0_add_70 : decode cX0_add 70 = .ok (.invokevirtual 27, 3) := by decide +kernel
theorem dX0_add_73 : decode cX0_add 73 = .ok (.aload_n 0, 1) := by decide +kernel
theorem dX0_add_74 : decode cX0_add 74 = .ok (.iconst 1, 1) := by decide +kernel
theorem dX0_add_75 : decode cX0_add 75 = .ok (.iload 5, 2) := by decide +kernel
theorem dX0_add_77 : decode cX0_add 77 = .ok (.iload 7, 2) := by decide +kernel
theorem dX0_add_79 : decode cX0_add 79 = .ok (.invokevirtual 65, 3) := by decide +kernel
theorem dX0_add_82 : decode cX0_add 82 = .ok (.aload_n 0, 1) := by decide +kernel
theorem dX0_add_83 : decode cX0_add 83 = .ok (.iload_n 1, 1) := by decide +kernel
theorem dX0_add_84 : decode cX0_add 84 = .ok (.invokevirtual 69, 3) := by decide +kernel
theorem dX0_add_87 : decode cX0_add 87 = .ok (.ireturn, 1) := by decide +kernel
abbrev cX0_scale : ByteArray := prog_1_method_22_code
def yX0_scale : MethodName := ⟨RX0, "scale", "(II)I"⟩
theorem dX0_scale_0 : decode cX0_scale 0 = .ok (.iload_n 1, 1) := by decide +kernel
theorem dX0_scale_1 : decode cX0_scale 1 = .ok (.invokestatic 60, 3) := by decide +kernel
theorem dX0_scale_4 : decode cX0_scale 4 = .ok (.ifCond .eq 5, 3) := by decide +kernel
theorem dX0_scale_7 : decode cX0_scale 7 = .ok (.iconst (-1), 1) := by decide +kernel
theorem dX0_scale_8 : decode cX0_scale 8 = .ok (.ireturn, 1) := by decide +kernel
theorem dX0_scale_9 : decode cX0_scale 9 = .ok (.aload_n 0, 1) := by decide +kernel
theorem dX0_scale_10 : decode cX0_scale 10 = .ok (.iload_n 1, 1) := by decide +kernel
theorem dX0_scale_11 : decode cX0_scale 11 = .ok (.invokevirtual 72, 3) := by decide +kernel
theorem dX0_scale_14 : decode cX0_scale 14 = .ok (.iload_n 2, 1) := by decide +kernel
theorem dX0_scale_15 : decode cX0_scale 15 = .ok (.invokestatic 16, 3) := by decide +kernel
theorem dX0_scale_18 : decode cX0_scale 18 = .ok (.istore_n 3, 1) := by decide +kernel
theorem dX0_scale_19 : decode cX0_scale 19 = .ok (.aload_n 0, 1) := by decide +kernel
theorem dX0_scale_20 : decode cX0_scale 20 = .ok (.iconst 0, 1) := by decide +kernel
theorem dX0_scale_21 : decode cX0_scale 21 = .ok (.iload_n 3, 1) := by decide +kernel
theorem dX0_scale_22 : decode cX0_scale 22 = .ok (.invokevirtual 44, 3) := by decide +kernel
theorem dX0_scale_25 : decode cX0_scale 25 = .ok (.aload_n 0, 1) := by decide +kernel
theorem dX0_scale_26 : decode cX0_scale 26 = .ok (.iload_n 1, 1) := by decide +kernel
theorem dX0_scale_27 : decode cX0_scale 27 = .ok (.invokevirtual 69, 3) := by decide +kernel
theorem dX0_scale_30 : decode cX0_scale 30 = .ok (.ireturn, 1) := by decide +kernel
abbrev cX0_load : ByteArray := prog_1_method_18_code
def yX0_load : MethodName := ⟨RX0, "load", "(I)V"⟩
theorem dX0_load_0 : decode cX0_load 0 = .ok (.iload_n 1, 1) := by decide +kernel
theorem dX0_load_1 : decode cX0_load 1 = .ok (.invokestatic 54, 3) := by decide +kernel
theorem dX0_load_4 : decode cX0_load 4 = .ok (.istore_n 2, 1) := by decide +kernel
theorem dX0_load_5 : decode cX0_load 5 = .ok (.iload_n 1, 1) := by decide +kernel
theorem dX0_load_6 : decode cX0_load 6 = .ok (.invokestatic 57, 3) := by decide +kernel
theorem dX0_load_9 : decode cX0_load 9 = .ok (.istore_n 3, 1) := by decide +kernel
theorem dX0_load_10 : decode cX0_load 10 = .ok (.aload_n 0, 1) := by decide +kernel
theorem dX0_load_11 : decode cX0_load 11 = .ok (.iconst 0, 1) := by decide +kernel
theorem dX0_load_12 : decode cX0_load 12 = .ok (.iload_n 2, 1) := by decide +kernel
theorem dX0_load_13 : decode cX0_load 13 = .ok (.invokevirtual 31, 3) := by decide +kernel
theorem dX0_load_16 : decode cX0_load 16 = .ok (.aload_n 0, 1) := by decide +kernel
theorem dX0_load_17 : decode cX0_load 17 = .ok (.iconst 1, 1) := by decide +kernel
theorem dX0_load_18 : decode cX0_load 18 = .ok (.iload_n 3, 1) := by decide +kernel
theorem dX0_load_19 : decode cX0_load 19 = .ok (.invokevirtual 31, 3) := by decide +kernel
theorem dX0_load_22 : decode cX0_load 22 = .ok (.return_, 1) := by decide +kernel
abbrev cX0_advance : ByteArray := prog_1_method_23_code
def yX0_advance : MethodName := ⟨RX0, "advance", "(I)I"⟩
theorem dX0_advance_0 : decode cX0_advance 0 = .ok (.iload_n 1, 1) := by decide +kernel
theorem dX0_advance_1 : decode cX0_advance 1 = .ok (.invokestatic 60, 3) := by decide +kernel
theorem dX0_advance_4 : decode cX0_advance 4 = .ok (.ifCond .eq 5, 3) := by decide +kernel
theorem dX0_advance_7 : decode cX0_advance 7 = .ok (.iconst (-1), 1) := by decide +kernel
theorem dX0_advance_8 : decode cX0_advance 8 = .ok (.ireturn, 1) := by decide +kernel
theorem dX0_advance_9 : decode cX0_advance 9 = .ok (.aload_n 0, 1) := by decide +kernel
theorem dX0_advance_10 : decode cX0_advance 10 = .ok (.iload_n 1, 1) := by decide +kernel
theorem dX0_advance_11 : decode cX0_advance 11 = .ok (.invokevirtual 72, 3) := by decide +kernel
theorem dX0_advance_14 : decode cX0_advance 14 = .ok (.aload_n 0, 1) := by decide +kernel
theorem dX0_advance_15 : decode cX0_advance 15 = .ok (.getfield 7, 3) := by decide +kernel
theorem dX0_advance_18 : decode cX0_advance 18 = .ok (.iconst 0, 1) := by decide +kernel
theorem dX0_advance_19 : decode cX0_advance 19 = .ok (.iaload, 1) := by decide +kernel
theorem dX0_advance_20 : decode cX0_advance 20 = .ok (.istore_n 2, 1) := by decide +kernel
theorem dX0_advance_21 : decode cX0_advance 21 = .ok (.aload_n 0, 1) := by decide +kernel
theorem dX0_advance_22 : decode cX0_advance 22 = .ok (.iconst 0, 1) := by decide +kernel
theorem dX0_advance_23 : decode cX0_advance 23 = .ok (.iconst 1, 1) := by decide +kernel
theorem dX0_advance_24 : decode cX0_advance 24 = .ok (.bipush 101, 2) := by decide +kernel
theorem dX0_advance_26 : decode cX0_advance 26 = .ok (.iload_n 2, 1) := by decide +kernel
theorem dX0_advance_27 : decode cX0_advance 27 = .ok (.isub, 1) := by decide +kernel
theorem dX0_advance_28 : decode cX0_advance 28 = .ok (.iconst 0, 1) := by decide +kernel
theorem dX0_advance_29 : decode cX0_advance 29 = .ok (.invokevirtual 27, 3) := by decide +kernel
theorem dX0_advance_32 : decode cX0_advance 32 = .ok (.iconst 0, 1) := by decide +kernel
theorem dX0_advance_33 : decode cX0_advance 33 = .ok (.istore_n 3, 1) := by decide +kernel
theorem dX0_advance_34 : decode cX0_advance 34 = .ok (.iload_n 3, 1) := by decide +kernel
theorem dX0_advance_35 : decode cX0_advance 35 = .ok (.iconst 1, 1) := by decide +kernel
theorem dX0_advance_36 : decode cX0_advance 36 = .ok (.iadd, 1) := by decide +kernel
theorem dX0_advance_37 : decode cX0_advance 37 = .ok (.bipush 24, 2) := by decide +kernel
theorem dX0_advance_39 : decode cX0_advance 39 = .ok (.if_icmp .ge 27, 3) := by decide +kernel
theorem dX0_advance_42 : decode cX0_advance 42 = .ok (.aload_n 0, 1) := by decide +kernel
theorem dX0_advance_43 : decode cX0_advance 43 = .ok (.getfield 7, 3) := by decide +kernel
theorem dX0_advance_46 : decode cX0_advance 46 = .ok (.iconst 0, 1) := by decide +kernel
theorem dX0_advance_47 : decode cX0_advance 47 = .ok (.iload_n 3, 1) := by decide +kernel
theorem dX0_advance_48 : decode cX0_advance 48 = .ok (.iadd, 1) := by decide +kernel
theorem dX0_advance_49 : decode cX0_advance 49 = .ok (.aload_n 0, 1) := by decide +kernel
theorem dX0_advance_50 : decode cX0_advance 50 = .ok (.getfield 7, 3) := by decide +kernel
theorem dX0_advance_53 : decode cX0_advance 53 = .ok (.iconst 0, 1) := by decide +kernel
theorem dX0_advance_54 : decode cX0_advance 54 = .ok (.iload_n 3, 1) := by decide +kernel
theorem dX0_advance_55 : decode cX0_advance 55 = .ok (.iadd, 1) := by decide +kernel
theorem dX0_advance_56 : decode cX0_advance 56 = .ok (.iconst 1, 1) := by decide +kernel
theorem dX0_advance_57 : decode cX0_advance 57 = .ok (.iadd, 1) := by decide +kernel
theorem dX0_advance_58 : decode cX0_advance 58 = .ok (.iaload, 1) := by decide +kernel
theorem dX0_advance_59 : decode cX0_advance 59 = .ok (.iastore, 1) := by decide +kernel
theorem dX0_advance_60 : decode cX0_advance 60 = .ok (.iinc 3 1, 3) := by decide +kernel
theorem dX0_advance_63 : decode cX0_advance 63 = .ok (.goto (-29), 3) := by decide +kernel
theorem dX0_advance_66 : decode cX0_advance 66 = .ok (.aload_n 0, 1) := by decide +kernel
theorem dX0_advance_67 : decode cX0_advance 67 = .ok (.getfield 7, 3) := by decide +kernel
theorem dX0_advance_70 : decode cX0_advance 70 = .ok (.bipush 23, 2) := by decide +kernel
theorem dX0_advance_72 : decode cX0_advance 72 = .ok (.iconst 0, 1) := by decide +kernel
theorem dX0_advance_73 : decode cX0_advance 73 = .ok (.iastore, 1) := by decide +kernel
theorem dX0_advance_74 : decode cX0_advance 74 = .ok (.aload_n 0, 1) := by decide +kernel
theorem dX0_advance_75 : decode cX0_advance 75 = .ok (.iload_n 1, 1) := by decide +kernel
theorem dX0_advance_76 : decode cX0_advance 76 = .ok (.invokevirtual 69, 3) := by decide +kernel
theorem dX0_advance_79 : decode cX0_advance 79 = .ok (.ireturn, 1) := by decide +kernel
abbrev cX0_prepend : ByteArray := prog_1_method_24_code
def yX0_prepend : MethodName := ⟨RX0, "prepend", "(II)I"⟩
theorem dX0_prepend_0 : decode cX0_prepend 0 = .ok (.iload_n 1, 1) := by decide +kernel
theorem dX0_prepend_1 : decode cX0_prepend 1 = .ok (.invokestatic 60, 3) := by decide +kernel
theorem dX0_prepend_4 : decode cX0_prepend 4 = .ok (.ifCond .eq 5, 3) := by decide +kernel
theorem dX0_prepend_7 : decode cX0_prepend 7 = .ok (.iconst (-1), 1) := by decide +kernel
theorem dX0_prepend_8 : decode cX0_prepend 8 = .ok (.ireturn, 1) := by decide +kernel
theorem dX0_prepend_9 : decode cX0_prepend 9 = .ok (.aload_n 0, 1) := by decide +kernel
theorem dX0_prepend_10 : decode cX0_prepend 10 = .ok (.iload_n 1, 1) := by decide +kernel
theorem dX0_prepend_11 : decode cX0_prepend 11 = .ok (.invokevirtual 72, 3) := by decide +kernel
theorem dX0_prepend_14 : decode cX0_prepend 14 = .ok (.aload_n 0, 1) := by decide +kernel
theorem dX0_prepend_15 : decode cX0_prepend 15 = .ok (.iconst 2, 1) := by decide +kernel
theorem dX0_prepend_16 : decode cX0_prepend 16 = .ok (.iconst 0, 1) := by decide +kernel
theorem dX0_prepend_17 : decode cX0_prepend 17 = .ok (.invokevirtual 31, 3) := by decide +kernel
theorem dX0_prepend_20 : decode cX0_prepend 20 = .ok (.aload_n 0, 1) := by decide +kernel
theorem dX0_prepend_21 : decode cX0_prepend 21 = .ok (.iconst 0, 1) := by decide +kernel
theorem dX0_prepend_22 : decode cX0_prepend 22 = .ok (.invokevirtual 20, 3) := by decide +kernel
theorem dX0_prepend_25 : decode cX0_prepend 25 = .ok (.aload_n 0, 1) := by decide +kernel
theorem dX0_prepend_26 : decode cX0_prepend 26 = .ok (.iconst 0, 1) := by decide +kernel
theorem dX0_prepend_27 : decode cX0_prepend 27 = .ok (.iconst 2, 1) := by decide +kernel
theorem dX0_prepend_28 : decode cX0_prepend 28 = .ok (.iconst 1, 1) := by decide +kernel
theorem dX0_prepend_29 : decode cX0_prepend 29 = .ok (.iconst 1, 1) := by decide +kernel
theorem dX0_prepend_30 : decode cX0_prepend 30 = .ok (.invokevirtual 27, 3) := by decide +kernel
theorem dX0_prepend_33 : decode cX0_prepend 33 = .ok (.iload_n 2, 1) := by decide +kernel
theorem dX0_prepend_34 : decode cX0_prepend 34 = .ok (.invokestatic 16, 3) := by decide +kernel
theorem dX0_prepend_37 : decode cX0_prepend 37 = .ok (.istore_n 3, 1) := by decide +kernel
theorem dX0_prepend_38 : decode cX0_prepend 38 = .ok (.aload_n 0, 1) := by decide +kernel
theorem dX0_prepend_39 : decode cX0_prepend 39 = .ok (.iconst 0, 1) := by decide +kernel
theorem dX0_prepend_40 : decode cX0_prepend 40 = .ok (.iconst 1, 1) := by decide +kernel
theorem dX0_prepend_41 : decode cX0_prepend 41 = .ok (.iload_n 3, 1) := by decide +kernel
theorem dX0_prepend_42 : decode cX0_prepend 42 = .ok (.iconst 0, 1) := by decide +kernel
theorem dX0_prepend_43 : decode cX0_prepend 43 = .ok (.invokevirtual 27, 3) := by decide +kernel
theorem dX0_prepend_46 : decode cX0_prepend 46 = .ok (.aload_n 0, 1) := by decide +kernel
theorem dX0_prepend_47 : decode cX0_prepend 47 = .ok (.iload_n 1, 1) := by decide +kernel
theorem dX0_prepend_48 : decode cX0_prepend 48 = .ok (.invokevirtual 69, 3) := by decide +kernel
theorem dX0_prepend_51 : decode cX0_prepend 51 = .ok (.ireturn, 1) := by decide +kernel
abbrev cX0_accumulate : ByteArray := prog_1_method_25_code
def yX0_accumulate : MethodName := ⟨RX0, "accumulate", "(I)I"⟩
theorem dX0_accumulate_0 : decode cX0_accumulate 0 = .ok (.iload_n 1, 1) := by decide +kernel
theorem dX0_accumulate_1 : decode cX0_accumulate 1 = .ok (.invokestatic 60, 3) := by decide +kernel
theorem dX0_accumulate_4 : decode cX0_accumulate 4 = .ok (.ifCond .eq 5, 3) := by decide +kernel
theorem dX0_accumulate_7 : decode cX0_accumulate 7 = .ok (.iconst (-1), 1) := by decide +kernel
theorem dX0_accumulate_8 : decode cX0_accumulate 8 = .ok (.ireturn, 1) := by decide +kernel
theorem dX0_accumulate_9 : decode cX0_accumulate 9 = .ok (.aload_n 0, 1) := by decide +kernel
theorem dX0_accumulate_10 : decode cX0_accumulate 10 = .ok (.iload_n 1, 1) := by decide +kernel
theorem dX0_accumulate_11 : decode cX0_accumulate 11 = .ok (.invokevirtual 72, 3) := by decide +kernel
theorem dX0_accumulate_14 : decode cX0_accumulate 14 = .ok (.aload_n 0, 1) := by decide +kernel
theorem dX0_accumulate_15 : decode cX0_accumulate 15 = .ok (.invokevirtual 75, 3) := by decide +kernel
theorem dX0_accumulate_18 : decode cX0_accumulate 18 = .ok (.aload_n 0, 1) := by decide +kernel
theorem dX0_accumulate_19 : decode cX0_accumulate 19 = .ok (.iconst 1, 1) := by decide +kernel
theorem dX0_accumulate_20 : decode cX0_accumulate 20 = .ok (.iconst 1, 1) := by decide +kernel
theorem dX0_accumulate_21 : decode cX0_accumulate 21 = .ok (.iconst 3, 1) := by decide +kernel
theorem dX0_accumulate_22 : decode cX0_accumulate 22 = .ok (.invokevirtual 65, 3) := by decide +kernel
theorem dX0_accumulate_25 : decode cX0_accumulate 25 = .ok (.aload_n 0, 1) := by decide +kernel
theorem dX0_accumulate_26 : decode cX0_accumulate 26 = .ok (.iload_n 1, 1) := by decide +kernel
theorem dX0_accumulate_27 : decode cX0_accumulate 27 = .ok (.invokevirtual 69, 3) := by decide +kernel
theorem dX0_accumulate_30 : decode cX0_accumulate 30 = .ok (.ireturn, 1) := by decide +kernel
abbrev cX0_loadStep : ByteArray := prog_1_method_19_code
def yX0_loadStep : MethodName := ⟨RX0, "loadStep", "()V"⟩
theorem dX0_loadStep_0 : decode cX0_loadStep 0 = .ok (.aload_n 0, 1) := by decide +kernel
theorem dX0_loadStep_1 : decode cX0_loadStep 1 = .ok (.iconst 3, 1) := by decide +kernel
theorem dX0_loadStep_2 : decode cX0_loadStep 2 = .ok (.invokevirtual 20, 3) := by decide +kernel
theorem dX0_loadStep_5 : decode cX0_loadStep 5 = .ok (.aload_n 0, 1) := by decide +kernel
theorem dX0_loadStep_6 : decode cX0_loadStep 6 = .ok (.getfield 7, 3) := by decide +kernel
theorem dX0_loadStep_9 : decode cX0_loadStep 9 = .ok (.bipush 72, 2) := by decide +kernel
theorem dX0_loadStep_11 : decode cX0_loadStep 11 = .ok (.iconst 1, 1) := by decide +kernel
theorem dX0_loadStep_12 : decode cX0_loadStep 12 = .ok (.iastore, 1) := by decide +kernel
theorem dX0_loadStep_13 : decode cX0_loadStep 13 = .ok (.aload_n 0, 1) := by decide +kernel
theorem dX0_loadStep_14 : decode cX0_loadStep 14 = .ok (.getfield 7, 3) := by decide +kernel
theorem dX0_loadStep_17 : decode cX0_loadStep 17 = .ok (.bipush 73, 2) := by decide +kernel
theorem dX0_loadStep_19 : decode cX0_loadStep 19 = .ok (.bipush 100, 2) := by decide +kernel
theorem dX0_loadStep_21 : decode cX0_loadStep 21 = .ok (.iastore, 1) := by decide +kernel
theorem dX0_loadStep_22 : decode cX0_loadStep 22 = .ok (.return_, 1) := by decide +kernel
abbrev cX0_difference : ByteArray := prog_1_method_26_code
def yX0_difference : MethodName := ⟨RX0, "difference", "(I)I"⟩
theorem dX0_difference_0 : decode cX0_difference 0 = .ok (.iload_n 1, 1) := by decide +kernel
theorem dX0_difference_1 : decode cX0_difference 1 = .ok (.invokestatic 60, 3) := by decide +kernel
theorem dX0_difference_4 : decode cX0_difference 4 = .ok (.ifCond .eq 5, 3) := by decide +kernel
theorem dX0_difference_7 : decode cX0_difference 7 = .ok (.iconst (-1), 1) := by decide +kernel
theorem dX0_difference_8 : decode cX0_difference 8 = .ok (.ireturn, 1) := by decide +kernel
theorem dX0_difference_9 : decode cX0_difference 9 = .ok (.aload_n 0, 1) := by decide +kernel
theorem dX0_difference_10 : decode cX0_difference 10 = .ok (.iload_n 1, 1) := by decide +kernel
theorem dX0_difference_11 : decode cX0_difference 11 = .ok (.invokevirtual 72, 3) := by decide +kernel
theorem dX0_difference_14 : decode cX0_difference 14 = .ok (.aload_n 0, 1) := by decide +kernel
theorem dX0_difference_15 : decode cX0_difference 15 = .ok (.invokevirtual 75, 3) := by decide +kernel
theorem dX0_difference_18 : decode cX0_difference 18 = .ok (.aload_n 0, 1) := by decide +kernel
theorem dX0_difference_19 : decode cX0_difference 19 = .ok (.iconst 0, 1) := by decide +kernel
theorem dX0_difference_20 : decode cX0_difference 20 = .ok (.iconst 0, 1) := by decide +kernel
theorem dX0_difference_21 : decode cX0_difference 21 = .ok (.iconst 3, 1) := by decide +kernel
theorem dX0_difference_22 : decode cX0_difference 22 = .ok (.invokevirtual 65, 3) := by decide +kernel
theorem dX0_difference_25 : decode cX0_difference 25 = .ok (.aload_n 0, 1) := by decide +kernel
theorem dX0_difference_26 : decode cX0_difference 26 = .ok (.iload_n 1, 1) := by decide +kernel
theorem dX0_difference_27 : decode cX0_difference 27 = .ok (.invokevirtual 69, 3) := by decide +kernel
theorem dX0_difference_30 : decode cX0_difference 30 = .ok (.ireturn, 1) := by decide +kernel
abbrev cX0_copy : ByteArray := prog_1_method_27_code
def yX0_copy : MethodName := ⟨RX0, "copy", "(II)I"⟩
theorem dX0_copy_0 : decode cX0_copy 0 = .ok (.iload_n 1, 1) := by decide +kernel
theorem dX0_copy_1 : decode cX0_copy 1 = .ok (.invokestatic 60, 3) := by decide +kernel
theorem dX0_copy_4 : decode cX0_copy 4 = .ok (.ifCond .ne 10, 3) := by decide +kernel
theorem dX0_copy_7 : decode cX0_copy 7 = .ok (.iload_n 2, 1) := by decide +kernel
theorem dX0_copy_8 : decode cX0_copy 8 = .ok (.invokestatic 60, 3) := by decide +kernel
theorem dX0_copy_11 : decode cX0_copy 11 = .ok (.ifCond .eq 5, 3) := by decide +kernel
theorem dX0_copy_14 : decode cX0_copy 14 = .ok (.iconst (-1), 1) := by decide +kernel
theorem dX0_copy_15 : decode cX0_copy 15 = .ok (.ireturn, 1) := by decide +kernel
theorem dX0_copy_16 : decode cX0_copy 16 = .ok (.aload_n 0, 1) := by decide +kernel
theorem dX0_copy_17 : decode cX0_copy 17 = .ok (.iload_n 2, 1) := by decide +kernel
theorem dX0_copy_18 : decode cX0_copy 18 = .ok (.invokevirtual 72, 3) := by decide +kernel
theorem dX0_copy_21 : decode cX0_copy 21 = .ok (.aload_n 0, 1) := by decide +kernel
theorem dX0_copy_22 : decode cX0_copy 22 = .ok (.iload_n 1, 1) := by decide +kernel
theorem dX0_copy_23 : decode cX0_copy 23 = .ok (.invokevirtual 69, 3) := by decide +kernel
theorem dX0_copy_26 : decode cX0_copy 26 = .ok (.ireturn, 1) := by decide +kernel
abbrev cX0_term : ByteArray := prog_1_method_31_code
def yX0_term : MethodName := ⟨RX0, "term", "(II)I"⟩
theorem dX0_term_0 : decode cX0_term 0 = .ok (.iload_n 1, 1) := by decide +kernel
theorem dX0_term_1 : decode cX0_term 1 = .ok (.invokestatic 60, 3) := by decide +kernel
theorem dX0_term_4 : decode cX0_term 4 = .ok (.ifCond .eq 5, 3) := by decide +kernel
theorem dX0_term_7 : decode cX0_term 7 = .ok (.iconst (-1), 1) := by decide +kernel
theorem dX0_term_8 : decode cX0_term 8 = .ok (.ireturn, 1) := by decide +kernel
theorem dX0_term_9 : decode cX0_term 9 = .ok (.iload_n 2, 1) := by decide +kernel
theorem dX0_term_10 : decode cX0_term 10 = .ok (.ifCond .lt 10, 3) := by decide +kernel
theorem dX0_term_13 : decode cX0_term 13 = .ok (.iload_n 2, 1) := by decide +kernel
theorem dX0_term_14 : decode cX0_term 14 = .ok (.sipush 400, 3) := by decide +kernel
theorem dX0_term_17 : decode cX0_term 17 = .ok (.if_icmp .le 6, 3) := by decide +kernel
theorem dX0_term_20 : decode cX0_term 20 = .ok (.bipush (-4), 2) := by decide +kernel
theorem dX0_term_22 : decode cX0_term 22 = .ok (.ireturn, 1) := by decide +kernel
theorem dX0_term_23 : decode cX0_term 23 = .ok (.aload_n 0, 1) := by decide +kernel
theorem dX0_term_24 : decode cX0_term 24 = .ok (.iload_n 1, 1) := by decide +kernel
theorem dX0_term_25 : decode cX0_term 25 = .ok (.invokevirtual 72, 3) := by decide +kernel
theorem dX0_term_28 : decode cX0_term 28 = .ok (.aload_n 0, 1) := by decide +kernel
theorem dX0_term_29 : decode cX0_term 29 = .ok (.iload_n 2, 1) := by decide +kernel
theorem dX0_term_30 : decode cX0_term 30 = .ok (.invokevirtual 84, 3) := by decide +kernel
theorem dX0_term_33 : decode cX0_term 33 = .ok (.ireturn, 1) := by decide +kernel
abbrev cX0_farTerm : ByteArray := prog_1_method_30_code
def yX0_farTerm : MethodName := ⟨RX0, "farTerm", "(I)I"⟩
theorem dX0_farTerm_0 : decode cX0_farTerm 0 = .ok (.iload_n 1, 1) := by decide +kernel
theorem dX0_farTerm_1 : decode cX0_farTerm 1 = .ok (.istore_n 2, 1) := by decide +kernel
theorem dX0_farTerm_2 : decode cX0_farTerm 2 = .ok (.iconst 0, 1) := by decide +kernel
theorem dX0_farTerm_3 : decode cX0_farTerm 3 = .ok (.istore_n 3, 1) := by decide +kernel
theorem dX0_farTerm_4 : decode cX0_farTerm 4 = .ok (.iload_n 3, 1) := by decide +kernel
theorem dX0_farTerm_5 : decode cX0_farTerm 5 = .ok (.bipush 10, 2) := by decide +kernel
theorem dX0_farTerm_7 : decode cX0_farTerm 7 = .ok (.if_icmp .ge 49, 3) := by decide +kernel
theorem dX0_farTerm_10 : decode cX0_farTerm 10 = .ok (.iload_n 2, 1) := by decide +kernel
theorem dX0_farTerm_11 : decode cX0_farTerm 11 = .ok (.ifCond .le 45, 3) := by decide +kernel
theorem dX0_farTerm_14 : decode cX0_farTerm 14 = .ok (.aload_n 0, 1) := by decide +kernel
theorem dX0_farTerm_15 : decode cX0_farTerm 15 = .ok (.invokevirtual 78, 3) := by decide +kernel
theorem dX0_farTerm_18 : decode cX0_farTerm 18 = .ok (.aload_n 0, 1) := by decide +kernel
theorem dX0_farTerm_19 : decode cX0_farTerm 19 = .ok (.iconst 0, 1) := by decide +kernel
theorem dX0_farTerm_20 : decode cX0_farTerm 20 = .ok (.iconst 0, 1) := by decide +kernel
theorem dX0_farTerm_21 : decode cX0_farTerm 21 = .ok (.iconst 2, 1) := by decide +kernel
theorem dX0_farTerm_22 : decode cX0_farTerm 22 = .ok (.invokevirtual 65, 3) := by decide +kernel
theorem dX0_farTerm_25 : decode cX0_farTerm 25 = .ok (.aload_n 0, 1) := by decide +kernel
theorem dX0_farTerm_26 : decode cX0_farTerm 26 = .ok (.iconst 1, 1) := by decide +kernel
theorem dX0_farTerm_27 : decode cX0_farTerm 27 = .ok (.iconst 1, 1) := by decide +kernel
theorem dX0_farTerm_28 : decode cX0_farTerm 28 = .ok (.iconst 2, 1) := by decide +kernel
theorem dX0_farTerm_29 : decode cX0_farTerm 29 = .ok (.invokevirtual 65, 3) := by decide +kernel
theorem dX0_farTerm_32 : decode cX0_farTerm 32 = .ok (.aload_n 0, 1) := by decide +kernel
theorem dX0_farTerm_33 : decode cX0_farTerm 33 = .ok (.iconst 0, 1) := by decide +kernel
theorem dX0_farTerm_34 : decode cX0_farTerm 34 = .ok (.iload_n 2, 1) := by decide +kernel
theorem dX0_farTerm_35 : decode cX0_farTerm 35 = .ok (.iconst 1, 1) := by decide +kernel
theorem dX0_farTerm_36 : decode cX0_farTerm 36 = .ok (.iand, 1) := by decide +kernel
theorem dX0_farTerm_37 : decode cX0_farTerm 37 = .ok (.invokevirtual 81, 3) := by decide +kernel
theorem dX0_farTerm_40 : decode cX0_farTerm 40 = .ok (.aload_n 0, 1) := by decide +kernel
theorem dX0_farTerm_41 : decode cX0_farTerm 41 = .ok (.iconst 1, 1) := by decide +kernel
theorem dX0_farTerm_42 : decode cX0_farTerm 42 = .ok (.iconst 0, 1) := by decide +kernel
theorem dX0_farTerm_43 : decode cX0_farTerm 43 = .ok (.invokevirtual 81, 3) := by decide +kernel
theorem dX0_farTerm_46 : decode cX0_farTerm 46 = .ok (.iload_n 2, 1) := by decide +kernel
theorem dX0_farTerm_47 : decode cX0_farTerm 47 = .ok (.iconst 1, 1) := by decide +kernel
theorem dX0_farTerm_48 : decode cX0_farTerm 48 = .ok (.ishr, 1) := by decide +kernel
theorem dX0_farTerm_49 : decode cX0_farTerm 49 = .ok (.istore_n 2, 1) := by decide +kernel
theorem dX0_farTerm_50 : decode cX0_farTerm 50 = .ok (.iinc 3 1, 3) := by decide +kernel
theorem dX0_farTerm_53 : decode cX0_farTerm 53 = .ok (.goto (-49), 3) := by decide +kernel
theorem dX0_farTerm_56 : decode cX0_farTerm 56 = .ok (.aload_n 0, 1) := by decide +kernel
theorem dX0_farTerm_57 : decode cX0_farTerm 57 = .ok (.getfield 7, 3) := by decide +kernel
theorem dX0_farTerm_60 : decode cX0_farTerm 60 = .ok (.iconst 0, 1) := by decide +kernel
theorem dX0_farTerm_61 : decode cX0_farTerm 61 = .ok (.iaload, 1) := by decide +kernel
theorem dX0_farTerm_62 : decode cX0_farTerm 62 = .ok (.ireturn, 1) := by decide +kernel
abbrev cX0_loadMirror : ByteArray := prog_1_method_28_code
def yX0_loadMirror : MethodName := ⟨RX0, "loadMirror", "()V"⟩
theorem dX0_loadMirror_0 : decode cX0_loadMirror 0 = .ok (.iconst 0, 1) := by decide +kernel
theorem dX0_loadMirror_1 : decode cX0_loadMirror 1 = .ok (.istore_n 1, 1) := by decide +kernel
theorem dX0_loadMirror_2 : decode cX0_loadMirror 2 = .ok (.iload_n 1, 1) := by decide +kernel
theorem dX0_loadMirror_3 : decode cX0_loadMirror 3 = .ok (.bipush 24, 2) := by decide +kernel
theorem dX0_loadMirror_5 : decode cX0_loadMirror 5 = .ok (.if_icmp .ge 44, 3) := by decide +kernel
theorem dX0_loadMirror_8 : decode cX0_loadMirror 8 = .ok (.aload_n 0, 1) := by decide +kernel
theorem dX0_loadMirror_9 : decode cX0_loadMirror 9 = .ok (.getfield 7, 3) := by decide +kernel
theorem dX0_loadMirror_12 : decode cX0_loadMirror 12 = .ok (.bipush 24, 2) := by decide +kernel
theorem dX0_loadMirror_14 : decode cX0_loadMirror 14 = .ok (.iload_n 1, 1) := by decide +kernel
theorem dX0_loadMirror_15 : decode cX0_loadMirror 15 = .ok (.iadd, 1) := by decide +kernel
theorem dX0_loadMirror_16 : decode cX0_loadMirror 16 = .ok (.iaload, 1) := by decide +kernel
theorem dX0_loadMirror_17 : decode cX0_loadMirror 17 = .ok (.istore_n 2, 1) := by decide +kernel
theorem dX0_loadMirror_18 : decode cX0_loadMirror 18 = .ok (.aload_n 0, 1) := by decide +kernel
theorem dX0_loadMirror_19 : decode cX0_loadMirror 19 = .ok (.getfield 7, 3) := by decide +kernel
theorem dX0_loadMirror_22 : decode cX0_loadMirror 22 = .ok (.bipush 48, 2) := by decide +kernel
theorem dX0_loadMirror_24 : decode cX0_loadMirror 24 = .ok (.iload_n 1, 1) := by decide +kernel
theorem dX0_loadMirror_25 : decode cX0_loadMirror 25 = .ok (.iadd, 1) := by decide +kernel
theorem dX0_loadMirror_26 : decode cX0_loadMirror 26 = .ok (.iload_n 1, 1) := by decide +kernel
theorem dX0_loadMirror_27 : decode cX0_loadMirror 27 = .ok (.iconst 1, 1) := by decide +kernel
theorem dX0_loadMirror_28 : decode cX0_loadMirror 28 = .ok (.iand, 1) := by decide +kernel
theorem dX0_loadMirror_29 : decode cX0_loadMirror 29 = .ok (.iconst 1, 1) := by decide +kernel
theorem dX0_loadMirror_30 : decode cX0_loadMirror 30 = .ok (.if_icmp .ne 11, 3) := by decide +kernel
theorem dX0_loadMirror_33 : decode cX0_loadMirror 33 = .ok (.iload_n 2, 1) := by decide +kernel
theorem dX0_loadMirror_34 : decode cX0_loadMirror 34 = .ok (.ineg, 1) := by decide +kernel
theorem dX0_loadMirror_35 : decode cX0_loadMirror 35 = .ok (.invokestatic 16, 3) := by decide +kernel
theorem dX0_loadMirror_38 : decode cX0_loadMirror 38 = .ok (.goto 4, 3) := by decide +kernel
theorem dX0_loadMirror_41 : decode cX0_loadMirror 41 = .ok (.iload_n 2, 1) := by decide +kernel
theorem dX0_loadMirror_42 : decode cX0_loadMirror 42 = .ok (.iastore, 1) := by decide +kernel
theorem dX0_loadMirror_43 : decode cX0_loadMirror 43 = .ok (.iinc 1 1, 3) := by decide +kernel
theorem dX0_loadMirror_46 : decode cX0_loadMirror 46 = .ok (.goto (-44), 3) := by decide +kernel
theorem dX0_loadMirror_49 : decode cX0_loadMirror 49 = .ok (.return_, 1) := by decide +kernel
abbrev cX0_keepHalf : ByteArray := prog_1_method_29_code
def yX0_keepHalf : MethodName := ⟨RX0, "keepHalf", "(II)V"⟩
theorem dX0_keepHalf_0 : decode cX0_keepHalf 0 = .ok (.iconst 0, 1) := by decide +kernel
theorem dX0_keepHalf_1 : decode cX0_keepHalf 1 = .ok (.istore_n 3, 1) := by decide +kernel
theorem dX0_keepHalf_2 : decode cX0_keepHalf 2 = .ok (.iload_n 3, 1) := by decide +kernel
theorem dX0_keepHalf_3 : decode cX0_keepHalf 3 = .ok (.bipush 24, 2) := by decide +kernel
theorem dX0_keepHalf_5 : decode cX0_keepHalf 5 = .ok (.if_icmp .ge 50, 3) := by decide +kernel
theorem dX0_keepHalf_8 : decode cX0_keepHalf 8 = .ok (.iconst 2, 1) := by decide +kernel
theorem dX0_keepHalf_9 : decode cX0_keepHalf 9 = .ok (.iload_n 3, 1) := by decide +kernel
theorem dX0_keepHalf_10 : decode cX0_keepHalf 10 = .ok (.imul, 1) := by decide +kernel
theorem dX0_keepHalf_11 : decode cX0_keepHalf 11 = .ok (.iload_n 2, 1) := by decide +kernel
theorem dX0_keepHalf_12 : decode cX0_keepHalf 12 = .ok (.iadd, 1) := by decide +kernel
theorem dX0_keepHalf_13 : decode cX0_keepHalf 13 = .ok (.istore 4, 2) := by decide +kernel
theorem dX0_keepHalf_15 : decode cX0_keepHalf 15 = .ok (.aload_n 0, 1) := by decide +kernel
theorem dX0_keepHalf_16 : decode cX0_keepHalf 16 = .ok (.getfield 7, 3) := by decide +kernel
theorem dX0_keepHalf_19 : decode cX0_keepHalf 19 = .ok (.iload_n 1, 1) := by decide +kernel
theorem dX0_keepHalf_20 : decode cX0_keepHalf 20 = .ok (.bipush 24, 2) := by decide +kernel
theorem dX0_keepHalf_22 : decode cX0_keepHalf 22 = .ok (.imul, 1) := by decide +kernel
theorem dX0_keepHalf_23 : decode cX0_keepHalf 23 = .ok (.iload_n 3, 1) := by decide +kernel
theorem dX0_keepHalf_24 : decode cX0_keepHalf 24 = .ok (.iadd, 1) := by decide +kernel
theorem dX0_keepHalf_25 : decode cX0_keepHalf 25 = .ok (.iload 4, 2) := by decide +kernel
theorem dX0_keepHalf_27 : decode cX0_keepHalf 27 = .ok (.bipush 24, 2) := by decide +kernel
theorem dX0_keepHalf_29 : decode cX0_keepHalf 29 = .ok (.if_icmp .ge 18, 3) := by decide +kernel
theorem dX0_keepHalf_32 : decode cX0_keepHalf 32 = .ok (.aload_n 0, 1) := by decide +kernel
theorem dX0_keepHalf_33 : decode cX0_keepHalf 33 = .ok (.getfield 7, 3) := by decide +kernel
theorem dX0_keepHalf_36 : decode cX0_keepHalf 36 = .ok (.iload_n 1, 1) := by decide +kernel
theorem dX0_keepHalf_37 : decode cX0_keepHalf 37 = .ok (.bipush 24, 2) := by decide +kernel
theorem dX0_keepHalf_39 : decode cX0_keepHalf 39 = .ok (.imul, 1) := by decide +kernel
theorem dX0_keepHalf_40 : decode cX0_keepHalf 40 = .ok (.iload 4, 2) := by decide +kernel
theorem dX0_keepHalf_42 : decode cX0_keepHalf 42 = .ok (.iadd, 1) := by decide +kernel
theorem dX0_keepHalf_43 : decode cX0_keepHalf 43 = .ok (.iaload, 1) := by decide +kernel
theorem dX0_keepHalf_44 : decode cX0_keepHalf 44 = .ok (.goto 4, 3) := by decide +kernel
theorem dX0_keepHalf_47 : decode cX0_keepHalf 47 = .ok (.iconst 0, 1) := by decide +kernel
theorem dX0_keepHalf_48 : decode cX0_keepHalf 48 = .ok (.iastore, 1) := by decide +kernel
theorem dX0_keepHalf_49 : decode cX0_keepHalf 49 = .ok (.iinc 3 1, 3) := by decide +kernel
theorem dX0_keepHalf_52 : decode cX0_keepHalf 52 = .ok (.goto (-50), 3) := by decide +kernel
theorem dX0_keepHalf_55 : decode cX0_keepHalf 55 = .ok (.return_, 1) := by decide +kernel
abbrev cX0_order : ByteArray := prog_1_method_32_code
def yX0_order : MethodName := ⟨RX0, "order", "(I)I"⟩
theorem dX0_order_0 : decode cX0_order 0 = .ok (.iload_n 1, 1) := by decide +kernel
theorem dX0_order_1 : decode cX0_order 1 = .ok (.invokestatic 60, 3) := by decide +kernel
theorem dX0_order_4 : decode cX0_order 4 = .ok (.ifCond .eq 5, 3) := by decide +kernel
theorem dX0_order_7 : decode cX0_order 7 = .ok (.iconst (-1), 1) := by decide +kernel
theorem dX0_order_8 : decode cX0_order 8 = .ok (.ireturn, 1) := by decide +kernel
theorem dX0_order_9 : decode cX0_order 9 = .ok (.iload_n 1, 1) := by decide +kernel
theorem dX0_order_10 : decode cX0_order 10 = .ok (.invokestatic 54, 3) := by decide +kernel
theorem dX0_order_13 : decode cX0_order 13 = .ok (.istore_n 2, 1) := by decide +kernel
theorem dX0_order_14 : decode cX0_order 14 = .ok (.iload_n 1, 1) := by decide +kernel
theorem dX0_order_15 : decode cX0_order 15 = .ok (.invokestatic 57, 3) := by decide +kernel
theorem dX0_order_18 : decode cX0_order 18 = .ok (.istore_n 3, 1) := by decide +kernel
theorem dX0_order_19 : decode cX0_order 19 = .ok (.aload_n 0, 1) := by decide +kernel
theorem dX0_order_20 : decode cX0_order 20 = .ok (.iload_n 2, 1) := by decide +kernel
theorem dX0_order_21 : decode cX0_order 21 = .ok (.iload_n 3, 1) := by decide +kernel
theorem dX0_order_22 : decode cX0_order 22 = .ok (.invokevirtual 50, 3) := by decide +kernel
theorem dX0_order_25 : decode cX0_order 25 = .ok (.ireturn, 1) := by decide +kernel
abbrev cX0_equal : ByteArray := prog_1_method_33_code
def yX0_equal : MethodName := ⟨RX0, "equal", "(II)Z"⟩
theorem dX0_equal_0 : decode cX0_equal 0 = .ok (.iload_n 1, 1) := by decide +kernel
theorem dX0_equal_1 : decode cX0_equal 1 = .ok (.invokestatic 60, 3) := by decide +kernel
theorem dX0_equal_4 : decode cX0_equal 4 = .ok (.ifCond .ne 10, 3) := by decide +kernel
theorem dX0_equal_7 : decode cX0_equal 7 = .ok (.iload_n 2, 1) := by decide +kernel
theorem dX0_equal_8 : decode cX0_equal 8 = .ok (.invokestatic 60, 3) := by decide +kernel
theorem dX0_equal_11 : decode cX0_equal 11 = .ok (.ifCond .eq 5, 3) := by decide +kernel
theorem dX0_equal_14 : decode cX0_equal 14 = .ok (.iconst 0, 1) := by decide +kernel
theorem dX0_equal_15 : decode cX0_equal 15 = .ok (.ireturn, 1) := by decide +kernel
theorem dX0_equal_16 : decode cX0_equal 16 = .ok (.iconst 0, 1) := by decide +kernel
theorem dX0_equal_17 : decode cX0_equal 17 = .ok (.istore_n 3, 1) := by decide +kernel
theorem dX0_equal_18 : decode cX0_equal 18 = .ok (.iload_n 3, 1) := by decide +kernel
theorem dX0_equal_19 : decode cX0_equal 19 = .ok (.bipush 48, 2) := by decide +kernel
theorem dX0_equal_21 : decode cX0_equal 21 = .ok (.if_icmp .ge 42, 3) := by decide +kernel
theorem dX0_equal_24 : decode cX0_equal 24 = .ok (.aload_n 0, 1) := by decide +kernel
theorem dX0_equal_25 : decode cX0_equal 25 = .ok (.getfield 7, 3) := by decide +kernel
theorem dX0_equal_28 : decode cX0_equal 28 = .ok (.iload_n 1, 1) := by decide +kernel
theorem dX0_equal_29 : decode cX0_equal 29 = .ok (.invokestatic 54, 3) := by decide +kernel
theorem dX0_equal_32 : decode cX0_equal 32 = .ok (.bipush 24, 2) := by decide +kernel
theorem dX0_equal_34 : decode cX0_equal 34 = .ok (.imul, 1) := by decide +kernel
theorem dX0_equal_35 : decode cX0_equal 35 = .ok (.iload_n 3, 1) := by decide +kernel
theorem dX0_equal_36 : decode cX0_equal 36 = .ok (.iadd, 1) := by decide +kernel
theorem dX0_equal_37 : decode cX0_equal 37 = .ok (.iaload, 1) := by decide +kernel
theorem dX0_equal_38 : decode cX0_equal 38 = .ok (.aload_n 0, 1) := by decide +kernel
theorem dX0_equal_39 : decode cX0_equal 39 = .ok (.getfield 7, 3) := by decide +kernel
theorem dX0_equal_42 : decode cX0_equal 42 = .ok (.iload_n 2, 1) := by decide +kernel
theorem dX0_equal_43 : decode cX0_equal 43 = .ok (.invokestatic 54, 3) := by decide +kernel
theorem dX0_equal_46 : decode cX0_equal 46 = .ok (.bipush 24, 2) := by decide +kernel
theorem dX0_equal_48 : decode cX0_equal 48 = .ok (.imul, 1) := by decide +kernel
theorem dX0_equal_49 : decode cX0_equal 49 = .ok (.iload_n 3, 1) := by decide +kernel
theorem dX0_equal_50 : decode cX0_equal 50 = .ok (.iadd, 1) := by decide +kernel
theorem dX0_equal_51 : decode cX0_equal 51 = .ok (.iaload, 1) := by decide +kernel
theorem dX0_equal_52 : decode cX0_equal 52 = .ok (.if_icmp .eq 5, 3) := by decide +kernel
theorem dX0_equal_55 : decode cX0_equal 55 = .ok (.iconst 0, 1) := by decide +kernel
theorem dX0_equal_56 : decode cX0_equal 56 = .ok (.ireturn, 1) := by decide +kernel
theorem dX0_equal_57 : decode cX0_equal 57 = .ok (.iinc 3 1, 3) := by decide +kernel
theorem dX0_equal_60 : decode cX0_equal 60 = .ok (.goto (-42), 3) := by decide +kernel
theorem dX0_equal_63 : decode cX0_equal 63 = .ok (.iconst 1, 1) := by decide +kernel
theorem dX0_equal_64 : decode cX0_equal 64 = .ok (.ireturn, 1) := by decide +kernel
abbrev cX0_sum : ByteArray := prog_1_method_35_code
def yX0_sum : MethodName := ⟨RX0, "sum", "(III)I"⟩
theorem dX0_sum_0 : decode cX0_sum 0 = .ok (.iload_n 1, 1) := by decide +kernel
theorem dX0_sum_1 : decode cX0_sum 1 = .ok (.invokestatic 60, 3) := by decide +kernel
theorem dX0_sum_4 : decode cX0_sum 4 = .ok (.ifCond .eq 5, 3) := by decide +kernel
theorem dX0_sum_7 : decode cX0_sum 7 = .ok (.iconst (-1), 1) := by decide +kernel
theorem dX0_sum_8 : decode cX0_sum 8 = .ok (.ireturn, 1) := by decide +kernel
theorem dX0_sum_9 : decode cX0_sum 9 = .ok (.iload_n 2, 1) := by decide +kernel
theorem dX0_sum_10 : decode cX0_sum 10 = .ok (.ifCond .lt 15, 3) := by decide +kernel
theorem dX0_sum_13 : decode cX0_sum 13 = .ok (.iload_n 2, 1) := by decide +kernel
theorem dX0_sum_14 : decode cX0_sum 14 = .ok (.iload_n 3, 1) := by decide +kernel
theorem dX0_sum_15 : decode cX0_sum 15 = .ok (.if_icmp .gt 10, 3) := by decide +kernel
theorem dX0_sum_18 : decode cX0_sum 18 = .ok (.iload_n 3, 1) := by decide +kernel
theorem dX0_sum_19 : decode cX0_sum 19 = .ok (.sipush 400, 3) := by decide +kernel
theorem dX0_sum_22 : decode cX0_sum 22 = .ok (.if_icmp .le 6, 3) := by decide +kernel
theorem dX0_sum_25 : decode cX0_sum 25 = .ok (.bipush (-4), 2) := by decide +kernel
theorem dX0_sum_27 : decode cX0_sum 27 = .ok (.ireturn, 1) := by decide +kernel
theorem dX0_sum_28 : decode cX0_sum 28 = .ok (.aload_n 0, 1) := by decide +kernel
theorem dX0_sum_29 : decode cX0_sum 29 = .ok (.iload_n 1, 1) := by decide +kernel
theorem dX0_sum_30 : decode cX0_sum 30 = .ok (.iload_n 3, 1) := by decide +kernel
theorem dX0_sum_31 : decode cX0_sum 31 = .ok (.invokevirtual 87, 3) := by decide +kernel
theorem dX0_sum_34 : decode cX0_sum 34 = .ok (.istore 4, 2) := by decide +kernel
theorem dX0_sum_36 : decode cX0_sum 36 = .ok (.aload_n 0, 1) := by decide +kernel
theorem dX0_sum_37 : decode cX0_sum 37 = .ok (.iload_n 1, 1) := by decide +kernel
theorem dX0_sum_38 : decode cX0_sum 38 = .ok (.iload_n 2, 1) := by decide +kernel
theorem dX0_sum_39 : decode cX0_sum 39 = .ok (.iconst 1, 1) := by decide +kernel
theorem dX0_sum_40 : decode cX0_sum 40 = .ok (.isub, 1) := by decide +kernel
theorem dX0_sum_41 : decode cX0_sum 41 = .ok (.invokevirtual 87, 3) := by decide +kernel
theorem dX0_sum_44 : decode cX0_sum 44 = .ok (.istore 5, 2) := by decide +kernel
theorem dX0_sum_46 : decode cX0_sum 46 = .ok (.iload 4, 2) := by decide +kernel
theorem dX0_sum_48 : decode cX0_sum 48 = .ok (.iload 5, 2) := by decide +kernel
theorem dX0_sum_50 : decode cX0_sum 50 = .ok (.isub, 1) := by decide +kernel
theorem dX0_sum_51 : decode cX0_sum 51 = .ok (.invokestatic 16, 3) := by decide +kernel
theorem dX0_sum_54 : decode cX0_sum 54 = .ok (.ireturn, 1) := by decide +kernel
abbrev cX0_sumTo : ByteArray := prog_1_method_34_code
def yX0_sumTo : MethodName := ⟨RX0, "sumTo", "(II)I"⟩
theorem dX0_sumTo_0 : decode cX0_sumTo 0 = .ok (.iload_n 2, 1) := by decide +kernel
theorem dX0_sumTo_1 : decode cX0_sumTo 1 = .ok (.ifCond .ge 5, 3) := by decide +kernel
theorem dX0_sumTo_4 : decode cX0_sumTo 4 = .ok (.iconst 0, 1) := by decide +kernel
theorem dX0_sumTo_5 : decode cX0_sumTo 5 = .ok (.ireturn, 1) := by decide +kernel
theorem dX0_sumTo_6 : decode cX0_sumTo 6 = .ok (.aload_n 0, 1) := by decide +kernel
theorem dX0_sumTo_7 : decode cX0_sumTo 7 = .ok (.iload_n 1, 1) := by decide +kernel
theorem dX0_sumTo_8 : decode cX0_sumTo 8 = .ok (.invokevirtual 72, 3) := by decide +kernel
theorem dX0_sumTo_11 : decode cX0_sumTo 11 = .ok (.aload_n 0, 1) := by decide +kernel
theorem dX0_sumTo_12 : decode cX0_sumTo 12 = .ok (.invokevirtual 75, 3) := by decide +kernel
theorem dX0_sumTo_15 : decode cX0_sumTo 15 = .ok (.aload_n 0, 1) := by decide +kernel
theorem dX0_sumTo_16 : decode cX0_sumTo 16 = .ok (.iconst 1, 1) := by decide +kernel
theorem dX0_sumTo_17 : decode cX0_sumTo 17 = .ok (.iconst 1, 1) := by decide +kernel
theorem dX0_sumTo_18 : decode cX0_sumTo 18 = .ok (.iconst 3, 1) := by decide +kernel
theorem dX0_sumTo_19 : decode cX0_sumTo 19 = .ok (.invokevirtual 65, 3) := by decide +kernel
theorem dX0_sumTo_22 : decode cX0_sumTo 22 = .ok (.aload_n 0, 1) := by decide +kernel
theorem dX0_sumTo_23 : decode cX0_sumTo 23 = .ok (.iload_n 2, 1) := by decide +kernel
theorem dX0_sumTo_24 : decode cX0_sumTo 24 = .ok (.invokevirtual 84, 3) := by decide +kernel
theorem dX0_sumTo_27 : decode cX0_sumTo 27 = .ok (.ireturn, 1) := by decide +kernel
abbrev cX0_find : ByteArray := prog_1_method_37_code
def yX0_find : MethodName := ⟨RX0, "find", "(II)I"⟩
theorem dX0_find_0 : decode cX0_find 0 = .ok (.iload_n 1, 1) := by decide +kernel
theorem dX0_find_1 : decode cX0_find 1 = .ok (.invokestatic 60, 3) := by decide +kernel
theorem dX0_find_4 : decode cX0_find 4 = .ok (.ifCond .eq 5, 3) := by decide +kernel
theorem dX0_find_7 : decode cX0_find 7 = .ok (.iconst (-1), 1) := by decide +kernel
theorem dX0_find_8 : decode cX0_find 8 = .ok (.ireturn, 1) := by decide +kernel
theorem dX0_find_9 : decode cX0_find 9 = .ok (.iload_n 2, 1) := by decide +kernel
theorem dX0_find_10 : decode cX0_find 10 = .ok (.invokestatic 16, 3) := by decide +kernel
theorem dX0_find_13 : decode cX0_find 13 = .ok (.istore_n 3, 1) := by decide +kernel
theorem dX0_find_14 : decode cX0_find 14 = .ok (.iconst 0, 1) := by decide +kernel
theorem dX0_find_15 : decode cX0_find 15 = .ok (.istore 4, 2) := by decide +kernel
theorem dX0_find_17 : decode cX0_find 17 = .ok (.iload 4, 2) := by decide +kernel
theorem dX0_find_19 : decode cX0_find 19 = .ok (.sipush 400, 3) := by decide +kernel
theorem dX0_find_22 : decode cX0_find 22 = .ok (.if_icmp .gt 39, 3) := by decide +kernel
theorem dX0_find_25 : decode cX0_find 25 = .ok (.aload_n 0, 1) := by decide +kernel
theorem dX0_find_26 : decode cX0_find 26 = .ok (.iload_n 1, 1) := by decide +kernel
theorem dX0_find_27 : decode cX0_find 27 = .ok (.iload 4, 2) := by decide +kernel
theorem dX0_find_29 : decode cX0_find 29 = .ok (.invokevirtual 90, 3) := by decide +kernel
theorem dX0_find_32 : decode cX0_find 32 = .ok (.istore 5, 2) := by decide +kernel
theorem dX0_find_34 : decode cX0_find 34 = .ok (.iload 5, 2) := by decide +kernel
theorem dX0_find_36 : decode cX0_find 36 = .ok (.iload_n 3, 1) := by decide +kernel
theorem dX0_find_37 : decode cX0_find 37 = .ok (.if_icmp .ne 6, 3) := by decide +kernel
theorem dX0_find_40 : decode cX0_find 40 = .ok (.iload 4, 2) := by decide +kernel
theorem dX0_find_42 : decode cX0_find 42 = .ok (.ireturn, 1) := by decide +kernel
theorem dX0_find_43 : decode cX0_find 43 = .ok (.aload_n 0, 1) := by decide +kernel
theorem dX0_find_44 : decode cX0_find 44 = .ok (.getfield 13, 3) := by decide +kernel
theorem dX0_find_47 : decode cX0_find 47 = .ok (.iload 4, 2) := by decide +kernel
theorem dX0_find_49 : decode cX0_find 49 = .ok (.bipush 7, 2) := by decide +kernel
theorem dX0_find_51 : decode cX0_find 51 = .ok (.iand, 1) := by decide +kernel
theorem dX0_find_52 : decode cX0_find 52 = .ok (.iload 5, 2) := by decide +kernel
theorem dX0_find_54 : decode cX0_find 54 = .ok (.iastore, 1) := by decide +kernel
theorem dX0_find_55 : decode cX0_find 55 = .ok (.iinc 4 1, 3) := by decide +kernel
theorem dX0_find_58 : decode cX0_find 58 = .ok (.goto (-41), 3) := by decide +kernel
theorem dX0_find_61 : decode cX0_find 61 = .ok (.bipush (-4), 2) := by decide +kernel
theorem dX0_find_63 : decode cX0_find 63 = .ok (.ireturn, 1) := by decide +kernel
abbrev cX0_nextTerm : ByteArray := prog_1_method_36_code
def yX0_nextTerm : MethodName := ⟨RX0, "nextTerm", "(II)I"⟩
theorem dX0_nextTerm_0 : decode cX0_nextTerm 0 = .ok (.iload_n 2, 1) := by decide +kernel
theorem dX0_nextTerm_1 : decode cX0_nextTerm 1 = .ok (.bipush 24, 2) := by decide +kernel
theorem dX0_nextTerm_3 : decode cX0_nextTerm 3 = .ok (.if_icmp .ge 20, 3) := by decide +kernel
theorem dX0_nextTerm_6 : decode cX0_nextTerm 6 = .ok (.aload_n 0, 1) := by decide +kernel
theorem dX0_nextTerm_7 : decode cX0_nextTerm 7 = .ok (.getfield 7, 3) := by decide +kernel
theorem dX0_nextTerm_10 : decode cX0_nextTerm 10 = .ok (.iload_n 1, 1) := by decide +kernel
theorem dX0_nextTerm_11 : decode cX0_nextTerm 11 = .ok (.invokestatic 54, 3) := by decide +kernel
theorem dX0_nextTerm_14 : decode cX0_nextTerm 14 = .ok (.bipush 24, 2) := by decide +kernel
theorem dX0_nextTerm_16 : decode cX0_nextTerm 16 = .ok (.imul, 1) := by decide +kernel
theorem dX0_nextTerm_17 : decode cX0_nextTerm 17 = .ok (.iload_n 2, 1) := by decide +kernel
theorem dX0_nextTerm_18 : decode cX0_nextTerm 18 = .ok (.iadd, 1) := by decide +kernel
theorem dX0_nextTerm_19 : decode cX0_nextTerm 19 = .ok (.iaload, 1) := by decide +kernel
theorem dX0_nextTerm_20 : decode cX0_nextTerm 20 = .ok (.goto 4, 3) := by decide +kernel
theorem dX0_nextTerm_23 : decode cX0_nextTerm 23 = .ok (.iconst 0, 1) := by decide +kernel
theorem dX0_nextTerm_24 : decode cX0_nextTerm 24 = .ok (.istore_n 3, 1) := by decide +kernel
theorem dX0_nextTerm_25 : decode cX0_nextTerm 25 = .ok (.iconst 1, 1) := by decide +kernel
theorem dX0_nextTerm_26 : decode cX0_nextTerm 26 = .ok (.istore 4, 2) := by decide +kernel
theorem dX0_nextTerm_28 : decode cX0_nextTerm 28 = .ok (.iload 4, 2) := by decide +kernel
theorem dX0_nextTerm_30 : decode cX0_nextTerm 30 = .ok (.bipush 8, 2) := by decide +kernel
theorem dX0_nextTerm_32 : decode cX0_nextTerm 32 = .ok (.if_icmp .gt 46, 3) := by decide +kernel
theorem dX0_nextTerm_35 : decode cX0_nextTerm 35 = .ok (.iload 4, 2) := by decide +kernel
theorem dX0_nextTerm_37 : decode cX0_nextTerm 37 = .ok (.iload_n 2, 1) := by decide +kernel
theorem dX0_nextTerm_38 : decode cX0_nextTerm 38 = .ok (.if_icmp .gt 40, 3) := by decide +kernel
theorem dX0_nextTerm_41 : decode cX0_nextTerm 41 = .ok (.iload_n 3, 1) := by decide +kernel
theorem dX0_nextTerm_42 : decode cX0_nextTerm 42 = .ok (.aload_n 0, 1) := by decide +kernel
theorem dX0_nextTerm_43 : decode cX0_nextTerm 43 = .ok (.getfield 7, 3) := by decide +kernel
theorem dX0_nextTerm_46 : decode cX0_nextTerm 46 = .ok (.iload_n 1, 1) := by decide +kernel
theorem dX0_nextTerm_47 : decode cX0_nextTerm 47 = .ok (.invokestatic 57, 3) := by decide +kernel
theorem dX0_nextTerm_50 : decode cX0_nextTerm 50 = .ok (.bipush 24, 2) := by decide +kernel
theorem dX0_nextTerm_52 : decode cX0_nextTerm 52 = .ok (.imul, 1) := by decide +kernel
theorem dX0_nextTerm_53 : decode cX0_nextTerm 53 = .ok (.iload 4, 2) := by decide +kernel
theorem dX0_nextTerm_55 : decode cX0_nextTerm 55 = .ok (.iadd, 1) := by decide +kernel
theorem dX0_nextTerm_56 : decode cX0_nextTerm 56 = .ok (.iaload, 1) := by decide +kernel
theorem dX0_nextTerm_57 : decode cX0_nextTerm 57 = .ok (.aload_n 0, 1) := by decide +kernel
theorem dX0_nextTerm_58 : decode cX0_nextTerm 58 = .ok (.getfield 13, 3) := by decide +kernel
theorem dX0_nextTerm_61 : decode cX0_nextTerm 61 = .ok (.iload_n 2, 1) := by decide +kernel
theorem dX0_nextTerm_62 : decode cX0_nextTerm 62 = .ok (.iload 4, 2) := by decide +kernel
theorem dX0_nextTerm_64 : decode cX0_nextTerm 64 = .ok (.isub, 1) := by decide +kernel
theorem dX0_nextTerm_65 : decode cX0_nextTerm 65 = .ok (.bipush 7, 2) := by decide +kernel
theorem dX0_nextTerm_67 : decode cX0_nextTerm 67 = .ok (.iand, 1) := by decide +kernel
theorem dX0_nextTerm_68 : decode cX0_nextTerm 68 = .ok (.iaload, 1) := by decide +kernel
theorem dX0_nextTerm_69 : decode cX0_nextTerm 69 = .ok (.imul, 1) := by decide +kernel
theorem dX0_nextTerm_70 : decode cX0_nextTerm 70 = .ok (.isub, 1) := by decide +kernel
theorem dX0_nextTerm_71 : decode cX0_nextTerm 71 = .ok (.istore_n 3, 1) := by decide +kernel
theorem dX0_nextTerm_72 : decode cX0_nextTerm 72 = .ok (.iinc 4 1, 3) := by decide +kernel
theorem dX0_nextTerm_75 : decode cX0_nextTerm 75 = .ok (.goto (-47), 3) := by decide +kernel
theorem dX0_nextTerm_78 : decode cX0_nextTerm 78 = .ok (.iload_n 3, 1) := by decide +kernel
theorem dX0_nextTerm_79 : decode cX0_nextTerm 79 = .ok (.invokestatic 16, 3) := by decide +kernel
theorem dX0_nextTerm_82 : decode cX0_nextTerm 82 = .ok (.ireturn, 1) := by decide +kernel
theorem q33 : (Jvm.Cond.initialized "RecurrenceEngine") ∈ lw_all := lw_g (lw_at lw_m1 1 rfl) rfl
theorem q36 : (Jvm.Cond.instantiable "RecurrenceEngine" (2 : Nat)) ∈ lw_all := lw_g (lw_at lw_m1 4 rfl) rfl
theorem q38 : (Jvm.Cond.instanceMethod ({ cls := "RecurrenceEngine", name := "<init>", desc := "()V" } : Jvm.MethodName)) ∈ lw_all := lw_g (lw_at lw_m1 6 rfl) rfl
theorem q39 : (Jvm.Cond.code ({ cls := "RecurrenceEngine", name := "<init>", desc := "()V" } : Jvm.MethodName) prog_1_method_1_code (2 : Nat) (Option.none : Option Jvm.ClassFile.FieldType)) ∈ lw_all := lw_g (lw_at lw_m1 7 rfl) rfl
theorem q40 : (Jvm.Cond.methodLink "RecurrenceEngine" (1 : Nat) ({ cls := "java/lang/Object", name := "<init>", desc := "()V" } : Jvm.MethodName)) ∈ lw_all := lw_g (lw_at lw_m1 8 rfl) rfl
theorem q43 : (Jvm.Cond.fieldLink "RecurrenceEngine" (7 : Nat) "RecurrenceEngine" "bank" "[I") ∈ lw_all := lw_g (lw_at lw_m1 11 rfl) rfl
theorem q44 : (Jvm.Cond.fieldLink "RecurrenceEngine" (13 : Nat) "RecurrenceEngine" "recent" "[I") ∈ lw_all := lw_g (lw_at lw_m1 12 rfl) rfl
theorem q45 : (Jvm.Cond.laysFinal "RecurrenceEngine" "RecurrenceEngine" "bank" "[I") ∈ lw_all := lw_g (lw_at lw_m1 13 rfl) rfl
theorem q46 : (Jvm.Cond.soleField "RecurrenceEngine" "bank") ∈ lw_all := lw_g (lw_at lw_m1 14 rfl) rfl
theorem q47 : (Jvm.Cond.laysFinal "RecurrenceEngine" "RecurrenceEngine" "recent" "[I") ∈ lw_all := lw_g (lw_at lw_m1 15 rfl) rfl
theorem q48 : (Jvm.Cond.soleField "RecurrenceEngine" "recent") ∈ lw_all := lw_g (lw_at lw_m1 16 rfl) rfl
theorem q49 : (Jvm.Cond.superclass "RecurrenceEngine" "java/lang/Object") ∈ lw_all := lw_g (lw_at lw_m1 17 rfl) rfl
theorem q52 : (Jvm.Cond.instanceMethod ({ cls := "RecurrenceEngine", name := "define", desc := "(IIII)I" } : Jvm.MethodName)) ∈ lw_all := lw_g (lw_at lw_m1 20 rfl) rfl
theorem q53 : (Jvm.Cond.selects "RecurrenceEngine" ({ cls := "RecurrenceEngine", name := "define", desc := "(IIII)I" } : Jvm.MethodName) ({ cls := "RecurrenceEngine", name := "define", desc := "(IIII)I" } : Jvm.MethodName)) ∈ lw_all := lw_g (lw_at lw_m1 21 rfl) rfl
theorem q54 : (Jvm.Cond.code ({ cls := "RecurrenceEngine", name := "define", desc := "(IIII)I" } : Jvm.MethodName) prog_1_method_20_code (8 : Nat) (Option.some Jvm.ClassFile.FieldType.int)) ∈ lw_all := lw_g (lw_at lw_m1 22 rfl) rfl
theorem q55 : (Jvm.Cond.methodLink "RecurrenceEngine" (60 : Nat) ({ cls := "RecurrenceEngine", name := "bad", desc := "(I)Z" } : Jvm.MethodName)) ∈ lw_all := lw_g (lw_at lw_m1 23 rfl) rfl
theorem q56 : (Jvm.Cond.static ({ cls := "RecurrenceEngine", name := "bad", desc := "(I)Z" } : Jvm.MethodName)) ∈ lw_all := lw_g (lw_at lw_m1 24 rfl) rfl
theorem q57 : (Jvm.Cond.code ({ cls := "RecurrenceEngine", name := "bad", desc := "(I)Z" } : Jvm.MethodName) prog_1_method_2_code (1 : Nat) (Option.some Jvm.ClassFile.FieldType.boolean)) ∈ lw_all := lw_g (lw_at lw_m1 25 rfl) rfl
theorem q58 : (Jvm.Cond.constant "RecurrenceEngine" (64 : Nat) (2147483647 : Int32)) ∈ lw_all := lw_g (lw_at lw_m1 26 rfl) rfl
theorem q59 : (Jvm.Cond.methodLink "RecurrenceEngine" (20 : Nat) ({ cls := "RecurrenceEngine", name := "clearPoly", desc := "(I)V" } : Jvm.MethodName)) ∈ lw_all := lw_g (lw_at lw_m1 27 rfl) rfl
theorem q60 : (Jvm.Cond.privateMethod ({ cls := "RecurrenceEngine", name := "clearPoly", desc := "(I)V" } : Jvm.MethodName)) ∈ lw_tbl := lw_at lw_m1 28 rfl
theorem q61 : (Jvm.Cond.instanceMethod ({ cls := "RecurrenceEngine", name := "clearPoly", desc := "(I)V" } : Jvm.MethodName)) ∈ lw_all := lw_g (lw_at lw_m1 29 rfl) rfl
theorem q62 : (Jvm.Cond.code ({ cls := "RecurrenceEngine", name := "clearPoly", desc := "(I)V" } : Jvm.MethodName) prog_1_method_8_code (3 : Nat) (Option.none : Option Jvm.ClassFile.FieldType)) ∈ lw_all := lw_g (lw_at lw_m1 30 rfl) rfl
theorem q63 : (Jvm.Cond.methodLink "RecurrenceEngine" (16 : Nat) ({ cls := "RecurrenceEngine", name := "mod", desc := "(I)I" } : Jvm.MethodName)) ∈ lw_all := lw_g (lw_at lw_m1 31 rfl) rfl
theorem q64 : (Jvm.Cond.static ({ cls := "RecurrenceEngine", name := "mod", desc := "(I)I" } : Jvm.MethodName)) ∈ lw_all := lw_g (lw_at lw_m1 32 rfl) rfl
theorem q65 : (Jvm.Cond.code ({ cls := "RecurrenceEngine", name := "mod", desc := "(I)I" } : Jvm.MethodName) prog_1_method_5_code (2 : Nat) (Option.some Jvm.ClassFile.FieldType.int)) ∈ lw_all := lw_g (lw_at lw_m1 33 rfl) rfl
theorem q66 : (Jvm.Cond.methodLink "RecurrenceEngine" (65 : Nat) ({ cls := "RecurrenceEngine", name := "multiply", desc := "(III)V" } : Jvm.MethodName)) ∈ lw_all := lw_g (lw_at lw_m1 34 rfl) rfl
theorem q67 : (Jvm.Cond.privateMethod ({ cls := "RecurrenceEngine", name := "multiply", desc := "(III)V" } : Jvm.MethodName)) ∈ lw_tbl := lw_at lw_m1 35 rfl
theorem q68 : (Jvm.Cond.instanceMethod ({ cls := "RecurrenceEngine", name := "multiply", desc := "(III)V" } : Jvm.MethodName)) ∈ lw_all := lw_g (lw_at lw_m1 36 rfl) rfl
theorem q69 : (Jvm.Cond.code ({ cls := "RecurrenceEngine", name := "multiply", desc := "(III)V" } : Jvm.MethodName) prog_1_method_12_code (6 : Nat) (Option.none : Option Jvm.ClassFile.FieldType)) ∈ lw_all := lw_g (lw_at lw_m1 37 rfl) rfl
theorem q70 : (Jvm.Cond.methodLink "RecurrenceEngine" (24 : Nat) ({ cls := "RecurrenceEngine", name := "degree", desc := "(I)I" } : Jvm.MethodName)) ∈ lw_all := lw_g (lw_at lw_m1 38 rfl) rfl
theorem q71 : (Jvm.Cond.privateMethod ({ cls := "RecurrenceEngine", name := "degree", desc := "(I)I" } : Jvm.MethodName)) ∈ lw_tbl := lw_at lw_m1 39 rfl
theorem q72 : (Jvm.Cond.instanceMethod ({ cls := "RecurrenceEngine", name := "degree", desc := "(I)I" } : Jvm.MethodName)) ∈ lw_all := lw_g (lw_at lw_m1 40 rfl) rfl
theorem q73 : (Jvm.Cond.code ({ cls := "RecurrenceEngine", name := "degree", desc := "(I)I" } : Jvm.MethodName) prog_1_method_7_code (3 : Nat) (Option.some Jvm.ClassFile.FieldType.int)) ∈ lw_all := lw_g (lw_at lw_m1 41 rfl) rfl
theorem q74 : (Jvm.Cond.methodLink "RecurrenceEngine" (27 : Nat) ({ cls := "RecurrenceEngine", name := "addTimes", desc := "(IIII)V" } : Jvm.MethodName)) ∈ lw_all := lw_g (lw_at lw_m1 42 rfl) rfl
theorem q75 : (Jvm.Cond.privateMethod ({ cls := "RecurrenceEngine", name := "addTimes", desc := "(IIII)V" } : Jvm.MethodName)) ∈ lw_tbl := lw_at lw_m1 43 rfl
theorem q76 : (Jvm.Cond.instanceMethod ({ cls := "RecurrenceEngine", name := "addTimes", desc := "(IIII)V" } : Jvm.MethodName)) ∈ lw_all := lw_g (lw_at lw_m1 44 rfl) rfl
theorem q77 : (Jvm.Cond.code ({ cls := "RecurrenceEngine", name := "addTimes", desc := "(IIII)V" } : Jvm.MethodName) prog_1_method_11_code (6 : Nat) (Option.none : Option Jvm.ClassFile.FieldType)) ∈ lw_all := lw_g (lw_at lw_m1 45 rfl) rfl
theorem q78 : (Jvm.Cond.methodLink "RecurrenceEngine" (31 : Nat) ({ cls := "RecurrenceEngine", name := "copyPoly", desc := "(II)V" } : Jvm.MethodName)) ∈ lw_all := lw_g (lw_at lw_m1 46 rfl) rfl
theorem q79 : (Jvm.Cond.privateMethod ({ cls := "RecurrenceEngine", name := "copyPoly", desc := "(II)V" } : Jvm.MethodName)) ∈ lw_tbl := lw_at lw_m1 47 rfl
theorem q80 : (Jvm.Cond.instanceMethod ({ cls := "RecurrenceEngine", name := "copyPoly", desc := "(II)V" } : Jvm.MethodName)) ∈ lw_all := lw_g (lw_at lw_m1 48 rfl) rfl
theorem q81 : (Jvm.Cond.code ({ cls := "RecurrenceEngine", name := "copyPoly", desc := "(II)V" } : Jvm.MethodName) prog_1_method_9_code (4 : Nat) (Option.none : Option Jvm.ClassFile.FieldType)) ∈ lw_all := lw_g (lw_at lw_m1 49 rfl) rfl
theorem q82 : (Jvm.Cond.methodLink "RecurrenceEngine" (69 : Nat) ({ cls := "RecurrenceEngine", name := "keep", desc := "(I)I" } : Jvm.MethodName)) ∈ lw_all := lw_g (lw_at lw_m1 50 rfl) rfl
theorem q83 : (Jvm.Cond.privateMethod ({ cls := "RecurrenceEngine", name := "keep", desc := "(I)I" } : Jvm.MethodName)) ∈ lw_tbl := lw_at lw_m1 51 rfl
theorem q84 : (Jvm.Cond.instanceMethod ({ cls := "RecurrenceEngine", name := "keep", desc := "(I)I" } : Jvm.MethodName)) ∈ lw_all := lw_g (lw_at lw_m1 52 rfl) rfl
theorem q85 : (Jvm.Cond.code ({ cls := "RecurrenceEngine", name := "keep", desc := "(I)I" } : Jvm.MethodName) prog_1_method_17_code (5 : Nat) (Option.some Jvm.ClassFile.FieldType.int)) ∈ lw_all := lw_g (lw_at lw_m1 53 rfl) rfl
theorem q86 : (Jvm.Cond.methodLink "RecurrenceEngine" (47 : Nat) ({ cls := "RecurrenceEngine", name := "reduce", desc := "()V" } : Jvm.MethodName)) ∈ lw_all := lw_g (lw_at lw_m1 54 rfl) rfl
theorem q87 : (Jvm.Cond.privateMethod ({ cls := "RecurrenceEngine", name := "reduce", desc := "()V" } : Jvm.MethodName)) ∈ lw_tbl := lw_at lw_m1 55 rfl
theorem q88 : (Jvm.Cond.instanceMethod ({ cls := "RecurrenceEngine", name := "reduce", desc := "()V" } : Jvm.MethodName)) ∈ lw_all := lw_g (lw_at lw_m1 56 rfl) rfl
theorem q89 : (Jvm.Cond.code ({ cls := "RecurrenceEngine", name := "reduce", desc := "()V" } : Jvm.MethodName) prog_1_method_15_code (2 : Nat) (Option.none : Option Jvm.ClassFile.FieldType)) ∈ lw_all := lw_g (lw_at lw_m1 57 rfl) rfl
theorem q90 : (Jvm.Cond.methodLink "RecurrenceEngine" (41 : Nat) ({ cls := "RecurrenceEngine", name := "commonFactor", desc := "()V" } : Jvm.MethodName)) ∈ lw_all := lw_g (lw_at lw_m1 58 rfl) rfl
theorem q91 : (Jvm.Cond.privateMethod ({ cls := "RecurrenceEngine", name := "commonFactor", desc := "()V" } : Jvm.MethodName)) ∈ lw_tbl := lw_at lw_m1 59 rfl
theorem q92 : (Jvm.Cond.instanceMethod ({ cls := "RecurrenceEngine", name := "commonFactor", desc := "()V" } : Jvm.MethodName)) ∈ lw_all := lw_g (lw_at lw_m1 60 rfl) rfl
theorem q93 : (Jvm.Cond.code ({ cls := "RecurrenceEngine", name := "commonFactor", desc := "()V" } : Jvm.MethodName) prog_1_method_14_code (3 : Nat) (Option.none : Option Jvm.ClassFile.FieldType)) ∈ lw_all := lw_g (lw_at lw_m1 61 rfl) rfl
theorem q94 : (Jvm.Cond.methodLink "RecurrenceEngine" (38 : Nat) ({ cls := "RecurrenceEngine", name := "divide", desc := "(II)V" } : Jvm.MethodName)) ∈ lw_all := lw_g (lw_at lw_m1 62 rfl) rfl
theorem q95 : (Jvm.Cond.privateMethod ({ cls := "RecurrenceEngine", name := "divide", desc := "(II)V" } : Jvm.MethodName)) ∈ lw_tbl := lw_at lw_m1 63 rfl
theorem q96 : (Jvm.Cond.instanceMethod ({ cls := "RecurrenceEngine", name := "divide", desc := "(II)V" } : Jvm.MethodName)) ∈ lw_all := lw_g (lw_at lw_m1 64 rfl) rfl
theorem q97 : (Jvm.Cond.code ({ cls := "RecurrenceEngine", name := "divide", desc := "(II)V" } : Jvm.MethodName) prog_1_method_13_code (7 : Nat) (Option.none : Option Jvm.ClassFile.FieldType)) ∈ lw_all := lw_g (lw_at lw_m1 65 rfl) rfl
theorem q98 : (Jvm.Cond.methodLink "RecurrenceEngine" (35 : Nat) ({ cls := "RecurrenceEngine", name := "inverse", desc := "(I)I" } : Jvm.MethodName)) ∈ lw_all := lw_g (lw_at lw_m1 66 rfl) rfl
theorem q99 : (Jvm.Cond.static ({ cls := "RecurrenceEngine", name := "inverse", desc := "(I)I" } : Jvm.MethodName)) ∈ lw_all := lw_g (lw_at lw_m1 67 rfl) rfl
theorem q100 : (Jvm.Cond.code ({ cls := "RecurrenceEngine", name := "inverse", desc := "(I)I" } : Jvm.MethodName) prog_1_method_6_code (3 : Nat) (Option.some Jvm.ClassFile.FieldType.int)) ∈ lw_all := lw_g (lw_at lw_m1 68 rfl) rfl
theorem q101 : (Jvm.Cond.methodLink "RecurrenceEngine" (44 : Nat) ({ cls := "RecurrenceEngine", name := "scalePoly", desc := "(II)V" } : Jvm.MethodName)) ∈ lw_all := lw_g (lw_at lw_m1 69 rfl) rfl
theorem q102 : (Jvm.Cond.privateMethod ({ cls := "RecurrenceEngine", name := "scalePoly", desc := "(II)V" } : Jvm.MethodName)) ∈ lw_tbl := lw_at lw_m1 70 rfl
theorem q103 : (Jvm.Cond.instanceMethod ({ cls := "RecurrenceEngine", name := "scalePoly", desc := "(II)V" } : Jvm.MethodName)) ∈ lw_all := lw_g (lw_at lw_m1 71 rfl) rfl
theorem q104 : (Jvm.Cond.code ({ cls := "RecurrenceEngine", name := "scalePoly", desc := "(II)V" } : Jvm.MethodName) prog_1_method_10_code (4 : Nat) (Option.none : Option Jvm.ClassFile.FieldType)) ∈ lw_all := lw_g (lw_at lw_m1 72 rfl) rfl
theorem q105 : (Jvm.Cond.methodLink "RecurrenceEngine" (50 : Nat) ({ cls := "RecurrenceEngine", name := "orderOf", desc := "(II)I" } : Jvm.MethodName)) ∈ lw_all := lw_g (lw_at lw_m1 73 rfl) rfl
theorem q106 : (Jvm.Cond.privateMethod ({ cls := "RecurrenceEngine", name := "orderOf", desc := "(II)I" } : Jvm.MethodName)) ∈ lw_tbl := lw_at lw_m1 74 rfl
theorem q107 : (Jvm.Cond.instanceMethod ({ cls := "RecurrenceEngine", name := "orderOf", desc := "(II)I" } : Jvm.MethodName)) ∈ lw_all := lw_g (lw_at lw_m1 75 rfl) rfl
theorem q108 : (Jvm.Cond.code ({ cls := "RecurrenceEngine", name := "orderOf", desc := "(II)I" } : Jvm.MethodName) prog_1_method_16_code (5 : Nat) (Option.some Jvm.ClassFile.FieldType.int)) ∈ lw_all := lw_g (lw_at lw_m1 76 rfl) rfl
theorem q109 : (Jvm.Cond.methodLink "RecurrenceEngine" (54 : Nat) ({ cls := "RecurrenceEngine", name := "top", desc := "(I)I" } : Jvm.MethodName)) ∈ lw_all := lw_g (lw_at lw_m1 77 rfl) rfl
theorem q110 : (Jvm.Cond.static ({ cls := "RecurrenceEngine", name := "top", desc := "(I)I" } : Jvm.MethodName)) ∈ lw_all := lw_g (lw_at lw_m1 78 rfl) rfl
theorem q111 : (Jvm.Cond.code ({ cls := "RecurrenceEngine", name := "top", desc := "(I)I" } : Jvm.MethodName) prog_1_method_3_code (1 : Nat) (Option.some Jvm.ClassFile.FieldType.int)) ∈ lw_all := lw_g (lw_at lw_m1 79 rfl) rfl
theorem q112 : (Jvm.Cond.methodLink "RecurrenceEngine" (57 : Nat) ({ cls := "RecurrenceEngine", name := "bottom", desc := "(I)I" } : Jvm.MethodName)) ∈ lw_all := lw_g (lw_at lw_m1 80 rfl) rfl
theorem q113 : (Jvm.Cond.static ({ cls := "RecurrenceEngine", name := "bottom", desc := "(I)I" } : Jvm.MethodName)) ∈ lw_all := lw_g (lw_at lw_m1 81 rfl) rfl
theorem q114 : (Jvm.Cond.code ({ cls := "RecurrenceEngine", name := "bottom", desc := "(I)I" } : Jvm.MethodName) prog_1_method_4_code (1 : Nat) (Option.some Jvm.ClassFile.FieldType.int)) ∈ lw_all := lw_g (lw_at lw_m1 82 rfl) rfl
theorem q116 : (Jvm.Cond.instanceMethod ({ cls := "RecurrenceEngine", name := "add", desc := "(III)I" } : Jvm.MethodName)) ∈ lw_all := lw_g (lw_at lw_m1 84 rfl) rfl
theorem q117 : (Jvm.Cond.selects "RecurrenceEngine" ({ cls := "RecurrenceEngine", name := "add", desc := "(III)I" } : Jvm.MethodName) ({ cls := "RecurrenceEngine", name := "add", desc := "(III)I" } : Jvm.MethodName)) ∈ lw_all := lw_g (lw_at lw_m1 85 rfl) rfl
theorem q118 : (Jvm.Cond.code ({ cls := "RecurrenceEngine", name := "add", desc := "(III)I" } : Jvm.MethodName) prog_1_method_21_code (8 : Nat) (Option.some Jvm.ClassFile.FieldType.int)) ∈ lw_all := lw_g (lw_at lw_m1 86 rfl) rfl
theorem q120 : (Jvm.Cond.instanceMethod ({ cls := "RecurrenceEngine", name := "scale", desc := "(II)I" } : Jvm.MethodName)) ∈ lw_all := lw_g (lw_at lw_m1 88 rfl) rfl
theorem q121 : (Jvm.Cond.selects "RecurrenceEngine" ({ cls := "RecurrenceEngine", name := "scale", desc := "(II)I" } : Jvm.MethodName) ({ cls := "RecurrenceEngine", name := "scale", desc := "(II)I" } : Jvm.MethodName)) ∈ lw_all := lw_g (lw_at lw_m1 89 rfl) rfl
theorem q122 : (Jvm.Cond.code ({ cls := "RecurrenceEngine", name := "scale", desc := "(II)I" } : Jvm.MethodName) prog_1_method_22_code (4 : Nat) (Option.some Jvm.ClassFile.FieldType.int)) ∈ lw_all := lw_g (lw_at lw_m1 90 rfl) rfl
theorem q123 : (Jvm.Cond.methodLink "RecurrenceEngine" (72 : Nat) ({ cls := "RecurrenceEngine", name := "load", desc := "(I)V" } : Jvm.MethodName)) ∈ lw_all := lw_g (lw_at lw_m1 91 rfl) rfl
theorem q124 : (Jvm.Cond.privateMethod ({ cls := "RecurrenceEngine", name := "load", desc := "(I)V" } : Jvm.MethodName)) ∈ lw_tbl := lw_at lw_m1 92 rfl
theorem q125 : (Jvm.Cond.instanceMethod ({ cls := "RecurrenceEngine", name := "load", desc := "(I)V" } : Jvm.MethodName)) ∈ lw_all := lw_g (lw_at lw_m1 93 rfl) rfl
theorem q126 : (Jvm.Cond.code ({ cls := "RecurrenceEngine", name := "load", desc := "(I)V" } : Jvm.MethodName) prog_1_method_18_code (4 : Nat) (Option.none : Option Jvm.ClassFile.FieldType)) ∈ lw_all := lw_g (lw_at lw_m1 94 rfl) rfl
theorem q128 : (Jvm.Cond.instanceMethod ({ cls := "RecurrenceEngine", name := "advance", desc := "(I)I" } : Jvm.MethodName)) ∈ lw_all := lw_g (lw_at lw_m1 96 rfl) rfl
theorem q129 : (Jvm.Cond.selects "RecurrenceEngine" ({ cls := "RecurrenceEngine", name := "advance", desc := "(I)I" } : Jvm.MethodName) ({ cls := "RecurrenceEngine", name := "advance", desc := "(I)I" } : Jvm.MethodName)) ∈ lw_all := lw_g (lw_at lw_m1 97 rfl) rfl
theorem q130 : (Jvm.Cond.code ({ cls := "RecurrenceEngine", name := "advance", desc := "(I)I" } : Jvm.MethodName) prog_1_method_23_code (4 : Nat) (Option.some Jvm.ClassFile.FieldType.int)) ∈ lw_all := lw_g (lw_at lw_m1 98 rfl) rfl
theorem q132 : (Jvm.Cond.instanceMethod ({ cls := "RecurrenceEngine", name := "prepend", desc := "(II)I" } : Jvm.MethodName)) ∈ lw_all := lw_g (lw_at lw_m1 100 rfl) rfl
theorem q133 : (Jvm.Cond.selects "RecurrenceEngine" ({ cls := "RecurrenceEngine", name := "prepend", desc := "(II)I" } : Jvm.MethodName) ({ cls := "RecurrenceEngine", name := "prepend", desc := "(II)I" } : Jvm.MethodName)) ∈ lw_all := lw_g (lw_at lw_m1 101 rfl) rfl
theorem q134 : (Jvm.Cond.code ({ cls := "RecurrenceEngine", name := "prepend", desc := "(II)I" } : Jvm.MethodName) prog_1_method_24_code (4 : Nat) (Option.some Jvm.ClassFile.FieldType.int)) ∈ lw_all := lw_g (lw_at lw_m1 102 rfl) rfl
theorem q136 : (Jvm.Cond.instanceMethod ({ cls := "RecurrenceEngine", name := "accumulate", desc := "(I)I" } : Jvm.MethodName)) ∈ lw_all := lw_g (lw_at lw_m1 104 rfl) rfl
theorem q137 : (Jvm.Cond.selects "RecurrenceEngine" ({ cls := "RecurrenceEngine", name := "accumulate", desc := "(I)I" } : Jvm.MethodName) ({ cls := "RecurrenceEngine", name := "accumulate", desc := "(I)I" } : Jvm.MethodName)) ∈ lw_all := lw_g (lw_at lw_m1 105 rfl) rfl
theorem q138 : (Jvm.Cond.code ({ cls := "RecurrenceEngine", name := "accumulate", desc := "(I)I" } : Jvm.MethodName) prog_1_method_25_code (2 : Nat) (Option.some Jvm.ClassFile.FieldType.int)) ∈ lw_all := lw_g (lw_at lw_m1 106 rfl) rfl
theorem q139 : (Jvm.Cond.methodLink "RecurrenceEngine" (75 : Nat) ({ cls := "RecurrenceEngine", name := "loadStep", desc := "()V" } : Jvm.MethodName)) ∈ lw_all := lw_g (lw_at lw_m1 107 rfl) rfl
theorem q140 : (Jvm.Cond.privateMethod ({ cls := "RecurrenceEngine", name := "loadStep", desc := "()V" } : Jvm.MethodName)) ∈ lw_tbl := lw_at lw_m1 108 rfl
theorem q141 : (Jvm.Cond.instanceMethod ({ cls := "RecurrenceEngine", name := "loadStep", desc := "()V" } : Jvm.MethodName)) ∈ lw_all := lw_g (lw_at lw_m1 109 rfl) rfl
theorem q142 : (Jvm.Cond.code ({ cls := "RecurrenceEngine", name := "loadStep", desc := "()V" } : Jvm.MethodName) prog_1_method_19_code (1 : Nat) (Option.none : Option Jvm.ClassFile.FieldType)) ∈ lw_all := lw_g (lw_at lw_m1 110 rfl) rfl
theorem q144 : (Jvm.Cond.instanceMethod ({ cls := "RecurrenceEngine", name := "difference", desc := "(I)I" } : Jvm.MethodName)) ∈ lw_all := lw_g (lw_at lw_m1 112 rfl) rfl
theorem q145 : (Jvm.Cond.selects "RecurrenceEngine" ({ cls := "RecurrenceEngine", name := "difference", desc := "(I)I" } : Jvm.MethodName) ({ cls := "RecurrenceEngine", name := "difference", desc := "(I)I" } : Jvm.MethodName)) ∈ lw_all := lw_g (lw_at lw_m1 113 rfl) rfl
theorem q146 : (Jvm.Cond.code ({ cls := "RecurrenceEngine", name := "difference", desc := "(I)I" } : Jvm.MethodName) prog_1_method_26_code (2 : Nat) (Option.some Jvm.ClassFile.FieldType.int)) ∈ lw_all := lw_g (lw_at lw_m1 114 rfl) rfl
theorem q148 : (Jvm.Cond.instanceMethod ({ cls := "RecurrenceEngine", name := "copy", desc := "(II)I" } : Jvm.MethodName)) ∈ lw_all := lw_g (lw_at lw_m1 116 rfl) rfl
theorem q149 : (Jvm.Cond.selects "RecurrenceEngine" ({ cls := "RecurrenceEngine", name := "copy", desc := "(II)I" } : Jvm.MethodName) ({ cls := "RecurrenceEngine", name := "copy", desc := "(II)I" } : Jvm.MethodName)) ∈ lw_all := lw_g (lw_at lw_m1 117 rfl) rfl
theorem q150 : (Jvm.Cond.code ({ cls := "RecurrenceEngine", name := "copy", desc := "(II)I" } : Jvm.MethodName) prog_1_method_27_code (3 : Nat) (Option.some Jvm.ClassFile.FieldType.int)) ∈ lw_all := lw_g (lw_at lw_m1 118 rfl) rfl
theorem q152 : (Jvm.Cond.instanceMethod ({ cls := "RecurrenceEngine", name := "term", desc := "(II)I" } : Jvm.MethodName)) ∈ lw_all := lw_g (lw_at lw_m1 120 rfl) rfl
theorem q153 : (Jvm.Cond.selects "RecurrenceEngine" ({ cls := "RecurrenceEngine", name := "term", desc := "(II)I" } : Jvm.MethodName) ({ cls := "RecurrenceEngine", name := "term", desc := "(II)I" } : Jvm.MethodName)) ∈ lw_all := lw_g (lw_at lw_m1 121 rfl) rfl
theorem q154 : (Jvm.Cond.code ({ cls := "RecurrenceEngine", name := "term", desc := "(II)I" } : Jvm.MethodName) prog_1_method_31_code (3 : Nat) (Option.some Jvm.ClassFile.FieldType.int)) ∈ lw_all := lw_g (lw_at lw_m1 122 rfl) rfl
theorem q155 : (Jvm.Cond.methodLink "RecurrenceEngine" (84 : Nat) ({ cls := "RecurrenceEngine", name := "farTerm", desc := "(I)I" } : Jvm.MethodName)) ∈ lw_all := lw_g (lw_at lw_m1 123 rfl) rfl
theorem q156 : (Jvm.Cond.privateMethod ({ cls := "RecurrenceEngine", name := "farTerm", desc := "(I)I" } : Jvm.MethodName)) ∈ lw_tbl := lw_at lw_m1 124 rfl
theorem q157 : (Jvm.Cond.instanceMethod ({ cls := "RecurrenceEngine", name := "farTerm", desc := "(I)I" } : Jvm.MethodName)) ∈ lw_all := lw_g (lw_at lw_m1 125 rfl) rfl
theorem q158 : (Jvm.Cond.code ({ cls := "RecurrenceEngine", name := "farTerm", desc := "(I)I" } : Jvm.MethodName) prog_1_method_30_code (4 : Nat) (Option.some Jvm.ClassFile.FieldType.int)) ∈ lw_all := lw_g (lw_at lw_m1 126 rfl) rfl
theorem q159 : (Jvm.Cond.methodLink "RecurrenceEngine" (78 : Nat) ({ cls := "RecurrenceEngine", name := "loadMirror", desc := "()V" } : Jvm.MethodName)) ∈ lw_all := lw_g (lw_at lw_m1 127 rfl) rfl
theorem q160 : (Jvm.Cond.privateMethod ({ cls := "RecurrenceEngine", name := "loadMirror", desc := "()V" } : Jvm.MethodName)) ∈ lw_tbl := lw_at lw_m1 128 rfl
theorem q161 : (Jvm.Cond.instanceMethod ({ cls := "RecurrenceEngine", name := "loadMirror", desc := "()V" } : Jvm.MethodName)) ∈ lw_all := lw_g (lw_at lw_m1 129 rfl) rfl
theorem q162 : (Jvm.Cond.code ({ cls := "RecurrenceEngine", name := "loadMirror", desc := "()V" } : Jvm.MethodName) prog_1_method_28_code (3 : Nat) (Option.none : Option Jvm.ClassFile.FieldType)) ∈ lw_all := lw_g (lw_at lw_m1 130 rfl) rfl
theorem q163 : (Jvm.Cond.methodLink "RecurrenceEngine" (81 : Nat) ({ cls := "RecurrenceEngine", name := "keepHalf", desc := "(II)V" } : Jvm.MethodName)) ∈ lw_all := lw_g (lw_at lw_m1 131 rfl) rfl
theorem q164 : (Jvm.Cond.privateMethod ({ cls := "RecurrenceEngine", name := "keepHalf", desc := "(II)V" } : Jvm.MethodName)) ∈ lw_tbl := lw_at lw_m1 132 rfl
theorem q165 : (Jvm.Cond.instanceMethod ({ cls := "RecurrenceEngine", name := "keepHalf", desc := "(II)V" } : Jvm.MethodName)) ∈ lw_all := lw_g (lw_at lw_m1 133 rfl) rfl
theorem q166 : (Jvm.Cond.code ({ cls := "RecurrenceEngine", name := "keepHalf", desc := "(II)V" } : Jvm.MethodName) prog_1_method_29_code (5 : Nat) (Option.none : Option Jvm.ClassFile.FieldType)) ∈ lw_all := lw_g (lw_at lw_m1 134 rfl) rfl
theorem q168 : (Jvm.Cond.instanceMethod ({ cls := "RecurrenceEngine", name := "order", desc := "(I)I" } : Jvm.MethodName)) ∈ lw_all := lw_g (lw_at lw_m1 136 rfl) rfl
theorem q169 : (Jvm.Cond.selects "RecurrenceEngine" ({ cls := "RecurrenceEngine", name := "order", desc := "(I)I" } : Jvm.MethodName) ({ cls := "RecurrenceEngine", name := "order", desc := "(I)I" } : Jvm.MethodName)) ∈ lw_all := lw_g (lw_at lw_m1 137 rfl) rfl
theorem q170 : (Jvm.Cond.code ({ cls := "RecurrenceEngine", name := "order", desc := "(I)I" } : Jvm.MethodName) prog_1_method_32_code (4 : Nat) (Option.some Jvm.ClassFile.FieldType.int)) ∈ lw_all := lw_g (lw_at lw_m1 138 rfl) rfl
theorem q172 : (Jvm.Cond.instanceMethod ({ cls := "RecurrenceEngine", name := "equal", desc := "(II)Z" } : Jvm.MethodName)) ∈ lw_all := lw_g (lw_at lw_m1 140 rfl) rfl
theorem q173 : (Jvm.Cond.selects "RecurrenceEngine" ({ cls := "RecurrenceEngine", name := "equal", desc := "(II)Z" } : Jvm.MethodName) ({ cls := "RecurrenceEngine", name := "equal", desc := "(II)Z" } : Jvm.MethodName)) ∈ lw_all := lw_g (lw_at lw_m1 141 rfl) rfl
theorem q174 : (Jvm.Cond.code ({ cls := "RecurrenceEngine", name := "equal", desc := "(II)Z" } : Jvm.MethodName) prog_1_method_33_code (4 : Nat) (Option.some Jvm.ClassFile.FieldType.boolean)) ∈ lw_all := lw_g (lw_at lw_m1 142 rfl) rfl
theorem q176 : (Jvm.Cond.instanceMethod ({ cls := "RecurrenceEngine", name := "sum", desc := "(III)I" } : Jvm.MethodName)) ∈ lw_all := lw_g (lw_at lw_m1 144 rfl) rfl
theorem q177 : (Jvm.Cond.selects "RecurrenceEngine" ({ cls := "RecurrenceEngine", name := "sum", desc := "(III)I" } : Jvm.MethodName) ({ cls := "RecurrenceEngine", name := "sum", desc := "(III)I" } : Jvm.MethodName)) ∈ lw_all := lw_g (lw_at lw_m1 145 rfl) rfl
theorem q178 : (Jvm.Cond.code ({ cls := "RecurrenceEngine", name := "sum", desc := "(III)I" } : Jvm.MethodName) prog_1_method_35_code (6 : Nat) (Option.some Jvm.ClassFile.FieldType.int)) ∈ lw_all := lw_g (lw_at lw_m1 146 rfl) rfl
theorem q179 : (Jvm.Cond.methodLink "RecurrenceEngine" (87 : Nat) ({ cls := "RecurrenceEngine", name := "sumTo", desc := "(II)I" } : Jvm.MethodName)) ∈ lw_all := lw_g (lw_at lw_m1 147 rfl) rfl
theorem q180 : (Jvm.Cond.privateMethod ({ cls := "RecurrenceEngine", name := "sumTo", desc := "(II)I" } : Jvm.MethodName)) ∈ lw_tbl := lw_at lw_m1 148 rfl
theorem q181 : (Jvm.Cond.instanceMethod ({ cls := "RecurrenceEngine", name := "sumTo", desc := "(II)I" } : Jvm.MethodName)) ∈ lw_all := lw_g (lw_at lw_m1 149 rfl) rfl
theorem q182 : (Jvm.Cond.code ({ cls := "RecurrenceEngine", name := "sumTo", desc := "(II)I" } : Jvm.MethodName) prog_1_method_34_code (3 : Nat) (Option.some Jvm.ClassFile.FieldType.int)) ∈ lw_all := lw_g (lw_at lw_m1 150 rfl) rfl
theorem q184 : (Jvm.Cond.instanceMethod ({ cls := "RecurrenceEngine", name := "find", desc := "(II)I" } : Jvm.MethodName)) ∈ lw_all := lw_g (lw_at lw_m1 152 rfl) rfl
theorem q185 : (Jvm.Cond.selects "RecurrenceEngine" ({ cls := "RecurrenceEngine", name := "find", desc := "(II)I" } : Jvm.MethodName) ({ cls := "RecurrenceEngine", name := "find", desc := "(II)I" } : Jvm.MethodName)) ∈ lw_all := lw_g (lw_at lw_m1 153 rfl) rfl
theorem q186 : (Jvm.Cond.code ({ cls := "RecurrenceEngine", name := "find", desc := "(II)I" } : Jvm.MethodName) prog_1_method_37_code (6 : Nat) (Option.some Jvm.ClassFile.FieldType.int)) ∈ lw_all := lw_g (lw_at lw_m1 154 rfl) rfl
theorem q187 : (Jvm.Cond.methodLink "RecurrenceEngine" (90 : Nat) ({ cls := "RecurrenceEngine", name := "nextTerm", desc := "(II)I" } : Jvm.MethodName)) ∈ lw_all := lw_g (lw_at lw_m1 155 rfl) rfl
theorem q188 : (Jvm.Cond.privateMethod ({ cls := "RecurrenceEngine", name := "nextTerm", desc := "(II)I" } : Jvm.MethodName)) ∈ lw_tbl := lw_at lw_m1 156 rfl
theorem q189 : (Jvm.Cond.instanceMethod ({ cls := "RecurrenceEngine", name := "nextTerm", desc := "(II)I" } : Jvm.MethodName)) ∈ lw_all := lw_g (lw_at lw_m1 157 rfl) rfl
theorem q190 : (Jvm.Cond.code ({ cls := "RecurrenceEngine", name := "nextTerm", desc := "(II)I" } : Jvm.MethodName) prog_1_method_36_code (5 : Nat) (Option.some Jvm.ClassFile.FieldType.int)) ∈ lw_all := lw_g (lw_at lw_m1 158 rfl) rfl
theorem in_X0 : ∀ w ∈ wsX00, w ∈ lw_all := lw_in wsX00 [45, 47] (by decide +kernel) (by decide +kernel)
end
section
/-! RecurrenceEngineModel -/
set_option maxRecDepth 100000
def RX1 : String := "RecurrenceEngineModel"
def TX1 : u_T := fun k => match k with
  | 0 => ("RecurrenceEngineModel", "terms", "[I", true)
  | 1 => ("RecurrenceEngineModel", "work", "[I", true)
  | 2 => ("RecurrenceEngineModel", "table", "[I", true)
  | _ => ("RecurrenceEngineModel", "factors", "[I", true)
def tyX1 : Nat → FieldType := fun k => match k with
  | 0 => .array .int
  | 1 => .array .int
  | 2 => .array .int
  | _ => .array .int
abbrev wsX10 : List Cond := u_ws RX1 TX1 4
theorem nmX1 : ∀ a, a < 4 → ∀ b, b < 4 → a ≠ b → (TX1 a).2.1 ≠ (TX1 b).2.1 := by decide +kernel
theorem tyX1_ok : ∀ k, k < 4 → parseFieldDescriptor (TX1 k).2.2.1 = some (tyX1 k) := by decide +kernel
abbrev cX1_init : ByteArray := prog_3_method_1_code
def yX1_init : MethodName := ⟨RX1, "<init>", "()V"⟩
theorem dX1_init_0 : decode cX1_init 0 = .ok (.aload_n 0, 1) := by decide +kernel
theorem dX1_init_1 : decode cX1_init 1 = .ok (.invokespecial 1, 3) := by decide +kernel
theorem dX1_init_4 : decode cX1_init 4 = .ok (.aload_n 0, 1) := by decide +kernel
theorem dX1_init_5 : decode cX1_init 5 = .ok (.sipush 128, 3) := by decide +kernel
theorem dX1_init_8 : decode cX1_init 8 = .ok (.newarray .int, 2) := by decide +kernel
theorem dX1_init_10 : decode cX1_init 10 = .ok (.putfield 7, 3) := by decide +kernel
theorem dX1_init_13 : decode cX1_init 13 = .ok (.aload_n 0, 1) := by decide +kernel
theorem dX1_init_14 : decode cX1_init 14 = .ok (.sipush 402, 3) := by decide +kernel
theorem dX1_init_17 : decode cX1_init 17 = .ok (.newarray .int, 2) := by decide +kernel
theorem dX1_init_19 : decode cX1_init 19 = .ok (.putfield 13, 3) := by decide +kernel
theorem dX1_init_22 : decode cX1_init 22 = .ok (.aload_n 0, 1) := by decide +kernel
theorem dX1_init_23 : decode cX1_init 23 = .ok (.sipush 272, 3) := by decide +kernel
theorem dX1_init_26 : decode cX1_init 26 = .ok (.newarray .int, 2) := by decide +kernel
theorem dX1_init_28 : decode cX1_init 28 = .ok (.putfield 16, 3) := by decide +kernel
theorem dX1_init_31 : decode cX1_init 31 = .ok (.aload_n 0, 1) := by decide +kernel
theorem dX1_init_32 : decode cX1_init 32 = .ok (.bipush 17, 2) := by decide +kernel
theorem dX1_init_34 : decode cX1_init 34 = .ok (.newarray .int, 2) := by decide +kernel
theorem dX1_init_36 : decode cX1_init 36 = .ok (.putfield 19, 3) := by decide +kernel
theorem dX1_init_39 : decode cX1_init 39 = .ok (.return_, 1) := by decide +kernel
abbrev cX1_define : ByteArray := prog_3_method_14_code
def yX1_define : MethodName := ⟨RX1, "define", "(IIII)I"⟩
theorem dX1_define_0 : decode cX1_define 0 = .ok (.aload_n 0, 1) := by decide +kernel
theorem dX1_define_1 : decode cX1_define 1 = .ok (.iload_n 1, 1) := by decide +kernel
theorem dX1_define_2 : decode cX1_define 2 = .ok (.invokevirtual 49, 3) := by decide +kernel
theorem dX1_define_5 : decode cX1_define 5 = .ok (.ifCond .eq 5, 3) := by decide +kernel
theorem dX1_define_8 : decode cX1_define 8 = .ok (.iconst (-1), 1) := by decide +kernel
theorem dX1_define_9 : decode cX1_define 9 = .ok (.ireturn, 1) := by decide +kernel
theorem dX1_define_10 : decode cX1_define 10 = .ok (.iload_n 2, 1) := by decide +kernel
theorem dX1_define_11 : decode cX1_define 11 = .ok (.iconst 1, 1) := by decide +kernel
theorem dX1_define_12 : decode cX1_define 12 = .ok (.if_icmp .lt 8, 3) := by decide +kernel
theorem dX1_define_15 : decode cX1_define 15 = .ok (.iload_n 2, 1) := by decide +kernel
theorem dX1_define_16 : decode cX1_define 16 = .ok (.iconst 4, 1) := by decide +kernel
theorem dX1_define_17 : decode cX1_define 17 = .ok (.if_icmp .le 6, 3) := by decide +kernel
theorem dX1_define_20 : decode cX1_define 20 = .ok (.bipush (-2), 2) := by decide +kernel
theorem dX1_define_22 : decode cX1_define 22 = .ok (.ireturn, 1) := by decide +kernel
theorem dX1_define_23 : decode cX1_define 23 = .ok (.iconst 0, 1) := by decide +kernel
theorem dX1_define_24 : decode cX1_define 24 = .ok (.istore 5, 2) := by decide +kernel
theorem dX1_define_26 : decode cX1_define 26 = .ok (.iload 5, 2) := by decide +kernel
theorem dX1_define_28 : decode cX1_define 28 = .ok (.bipush 32, 2) := by decide +kernel
theorem dX1_define_30 : decode cX1_define 30 = .ok (.if_icmp .ge 91, 3) := by decide +kernel
theorem dX1_define_33 : decode cX1_define 33 = .ok (.iload 5, 2) := by decide +kernel
theorem dX1_define_35 : decode cX1_define 35 = .ok (.iload_n 2, 1) := by decide +kernel
theorem dX1_define_36 : decode cX1_define 36 = .ok (.if_icmp .ge 14, 3) := by decide +kernel
theorem dX1_define_39 : decode cX1_define 39 = .ok (.aload_n 0, 1) := by decide +kernel
theorem dX1_define_40 : decode cX1_define 40 = .ok (.iload 4, 2) := by decide +kernel
theorem dX1_define_42 : decode cX1_define 42 = .ok (.iload 5, 2) := by decide +kernel
theorem dX1_define_44 : decode cX1_define 44 = .ok (.invokevirtual 53, 3) := by decide +kernel
theorem dX1_define_47 : decode cX1_define 47 = .ok (.goto 4, 3) := by decide +kernel
theorem dX1_define_50 : decode cX1_define 50 = .ok (.iconst 0, 1) := by decide +kernel
theorem dX1_define_51 : decode cX1_define 51 = .ok (.istore 6, 2) := by decide +kernel
theorem dX1_define_53 : decode cX1_define 53 = .ok (.iconst 1, 1) := by decide +kernel
theorem dX1_define_54 : decode cX1_define 54 = .ok (.istore 7, 2) := by decide +kernel
theorem dX1_define_56 : decode cX1_define 56 = .ok (.iload 7, 2) := by decide +kernel
theorem dX1_define_58 : decode cX1_define 58 = .ok (.iload_n 2, 1) := by decide +kernel
theorem dX1_define_59 : decode cX1_define 59 = .ok (.if_icmp .gt 44, 3) := by decide +kernel
theorem dX1_define_62 : decode cX1_define 62 = .ok (.iload 5, 2) := by decide +kernel
theorem dX1_define_64 : decode cX1_define 64 = .ok (.iload_n 2, 1) := by decide +kernel
theorem dX1_define_65 : decode cX1_define 65 = .ok (.if_icmp .lt 32, 3) := by decide +kernel
theorem dX1_define_68 : decode cX1_define 68 = .ok (.aload_n 0, 1) := by decide +kernel
theorem dX1_define_69 : decode cX1_define 69 = .ok (.iload_n 3, 1) := by decide +kernel
theorem dX1_define_70 : decode cX1_define 70 = .ok (.iload 7, 2) := by decide +kernel
theorem dX1_define_72 : decode cX1_define 72 = .ok (.iconst 1, 1) := by decide +kernel
theorem dX1_define_73 : decode cX1_define 73 = .ok (.isub, 1) := by decide +kernel
theorem dX1_define_74 : decode cX1_define 74 = .ok (.invokevirtual 53, 3) := by decide +kernel
theorem dX1_define_77 : decode cX1_define 77 = .ok (.istore 8, 2) := by decide +kernel
theorem dX1_define_79 : decode cX1_define 79 = .ok (.iload 6, 2) := by decide +kernel
theorem dX1_define_81 : decode cX1_define 81 = .ok (.iload 8, 2) := by decide +kernel
theorem dX1_define_83 : decode cX1_define 83 = .ok (.aload_n 0, 1) := by decide +kernel
theorem dX1_define_84 : decode cX1_define 84 = .ok (.getfield 13, 3) := by decide +kernel
theorem dX1_define_87 : decode cX1_define 87 = .ok (.iload 5, 2) := by decide +kernel
theorem dX1_define_89 : decode cX1_define 89 = .ok (.iload 7, 2) := by decide +kernel
theorem dX1_define_91 : decode cX1_define 91 = .ok (.isub, 1) := by decide +kernel
theorem dX1_define_92 : decode cX1_define 92 = .ok (.iaload, 1) := by decide +kernel
theorem dX1_define_93 : decode cX1_define 93 = .ok (.imul, 1) := by decide +kernel
theorem dX1_define_94 : decode cX1_define 94 = .ok (.iadd, 1) := by decide +kernel
theorem dX1_define_95 : decode cX1_define 95 = .ok (.istore 6, 2) := by decide +kernel
theorem dX1_define_97 : decode cX1_define 97 = .ok (.iinc 7 1, 3) := by decide +kernel
theorem dX1_define_100 : decode cX1_define 100 = .ok (.goto (-44), 3) := by decide +kernel
theorem dX1_define_103 : decode cX1_define 103 = .ok (.aload_n 0, 1) := by decide +kernel
theorem dX1_define_104 : decode cX1_define 104 = .ok (.getfield 13, 3) := by decide +kernel
theorem dX1_define_107 : decode cX1_define 107 = .ok (.iload 5, 2) := by decide +kernel
theorem dX1_define_109 : decode cX1_define 109 = .ok (.iload 6, 2) := by decide +kernel
theorem dX1_define_111 : decode cX1_define 111 = .ok (.bipush 101, 2) := by decide +kernel
theorem dX1_define_113 : decode cX1_define 113 = .ok (.irem, 1) := by decide +kernel
theorem dX1_define_114 : decode cX1_define 114 = .ok (.iastore, 1) := by decide +kernel
theorem dX1_define_115 : decode cX1_define 115 = .ok (.iinc 5 1, 3) := by decide +kernel
theorem dX1_define_118 : decode cX1_define 118 = .ok (.goto (-92), 3) := by decide +kernel
theorem dX1_define_121 : decode cX1_define 121 = .ok (.aload_n 0, 1) := by decide +kernel
theorem dX1_define_122 : decode cX1_define 122 = .ok (.iload_n 1, 1) := by decide +kernel
theorem dX1_define_123 : decode cX1_define 123 = .ok (.invokevirtual 57, 3) := by decide +kernel
theorem dX1_define_126 : decode cX1_define 126 = .ok (.iconst 0, 1) := by decide +kernel
theorem dX1_define_127 : decode cX1_define 127 = .ok (.ireturn, 1) := by decide +kernel
abbrev cX1_bad : ByteArray := prog_3_method_2_code
def yX1_bad : MethodName := ⟨RX1, "bad", "(I)Z"⟩
theorem dX1_bad_0 : decode cX1_bad 0 = .ok (.iload_n 1, 1) := by decide +kernel
theorem dX1_bad_1 : decode cX1_bad 1 = .ok (.ifCond .lt 8, 3) := by decide +kernel
theorem dX1_bad_4 : decode cX1_bad 4 = .ok (.iload_n 1, 1) := by decide +kernel
theorem dX1_bad_5 : decode cX1_bad 5 = .ok (.iconst 3, 1) := by decide +kernel
theorem dX1_bad_6 : decode cX1_bad 6 = .ok (.if_icmp .le 7, 3) := by decide +kernel
theorem dX1_bad_9 : decode cX1_bad 9 = .ok (.iconst 1, 1) := by decide +kernel
theorem dX1_bad_10 : decode cX1_bad 10 = .ok (.goto 4, 3) := by decide +kernel
theorem dX1_bad_13 : decode cX1_bad 13 = .ok (.iconst 0, 1) := by decide +kernel
theorem dX1_bad_14 : decode cX1_bad 14 = .ok (.ireturn, 1) := by decide +kernel
abbrev cX1_digit : ByteArray := prog_3_method_13_code
def yX1_digit : MethodName := ⟨RX1, "digit", "(II)I"⟩
theorem dX1_digit_0 : decode cX1_digit 0 = .ok (.iload_n 1, 1) := by decide +kernel
theorem dX1_digit_1 : decode cX1_digit 1 = .ok (.ldc 48, 2) := by decide +kernel
theorem dX1_digit_3 : decode cX1_digit 3 = .ok (.iand, 1) := by decide +kernel
theorem dX1_digit_4 : decode cX1_digit 4 = .ok (.istore_n 3, 1) := by decide +kernel
theorem dX1_digit_5 : decode cX1_digit 5 = .ok (.iconst 0, 1) := by decide +kernel
theorem dX1_digit_6 : decode cX1_digit 6 = .ok (.istore 4, 2) := by decide +kernel
theorem dX1_digit_8 : decode cX1_digit 8 = .ok (.iload 4, 2) := by decide +kernel
theorem dX1_digit_10 : decode cX1_digit 10 = .ok (.iload_n 2, 1) := by decide +kernel
theorem dX1_digit_11 : decode cX1_digit 11 = .ok (.if_icmp .ge 14, 3) := by decide +kernel
theorem dX1_digit_14 : decode cX1_digit 14 = .ok (.iload_n 3, 1) := by decide +kernel
theorem dX1_digit_15 : decode cX1_digit 15 = .ok (.bipush 101, 2) := by decide +kernel
theorem dX1_digit_17 : decode cX1_digit 17 = .ok (.idiv, 1) := by decide +kernel
theorem dX1_digit_18 : decode cX1_digit 18 = .ok (.istore_n 3, 1) := by decide +kernel
theorem dX1_digit_19 : decode cX1_digit 19 = .ok (.iinc 4 1, 3) := by decide +kernel
theorem dX1_digit_22 : decode cX1_digit 22 = .ok (.goto (-14), 3) := by decide +kernel
theorem dX1_digit_25 : decode cX1_digit 25 = .ok (.iload_n 3, 1) := by decide +kernel
theorem dX1_digit_26 : decode cX1_digit 26 = .ok (.bipush 101, 2) := by decide +kernel
theorem dX1_digit_28 : decode cX1_digit 28 = .ok (.irem, 1) := by decide +kernel
theorem dX1_digit_29 : decode cX1_digit 29 = .ok (.ireturn, 1) := by decide +kernel
abbrev cX1_store : ByteArray := prog_3_method_6_code
def yX1_store : MethodName := ⟨RX1, "store", "(I)V"⟩
theorem dX1_store_0 : decode cX1_store 0 = .ok (.iconst 0, 1) := by decide +kernel
theorem dX1_store_1 : decode cX1_store 1 = .ok (.istore_n 2, 1) := by decide +kernel
theorem dX1_store_2 : decode cX1_store 2 = .ok (.iload_n 2, 1) := by decide +kernel
theorem dX1_store_3 : decode cX1_store 3 = .ok (.bipush 32, 2) := by decide +kernel
theorem dX1_store_5 : decode cX1_store 5 = .ok (.if_icmp .ge 26, 3) := by decide +kernel
theorem dX1_store_8 : decode cX1_store 8 = .ok (.aload_n 0, 1) := by decide +kernel
theorem dX1_store_9 : decode cX1_store 9 = .ok (.getfield 7, 3) := by decide +kernel
theorem dX1_store_12 : decode cX1_store 12 = .ok (.iload_n 1, 1) := by decide +kernel
theorem dX1_store_13 : decode cX1_store 13 = .ok (.bipush 32, 2) := by decide +kernel
theorem dX1_store_15 : decode cX1_store 15 = .ok (.imul, 1) := by decide +kernel
theorem dX1_store_16 : decode cX1_store 16 = .ok (.iload_n 2, 1) := by decide +kernel
theorem dX1_store_17 : decode cX1_store 17 = .ok (.iadd, 1) := by decide +kernel
theorem dX1_store_18 : decode cX1_store 18 = .ok (.aload_n 0, 1) := by decide +kernel
theorem dX1_store_19 : decode cX1_store 19 = .ok (.getfield 13, 3) := by decide +kernel
theorem dX1_store_22 : decode cX1_store 22 = .ok (.iload_n 2, 1) := by decide +kernel
theorem dX1_store_23 : decode cX1_store 23 = .ok (.iaload, 1) := by decide +kernel
theorem dX1_store_24 : decode cX1_store 24 = .ok (.iastore, 1) := by decide +kernel
theorem dX1_store_25 : decode cX1_store 25 = .ok (.iinc 2 1, 3) := by decide +kernel
theorem dX1_store_28 : decode cX1_store 28 = .ok (.goto (-26), 3) := by decide +kernel
theorem dX1_store_31 : decode cX1_store 31 = .ok (.return_, 1) := by decide +kernel
abbrev cX1_add : ByteArray := prog_3_method_16_code
def yX1_add : MethodName := ⟨RX1, "add", "(III)I"⟩
theorem dX1_add_0 : decode cX1_add 0 = .ok (.aload_n 0, 1) := by decide +kernel
theorem dX1_add_1 : decode cX1_add 1 = .ok (.iload_n 1, 1) := by decide +kernel
theorem dX1_add_2 : decode cX1_add 2 = .ok (.invokevirtual 49, 3) := by decide +kernel
theorem dX1_add_5 : decode cX1_add 5 = .ok (.ifCond .ne 19, 3) := by decide +kernel
theorem dX1_add_8 : decode cX1_add 8 = .ok (.aload_n 0, 1) := by decide +kernel
theorem dX1_add_9 : decode cX1_add 9 = .ok (.iload_n 2, 1) := by decide +kernel
theorem dX1_add_10 : decode cX1_add 10 = .ok (.invokevirtual 49, 3) := by decide +kernel
theorem dX1_add_13 : decode cX1_add 13 = .ok (.ifCond .ne 11, 3) := by decide +kernel
theorem dX1_add_16 : decode cX1_add 16 = .ok (.aload_n 0, 1) := by decide +kernel
theorem dX1_add_17 : decode cX1_add 17 = .ok (.iload_n 3, 1) := by decide +kernel
theorem dX1_add_18 : decode cX1_add 18 = .ok (.invokevirtual 49, 3) := by decide +kernel
theorem dX1_add_21 : decode cX1_add 21 = .ok (.ifCond .eq 5, 3) := by decide +kernel
theorem dX1_add_24 : decode cX1_add 24 = .ok (.iconst (-1), 1) := by decide +kernel
theorem dX1_add_25 : decode cX1_add 25 = .ok (.ireturn, 1) := by decide +kernel
theorem dX1_add_26 : decode cX1_add 26 = .ok (.iconst 0, 1) := by decide +kernel
theorem dX1_add_27 : decode cX1_add 27 = .ok (.istore 4, 2) := by decide +kernel
theorem dX1_add_29 : decode cX1_add 29 = .ok (.iload 4, 2) := by decide +kernel
theorem dX1_add_31 : decode cX1_add 31 = .ok (.bipush 32, 2) := by decide +kernel
theorem dX1_add_33 : decode cX1_add 33 = .ok (.if_icmp .ge 44, 3) := by decide +kernel
theorem dX1_add_36 : decode cX1_add 36 = .ok (.aload_n 0, 1) := by decide +kernel
theorem dX1_add_37 : decode cX1_add 37 = .ok (.getfield 13, 3) := by decide +kernel
theorem dX1_add_40 : decode cX1_add 40 = .ok (.iload 4, 2) := by decide +kernel
theorem dX1_add_42 : decode cX1_add 42 = .ok (.aload_n 0, 1) := by decide +kernel
theorem dX1_add_43 : decode cX1_add 43 = .ok (.getfield 7, 3) := by decide +kernel
theorem dX1_add_46 : decode cX1_add 46 = .ok (.iload_n 2, 1) := by decide +kernel
theorem dX1_add_47 : decode cX1_add 47 = .ok (.bipush 32, 2) := by decide +kernel
theorem dX1_add_49 : decode cX1_add 49 = .ok (.imul, 1) := by decide +kernel
theorem dX1_add_50 : decode cX1_add 50 = .ok (.iload 4, 2) := by decide +kernel
theorem dX1_add_52 : decode cX1_add 52 = .ok (.iadd, 1) := by decide +kernel
theorem dX1_add_53 : decode cX1_add 53 = .ok (.iaload, 1) := by decide +kernel
theorem dX1_add_54 : decode cX1_add 54 = .ok (.aload_n 0, 1) := by decide +kernel
theorem dX1_add_55 : decode cX1_add 55 = .ok (.getfield 7, 3) := by decide +kernel
theorem dX1_add_58 : decode cX1_add 58 = .ok (.iload_n 3, 1) := by decide +kernel
theorem dX1_add_59 : decode cX1_add 59 = .ok (.bipush 32, 2) := by decide +kernel
theorem dX1_add_61 : decode cX1_add 61 = .ok (.imul, 1) := by decide +kernel
theorem dX1_add_62 : decode cX1_add 62 = .ok (.iload 4, 2) := by decide +kernel
theorem dX1_add_64 : decode cX1_add 64 = .ok (.iadd, 1) := by decide +kernel
theorem dX1_add_65 : decode cX1_add 65 = .ok (.iaload, 1) := by decide +kernel
theorem dX1_add_66 : decode cX1_add 66 = .ok (.iadd, 1) := by decide +kernel
theorem dX1_add_67 : decode cX1_add 67 = .ok (.bipush 101, 2) := by decide +kernel
theorem dX1_add_69 : decode cX1_add 69 = .ok (.irem, 1) := by decide +kernel
theorem dX1_add_70 : decode cX1_add 70 = .ok (.iastore, 1) := by decide +kernel
theorem dX1_add_71 : decode cX1_add 71 = .ok (.iinc 4 1, 3) := by decide +kernel
theorem dX1_add_74 : decode cX1_add 74 = .ok (.goto (-45), 3) := by decide +kernel
theorem dX1_add_77 : decode cX1_add 77 = .ok (.aload_n 0, 1) := by decide +kernel
theorem dX1_add_78 : decode cX1_add 78 = .ok (.iload_n 1, 1) := by decide +kernel
theorem dX1_add_79 : decode cX1_add 79 = .ok (.invokevirtual 61, 3) := by decide +kernel
theorem dX1_add_82 : decode cX1_add 82 = .ok (.ireturn, 1) := by decide +kernel
abbrev cX1_settle : ByteArray := prog_3_method_15_code
def yX1_settle : MethodName := ⟨RX1, "settle", "(I)I"⟩
theorem dX1_settle_0 : decode cX1_settle 0 = .ok (.aload_n 0, 1) := by decide +kernel
theorem dX1_settle_1 : decode cX1_settle 1 = .ok (.invokevirtual 44, 3) := by decide +kernel
theorem dX1_settle_4 : decode cX1_settle 4 = .ok (.istore_n 2, 1) := by decide +kernel
theorem dX1_settle_5 : decode cX1_settle 5 = .ok (.iload_n 2, 1) := by decide +kernel
theorem dX1_settle_6 : decode cX1_settle 6 = .ok (.bipush 8, 2) := by decide +kernel
theorem dX1_settle_8 : decode cX1_settle 8 = .ok (.if_icmp .le 6, 3) := by decide +kernel
theorem dX1_settle_11 : decode cX1_settle 11 = .ok (.bipush (-3), 2) := by decide +kernel
theorem dX1_settle_13 : decode cX1_settle 13 = .ok (.ireturn, 1) := by decide +kernel
theorem dX1_settle_14 : decode cX1_settle 14 = .ok (.aload_n 0, 1) := by decide +kernel
theorem dX1_settle_15 : decode cX1_settle 15 = .ok (.iload_n 1, 1) := by decide +kernel
theorem dX1_settle_16 : decode cX1_settle 16 = .ok (.invokevirtual 57, 3) := by decide +kernel
theorem dX1_settle_19 : decode cX1_settle 19 = .ok (.iload_n 2, 1) := by decide +kernel
theorem dX1_settle_20 : decode cX1_settle 20 = .ok (.ireturn, 1) := by decide +kernel
abbrev cX1_rank : ByteArray := prog_3_method_11_code
def yX1_rank : MethodName := ⟨RX1, "rank", "()I"⟩
theorem dX1_rank_0 : decode cX1_rank 0 = .ok (.iconst 0, 1) := by decide +kernel
theorem dX1_rank_1 : decode cX1_rank 1 = .ok (.istore_n 1, 1) := by decide +kernel
theorem dX1_rank_2 : decode cX1_rank 2 = .ok (.iload_n 1, 1) := by decide +kernel
theorem dX1_rank_3 : decode cX1_rank 3 = .ok (.bipush 16, 2) := by decide +kernel
theorem dX1_rank_5 : decode cX1_rank 5 = .ok (.if_icmp .ge 55, 3) := by decide +kernel
theorem dX1_rank_8 : decode cX1_rank 8 = .ok (.iconst 0, 1) := by decide +kernel
theorem dX1_rank_9 : decode cX1_rank 9 = .ok (.istore_n 2, 1) := by decide +kernel
theorem dX1_rank_10 : decode cX1_rank 10 = .ok (.iload_n 2, 1) := by decide +kernel
theorem dX1_rank_11 : decode cX1_rank 11 = .ok (.bipush 16, 2) := by decide +kernel
theorem dX1_rank_13 : decode cX1_rank 13 = .ok (.if_icmp .ge 28, 3) := by decide +kernel
theorem dX1_rank_16 : decode cX1_rank 16 = .ok (.aload_n 0, 1) := by decide +kernel
theorem dX1_rank_17 : decode cX1_rank 17 = .ok (.getfield 16, 3) := by decide +kernel
theorem dX1_rank_20 : decode cX1_rank 20 = .ok (.iload_n 1, 1) := by decide +kernel
theorem dX1_rank_21 : decode cX1_rank 21 = .ok (.bipush 17, 2) := by decide +kernel
theorem dX1_rank_23 : decode cX1_rank 23 = .ok (.imul, 1) := by decide +kernel
theorem dX1_rank_24 : decode cX1_rank 24 = .ok (.iload_n 2, 1) := by decide +kernel
theorem dX1_rank_25 : decode cX1_rank 25 = .ok (.iadd, 1) := by decide +kernel
theorem dX1_rank_26 : decode cX1_rank 26 = .ok (.aload_n 0, 1) := by decide +kernel
theorem dX1_rank_27 : decode cX1_rank 27 = .ok (.getfield 13, 3) := by decide +kernel
theorem dX1_rank_30 : decode cX1_rank 30 = .ok (.iload_n 1, 1) := by decide +kernel
theorem dX1_rank_31 : decode cX1_rank 31 = .ok (.iload_n 2, 1) := by decide +kernel
theorem dX1_rank_32 : decode cX1_rank 32 = .ok (.iadd, 1) := by decide +kernel
theorem dX1_rank_33 : decode cX1_rank 33 = .ok (.iaload, 1) := by decide +kernel
theorem dX1_rank_34 : decode cX1_rank 34 = .ok (.iastore, 1) := by decide +kernel
theorem dX1_rank_35 : decode cX1_rank 35 = .ok (.iinc 2 1, 3) := by decide +kernel
theorem dX1_rank_38 : decode cX1_rank 38 = .ok (.goto (-28), 3) := by decide +kernel
theorem dX1_rank_41 : decode cX1_rank 41 = .ok (.aload_n 0, 1) := by decide +kernel
theorem dX1_rank_42 : decode cX1_rank 42 = .ok (.getfield 16, 3) := by decide +kernel
theorem dX1_rank_45 : decode cX1_rank 45 = .ok (.iload_n 1, 1) := by decide +kernel
theorem dX1_rank_46 : decode cX1_rank 46 = .ok (.bipush 17, 2) := by decide +kernel
theorem dX1_rank_48 : decode cX1_rank 48 = .ok (.imul, 1) := by decide +kernel
theorem dX1_rank_49 : decode cX1_rank 49 = .ok (.bipush 16, 2) := by decide +kernel
theorem dX1_rank_51 : decode cX1_rank 51 = .ok (.iadd, 1) := by decide +kernel
theorem dX1_rank_52 : decode cX1_rank 52 = .ok (.iconst 0, 1) := by decide +kernel
theorem dX1_rank_53 : decode cX1_rank 53 = .ok (.iastore, 1) := by decide +kernel
theorem dX1_rank_54 : decode cX1_rank 54 = .ok (.iinc 1 1, 3) := by decide +kernel
theorem dX1_rank_57 : decode cX1_rank 57 = .ok (.goto (-55), 3) := by decide +kernel
theorem dX1_rank_60 : decode cX1_rank 60 = .ok (.aload_n 0, 1) := by decide +kernel
theorem dX1_rank_61 : decode cX1_rank 61 = .ok (.bipush 16, 2) := by decide +kernel
theorem dX1_rank_63 : decode cX1_rank 63 = .ok (.invokevirtual 41, 3) := by decide +kernel
theorem dX1_rank_66 : decode cX1_rank 66 = .ok (.ireturn, 1) := by decide +kernel
abbrev cX1_eliminate : ByteArray := prog_3_method_7_code
def yX1_eliminate : MethodName := ⟨RX1, "eliminate", "(I)I"⟩
theorem dX1_eliminate_0 : decode cX1_eliminate 0 = .ok (.iconst 0, 1) := by decide +kernel
theorem dX1_eliminate_1 : decode cX1_eliminate 1 = .ok (.istore_n 2, 1) := by decide +kernel
theorem dX1_eliminate_2 : decode cX1_eliminate 2 = .ok (.iconst 0, 1) := by decide +kernel
theorem dX1_eliminate_3 : decode cX1_eliminate 3 = .ok (.istore_n 3, 1) := by decide +kernel
theorem dX1_eliminate_4 : decode cX1_eliminate 4 = .ok (.iload_n 3, 1) := by decide +kernel
theorem dX1_eliminate_5 : decode cX1_eliminate 5 = .ok (.iload_n 1, 1) := by decide +kernel
theorem dX1_eliminate_6 : decode cX1_eliminate 6 = .ok (.if_icmp .ge 40, 3) := by decide +kernel
theorem dX1_eliminate_9 : decode cX1_eliminate 9 = .ok (.aload_n 0, 1) := by decide +kernel
theorem dX1_eliminate_10 : decode cX1_eliminate 10 = .ok (.iload_n 2, 1) := by decide +kernel
theorem dX1_eliminate_11 : decode cX1_eliminate 11 = .ok (.iload_n 1, 1) := by decide +kernel
theorem dX1_eliminate_12 : decode cX1_eliminate 12 = .ok (.iload_n 3, 1) := by decide +kernel
theorem dX1_eliminate_13 : decode cX1_eliminate 13 = .ok (.invokevirtual 22, 3) := by decide +kernel
theorem dX1_eliminate_16 : decode cX1_eliminate 16 = .ok (.istore 4, 2) := by decide +kernel
theorem dX1_eliminate_18 : decode cX1_eliminate 18 = .ok (.iload 4, 2) := by decide +kernel
theorem dX1_eliminate_20 : decode cX1_eliminate 20 = .ok (.ifCond .lt 20, 3) := by decide +kernel
theorem dX1_eliminate_23 : decode cX1_eliminate 23 = .ok (.aload_n 0, 1) := by decide +kernel
theorem dX1_eliminate_24 : decode cX1_eliminate 24 = .ok (.iload_n 2, 1) := by decide +kernel
theorem dX1_eliminate_25 : decode cX1_eliminate 25 = .ok (.iload 4, 2) := by decide +kernel
theorem dX1_eliminate_27 : decode cX1_eliminate 27 = .ok (.invokevirtual 26, 3) := by decide +kernel
theorem dX1_eliminate_30 : decode cX1_eliminate 30 = .ok (.aload_n 0, 1) := by decide +kernel
theorem dX1_eliminate_31 : decode cX1_eliminate 31 = .ok (.iload_n 2, 1) := by decide +kernel
theorem dX1_eliminate_32 : decode cX1_eliminate 32 = .ok (.iload_n 1, 1) := by decide +kernel
theorem dX1_eliminate_33 : decode cX1_eliminate 33 = .ok (.iload_n 3, 1) := by decide +kernel
theorem dX1_eliminate_34 : decode cX1_eliminate 34 = .ok (.invokevirtual 30, 3) := by decide +kernel
theorem dX1_eliminate_37 : decode cX1_eliminate 37 = .ok (.iinc 2 1, 3) := by decide +kernel
theorem dX1_eliminate_40 : decode cX1_eliminate 40 = .ok (.iinc 3 1, 3) := by decide +kernel
theorem dX1_eliminate_43 : decode cX1_eliminate 43 = .ok (.goto (-39), 3) := by decide +kernel
theorem dX1_eliminate_46 : decode cX1_eliminate 46 = .ok (.iload_n 2, 1) := by decide +kernel
theorem dX1_eliminate_47 : decode cX1_eliminate 47 = .ok (.ireturn, 1) := by decide +kernel
abbrev cX1_pivot : ByteArray := prog_3_method_8_code
def yX1_pivot : MethodName := ⟨RX1, "pivot", "(III)I"⟩
theorem dX1_pivot_0 : decode cX1_pivot 0 = .ok (.iload_n 1, 1) := by decide +kernel
theorem dX1_pivot_1 : decode cX1_pivot 1 = .ok (.istore 4, 2) := by decide +kernel
theorem dX1_pivot_3 : decode cX1_pivot 3 = .ok (.iload 4, 2) := by decide +kernel
theorem dX1_pivot_5 : decode cX1_pivot 5 = .ok (.iload_n 2, 1) := by decide +kernel
theorem dX1_pivot_6 : decode cX1_pivot 6 = .ok (.if_icmp .ge 27, 3) := by decide +kernel
theorem dX1_pivot_9 : decode cX1_pivot 9 = .ok (.aload_n 0, 1) := by decide +kernel
theorem dX1_pivot_10 : decode cX1_pivot 10 = .ok (.getfield 16, 3) := by decide +kernel
theorem dX1_pivot_13 : decode cX1_pivot 13 = .ok (.iload 4, 2) := by decide +kernel
theorem dX1_pivot_15 : decode cX1_pivot 15 = .ok (.bipush 17, 2) := by decide +kernel
theorem dX1_pivot_17 : decode cX1_pivot 17 = .ok (.imul, 1) := by decide +kernel
theorem dX1_pivot_18 : decode cX1_pivot 18 = .ok (.iload_n 3, 1) := by decide +kernel
theorem dX1_pivot_19 : decode cX1_pivot 19 = .ok (.iadd, 1) := by decide +kernel
theorem dX1_pivot_20 : decode cX1_pivot 20 = .ok (.iaload, 1) := by decide +kernel
theorem dX1_pivot_21 : decode cX1_pivot 21 = .ok (.ifCond .eq 6, 3) := by decide +kernel
theorem dX1_pivot_24 : decode cX1_pivot 24 = .ok (.iload 4, 2) := by decide +kernel
theorem dX1_pivot_26 : decode cX1_pivot 26 = .ok (.ireturn, 1) := by decide +kernel
theorem dX1_pivot_27 : decode cX1_pivot 27 = .ok (.iinc 4 1, 3) := by decide +kernel
theorem dX1_pivot_30 : decode cX1_pivot 30 = .ok (.goto (-27), 3) := by decide +kernel
theorem dX1_pivot_33 : decode cX1_pivot 33 = .ok (.iconst (-1), 1) := by decide +kernel
theorem dX1_pivot_34 : decode cX1_pivot 34 = .ok (.ireturn, 1) := by decide +kernel
abbrev cX1_exchange : ByteArray := prog_3_method_9_code
def yX1_exchange : MethodName := ⟨RX1, "exchange", "(II)V"⟩
theorem dX1_exchange_0 : decode cX1_exchange 0 = .ok (.iconst 0, 1) := by decide +kernel
theorem dX1_exchange_1 : decode cX1_exchange 1 = .ok (.istore_n 3, 1) := by decide +kernel
theorem dX1_exchange_2 : decode cX1_exchange 2 = .ok (.iload_n 3, 1) := by decide +kernel
theorem dX1_exchange_3 : decode cX1_exchange 3 = .ok (.bipush 17, 2) := by decide +kernel
theorem dX1_exchange_5 : decode cX1_exchange 5 = .ok (.if_icmp .ge 57, 3) := by decide +kernel
theorem dX1_exchange_8 : decode cX1_exchange 8 = .ok (.aload_n 0, 1) := by decide +kernel
theorem dX1_exchange_9 : decode cX1_exchange 9 = .ok (.getfield 16, 3) := by decide +kernel
theorem dX1_exchange_12 : decode cX1_exchange 12 = .ok (.iload_n 1, 1) := by decide +kernel
theorem dX1_exchange_13 : decode cX1_exchange 13 = .ok (.bipush 17, 2) := by decide +kernel
theorem dX1_exchange_15 : decode cX1_exchange 15 = .ok (.imul, 1) := by decide +kernel
theorem dX1_exchange_16 : decode cX1_exchange 16 = .ok (.iload_n 3, 1) := by decide +kernel
theorem dX1_exchange_17 : decode cX1_exchange 17 = .ok (.iadd, 1) := by decide +kernel
theorem dX1_exchange_18 : decode cX1_exchange 18 = .ok (.iaload, 1) := by decide +kernel
theorem dX1_exchange_19 : decode cX1_exchange 19 = .ok (.istore 4, 2) := by decide +kernel
theorem dX1_exchange_21 : decode cX1_exchange 21 = .ok (.aload_n 0, 1) := by decide +kernel
theorem dX1_exchange_22 : decode cX1_exchange 22 = .ok (.getfield 16, 3) := by decide +kernel
theorem dX1_exchange_25 : decode cX1_exchange 25 = .ok (.iload_n 1, 1) := by decide +kernel
theorem dX1_exchange_26 : decode cX1_exchange 26 = .ok (.bipush 17, 2) := by decide +kernel
theorem dX1_exchange_28 : decode cX1_exchange 28 = .ok (.imul, 1) := by decide +kernel
theorem dX1_exchange_29 : decode cX1_exchange 29 = .ok (.iload_n 3, 1) := by decide +kernel
theorem dX1_exchange_30 : decode cX1_exchange 30 = .ok (.iadd, 1) := by decide +kernel
theorem dX1_exchange_31 : decode cX1_exchange 31 = .ok (.aload_n 0, 1) := by decide +kernel
theorem dX1_exchange_32 : decode cX1_exchange 32 = .ok (.getfield 16, 3) := by decide +kernel
theorem dX1_exchange_35 : decode cX1_exchange 35 = .ok (.iload_n 2, 1) := by decide +kernel
theorem dX1_exchange_36 : decode cX1_exchange 36 = .ok (.bipush 17, 2) := by decide +kernel
theorem dX1_exchange_38 : decode cX1_exchange 38 = .ok (.imul, 1) := by decide +kernel
theorem dX1_exchange_39 : decode cX1_exchange 39 = .ok (.iload_n 3, 1) := by decide +kernel
theorem dX1_exchange_40 : decode cX1_exchange 40 = .ok (.iadd, 1) := by decide +kernel
theorem dX1_exchange_41 : decode cX1_exchange 41 = .ok (.iaload, 1) := by decide +kernel
theorem dX1_exchange_42 : decode cX1_exchange 42 = .ok (.iastore, 1) := by decide +kernel
theorem dX1_exchange_43 : decode cX1_exchange 43 = .ok (.aload_n 0, 1) := by decide +kernel
theorem dX1_exchange_44 : decode cX1_exchange 44 = .ok (.getfield 16, 3) := by decide +kernel
theorem dX1_exchange_47 : decode cX1_exchange 47 = .ok (.iload_n 2, 1) := by decide +kernel
theorem dX1_exchange_48 : decode cX1_exchange 48 = .ok (.bipush 17, 2) := by decide +kernel
theorem dX1_exchange_50 : decode cX1_exchange 50 = .ok (.imul, 1) := by decide +kernel
theorem dX1_exchange_51 : decode cX1_exchange 51 = .ok (.iload_n 3, 1) := by decide +kernel
theorem dX1_exchange_52 : decode cX1_exchange 52 = .ok (.iadd, 1) := by decide +kernel
theorem dX1_exchange_53 : decode cX1_exchange 53 = .ok (.iload 4, 2) := by decide +kernel
theorem dX1_exchange_55 : decode cX1_exchange 55 = .ok (.iastore, 1) := by decide +kernel
theorem dX1_exchange_56 : decode cX1_exchange 56 = .ok (.iinc 3 1, 3) := by decide +kernel
theorem dX1_exchange_59 : decode cX1_exchange 59 = .ok (.goto (-57), 3) := by decide +kernel
theorem dX1_exchange_62 : decode cX1_exchange 62 = .ok (.return_, 1) := by decide +kernel
abbrev cX1_clearColumn : ByteArray := prog_3_method_10_code
def yX1_clearColumn : MethodName := ⟨RX1, "clearColumn", "(III)V"⟩
theorem dX1_clearColumn_0 : decode cX1_clearColumn 0 = .ok (.aload_n 0, 1) := by decide +kernel
theorem dX1_clearColumn_1 : decode cX1_clearColumn 1 = .ok (.aload_n 0, 1) := by decide +kernel
theorem dX1_clearColumn_2 : decode cX1_clearColumn 2 = .ok (.getfield 16, 3) := by decide +kernel
theorem dX1_clearColumn_5 : decode cX1_clearColumn 5 = .ok (.iload_n 1, 1) := by decide +kernel
theorem dX1_clearColumn_6 : decode cX1_clearColumn 6 = .ok (.bipush 17, 2) := by decide +kernel
theorem dX1_clearColumn_8 : decode cX1_clearColumn 8 = .ok (.imul, 1) := by decide +kernel
theorem dX1_clearColumn_9 : decode cX1_clearColumn 9 = .ok (.iload_n 3, 1) := by decide +kernel
theorem dX1_clearColumn_10 : decode cX1_clearColumn 10 = .ok (.iadd, 1) := by decide +kernel
theorem dX1_clearColumn_11 : decode cX1_clearColumn 11 = .ok (.iaload, 1) := by decide +kernel
theorem dX1_clearColumn_12 : decode cX1_clearColumn 12 = .ok (.invokevirtual 34, 3) := by decide +kernel
theorem dX1_clearColumn_15 : decode cX1_clearColumn 15 = .ok (.istore 4, 2) := by decide +kernel
theorem dX1_clearColumn_17 : decode cX1_clearColumn 17 = .ok (.iconst 0, 1) := by decide +kernel
theorem dX1_clearColumn_18 : decode cX1_clearColumn 18 = .ok (.istore 5, 2) := by decide +kernel
theorem dX1_clearColumn_20 : decode cX1_clearColumn 20 = .ok (.iload 5, 2) := by decide +kernel
theorem dX1_clearColumn_22 : decode cX1_clearColumn 22 = .ok (.bipush 17, 2) := by decide +kernel
theorem dX1_clearColumn_24 : decode cX1_clearColumn 24 = .ok (.if_icmp .ge 39, 3) := by decide +kernel
theorem dX1_clearColumn_27 : decode cX1_clearColumn 27 = .ok (.aload_n 0, 1) := by decide +kernel
theorem dX1_clearColumn_28 : decode cX1_clearColumn 28 = .ok (.getfield 16, 3) := by decide +kernel
theorem dX1_clearColumn_31 : decode cX1_clearColumn 31 = .ok (.iload_n 1, 1) := by decide +kernel
theorem dX1_clearColumn_32 : decode cX1_clearColumn 32 = .ok (.bipush 17, 2) := by decide +kernel
theorem dX1_clearColumn_34 : decode cX1_clearColumn 34 = .ok (.imul, 1) := by decide +kernel
theorem dX1_clearColumn_35 : decode cX1_clearColumn 35 = .ok (.iload 5, 2) := by decide +kernel
theorem dX1_clearColumn_37 : decode cX1_clearColumn 37 = .ok (.iadd, 1) := by decide +kernel
theorem dX1_clearColumn_38 : decode cX1_clearColumn 38 = .ok (.aload_n 0, 1) := by decide +kernel
theorem dX1_clearColumn_39 : decode cX1_clearColumn 39 = .ok (.getfield 16, 3) := by decide +kernel
theorem dX1_clearColumn_42 : decode cX1_clearColumn 42 = .ok (.iload_n 1, 1) := by decide +kernel
theorem dX1_clearColumn_43 : decode cX1_clearColumn 43 = .ok (.bipush 17, 2) := by decide +kernel
theorem dX1_clearColumn_45 : decode cX1_clearColumn 45 = .ok (.imul, 1) := by decide +kernel
theorem dX1_clearColumn_46 : decode cX1_clearColumn 46 = .ok (.iload 5, 2) := by decide +kernel
theorem dX1_clearColumn_48 : decode cX1_clearColumn 48 = .ok (.iadd, 1) := by decide +kernel
theorem dX1_clearColumn_49 : decode cX1_clearColumn 49 = .ok (.iaload, 1) := by decide +kernel
theorem dX1_clearColumn_50 : decode cX1_clearColumn 50 = .ok (.iload 4, 2) := by decide +kernel
theorem dX1_clearColumn_52 : decode cX1_clearColumn 52 = .ok (.imul, 1) := by decide +kernel
theorem dX1_clearColumn_53 : decode cX1_clearColumn 53 = .ok (.bipush 101, 2) := by decide +kernel
theorem dX1_clearColumn_55 : decode cX1_clearColumn 55 = .ok (.irem, 1) := by decide +kernel
theorem dX1_clearColumn_56 : decode cX1_clearColumn 56 = .ok (.iastore, 1) := by decide +kernel
theorem dX1_clearColumn_57 : decode cX1_clearColumn 57 = .ok (.iinc 5 1, 3) := by decide +kernel
theorem dX1_clearColumn_60 : decode cX1_clearColumn 60 = .ok (.goto (-40), 3) := by decide +kernel
theorem dX1_clearColumn_63 : decode cX1_clearColumn 63 = .ok (.iconst 0, 1) := by decide +kernel
theorem dX1_clearColumn_64 : decode cX1_clearColumn 64 = .ok (.istore 5, 2) := by decide +kernel
theorem dX1_clearColumn_66 : decode cX1_clearColumn 66 = .ok (.iload 5, 2) := by decide +kernel
theorem dX1_clearColumn_68 : decode cX1_clearColumn 68 = .ok (.iload_n 2, 1) := by decide +kernel
theorem dX1_clearColumn_69 : decode cX1_clearColumn 69 = .ok (.if_icmp .ge 91, 3) := by decide +kernel
theorem dX1_clearColumn_72 : decode cX1_clearColumn 72 = .ok (.aload_n 0, 1) := by decide +kernel
theorem dX1_clearColumn_73 : decode cX1_clearColumn 73 = .ok (.getfield 16, 3) := by decide +kernel
theorem dX1_clearColumn_76 : decode cX1_clearColumn 76 = .ok (.iload 5, 2) := by decide +kernel
theorem dX1_clearColumn_78 : decode cX1_clearColumn 78 = .ok (.bipush 17, 2) := by decide +kernel
theorem dX1_clearColumn_80 : decode cX1_clearColumn 80 = .ok (.imul, 1) := by decide +kernel
theorem dX1_clearColumn_81 : decode cX1_clearColumn 81 = .ok (.iload_n 3, 1) := by decide +kernel
theorem dX1_clearColumn_82 : decode cX1_clearColumn 82 = .ok (.iadd, 1) := by decide +kernel
theorem dX1_clearColumn_83 : decode cX1_clearColumn 83 = .ok (.iaload, 1) := by decide +kernel
theorem dX1_clearColumn_84 : decode cX1_clearColumn 84 = .ok (.istore 6, 2) := by decide +kernel
theorem dX1_clearColumn_86 : decode cX1_clearColumn 86 = .ok (.iconst 0, 1) := by decide +kernel
theorem dX1_clearColumn_87 : decode cX1_clearColumn 87 = .ok (.istore 7, 2) := by decide +kernel
theorem dX1_clearColumn_89 : decode cX1_clearColumn 89 = .ok (.iload 7, 2) := by decide +kernel
theorem dX1_clearColumn_91 : decode cX1_clearColumn 91 = .ok (.bipush 17, 2) := by decide +kernel
theorem dX1_clearColumn_93 : decode cX1_clearColumn 93 = .ok (.if_icmp .ge 61, 3) := by decide +kernel
theorem dX1_clearColumn_96 : decode cX1_clearColumn 96 = .ok (.iload 5, 2) := by decide +kernel
theorem dX1_clearColumn_98 : decode cX1_clearColumn 98 = .ok (.iload_n 1, 1) := by decide +kernel
theorem dX1_clearColumn_99 : decode cX1_clearColumn 99 = .ok (.if_icmp .eq 49, 3) := by decide +kernel
theorem dX1_clearColumn_102 : decode cX1_clearColumn 102 = .ok (.aload_n 0, 1) := by decide +kernel
theorem dX1_clearColumn_103 : decode cX1_clearColumn 103 = .ok (.getfield 16, 3) := by decide +kernel
theorem dX1_clearColumn_106 : decode cX1_clearColumn 106 = .ok (.iload 5, 2) := by decide +kernel
theorem dX1_clearColumn_108 : decode cX1_clearColumn 108 = .ok (.bipush 17, 2) := by decide +kernel
theorem dX1_clearColumn_110 : decode cX1_clearColumn 110 = .ok (.imul, 1) := by decide +kernel
theorem dX1_clearColumn_111 : decode cX1_clearColumn 111 = .ok (.iload 7, 2) := by decide +kernel
theorem dX1_clearColumn_113 : decode cX1_clearColumn 113 = .ok (.iadd, 1) := by decide +kernel
theorem dX1_clearColumn_114 : decode cX1_clearColumn 114 = .ok (.aload_n 0, 1) := by decide +kernel
theorem dX1_clearColumn_115 : decode cX1_clearColumn 115 = .ok (.aload_n 0, 1) := by decide +kernel
theorem dX1_clearColumn_116 : decode cX1_clearColumn 116 = .ok (.getfield 16, 3) := by decide +kernel
theorem dX1_clearColumn_119 : decode cX1_clearColumn 119 = .ok (.iload 5, 2) := by decide +kernel
theorem dX1_clearColumn_121 : decode cX1_clearColumn 121 = .ok (.bipush 17, 2) := by decide +kernel
theorem dX1_clearColumn_123 : decode cX1_clearColumn 123 = .ok (.imul, 1) := by decide +kernel
theorem dX1_clearColumn_124 : decode cX1_clearColumn 124 = .ok (.iload 7, 2) := by decide +kernel
theorem dX1_clearColumn_126 : decode cX1_clearColumn 126 = .ok (.iadd, 1) := by decide +kernel
theorem dX1_clearColumn_127 : decode cX1_clearColumn 127 = .ok (.iaload, 1) := by decide +kernel
theorem dX1_clearColumn_128 : decode cX1_clearColumn 128 = .ok (.iload 6, 2) := by decide +kernel
theorem dX1_clearColumn_130 : decode cX1_clearColumn 130 = .ok (.aload_n 0, 1) := by decide +kernel
theorem dX1_clearColumn_131 : decode cX1_clearColumn 131 = .ok (.getfield 16, 3) := by decide +kernel
theorem dX1_clearColumn_134 : decode cX1_clearColumn 134 = .ok (.iload_n 1, 1) := by decide +kernel
theorem dX1_clearColumn_135 : decode cX1_clearColumn 135 = .ok (.bipush 17, 2) := by decide +kernel
theorem dX1_clearColumn_137 : decode cX1_clearColumn 137 = .ok (.imul, 1) := by decide +kernel
theorem dX1_clearColumn_138 : decode cX1_clearColumn 138 = .ok (.iload 7, 2) := by decide +kernel
theorem dX1_clearColumn_140 : decode cX1_clearColumn 140 = .ok (.iadd, 1) := by decide +kernel
theorem dX1_clearColumn_141 : decode cX1_clearColumn 141 = .ok (.iaload, 1) := by decide +kernel
theorem dX1_clearColumn_142 : decode cX1_clearColumn 142 = .ok (.imul, 1) := by decide +kernel
theorem dX1_clearColumn_143 : decode cX1_clearColumn 143 = .ok (.isub, 1) := by decide +kernel
theorem dX1_clearColumn_144 : decode cX1_clearColumn 144 = .ok (.invokevirtual 38, 3) := by decide +kernel
theorem dX1_clearColumn_147 : decode cX1_clearColumn 147 = .ok (.iastore, 1) := by decide +kernel
theorem dX1_clearColumn_148 : decode cX1_clearColumn 148 = .ok (.iinc 7 1, 3) := by decide +kernel
theorem dX1_clearColumn_151 : decode cX1_clearColumn 151 = .ok (.goto (-62), 3) := by decide +kernel
theorem dX1_clearColumn_154 : decode cX1_clearColumn 154 = .ok (.iinc 5 1, 3) := by decide +kernel
theorem dX1_clearColumn_157 : decode cX1_clearColumn 157 = .ok (.goto (-91), 3) := by decide +kernel
theorem dX1_clearColumn_160 : decode cX1_clearColumn 160 = .ok (.return_, 1) := by decide +kernel
abbrev cX1_inverse : ByteArray := prog_3_method_4_code
def yX1_inverse : MethodName := ⟨RX1, "inverse", "(I)I"⟩
theorem dX1_inverse_0 : decode cX1_inverse 0 = .ok (.iconst 1, 1) := by decide +kernel
theorem dX1_inverse_1 : decode cX1_inverse 1 = .ok (.istore_n 2, 1) := by decide +kernel
theorem dX1_inverse_2 : decode cX1_inverse 2 = .ok (.iload_n 2, 1) := by decide +kernel
theorem dX1_inverse_3 : decode cX1_inverse 3 = .ok (.bipush 101, 2) := by decide +kernel
theorem dX1_inverse_5 : decode cX1_inverse 5 = .ok (.if_icmp .ge 21, 3) := by decide +kernel
theorem dX1_inverse_8 : decode cX1_inverse 8 = .ok (.iload_n 1, 1) := by decide +kernel
theorem dX1_inverse_9 : decode cX1_inverse 9 = .ok (.iload_n 2, 1) := by decide +kernel
theorem dX1_inverse_10 : decode cX1_inverse 10 = .ok (.imul, 1) := by decide +kernel
theorem dX1_inverse_11 : decode cX1_inverse 11 = .ok (.bipush 101, 2) := by decide +kernel
theorem dX1_inverse_13 : decode cX1_inverse 13 = .ok (.irem, 1) := by decide +kernel
theorem dX1_inverse_14 : decode cX1_inverse 14 = .ok (.iconst 1, 1) := by decide +kernel
theorem dX1_inverse_15 : decode cX1_inverse 15 = .ok (.if_icmp .ne 5, 3) := by decide +kernel
theorem dX1_inverse_18 : decode cX1_inverse 18 = .ok (.iload_n 2, 1) := by decide +kernel
theorem dX1_inverse_19 : decode cX1_inverse 19 = .ok (.ireturn, 1) := by decide +kernel
theorem dX1_inverse_20 : decode cX1_inverse 20 = .ok (.iinc 2 1, 3) := by decide +kernel
theorem dX1_inverse_23 : decode cX1_inverse 23 = .ok (.goto (-21), 3) := by decide +kernel
theorem dX1_inverse_26 : decode cX1_inverse 26 = .ok (.iconst 0, 1) := by decide +kernel
theorem dX1_inverse_27 : decode cX1_inverse 27 = .ok (.ireturn, 1) := by decide +kernel
abbrev cX1_mod : ByteArray := prog_3_method_3_code
def yX1_mod : MethodName := ⟨RX1, "mod", "(I)I"⟩
theorem dX1_mod_0 : decode cX1_mod 0 = .ok (.iload_n 1, 1) := by decide +kernel
theorem dX1_mod_1 : decode cX1_mod 1 = .ok (.bipush 101, 2) := by decide +kernel
theorem dX1_mod_3 : decode cX1_mod 3 = .ok (.irem, 1) := by decide +kernel
theorem dX1_mod_4 : decode cX1_mod 4 = .ok (.istore_n 2, 1) := by decide +kernel
theorem dX1_mod_5 : decode cX1_mod 5 = .ok (.iload_n 2, 1) := by decide +kernel
theorem dX1_mod_6 : decode cX1_mod 6 = .ok (.ifCond .ge 10, 3) := by decide +kernel
theorem dX1_mod_9 : decode cX1_mod 9 = .ok (.iload_n 2, 1) := by decide +kernel
theorem dX1_mod_10 : decode cX1_mod 10 = .ok (.bipush 101, 2) := by decide +kernel
theorem dX1_mod_12 : decode cX1_mod 12 = .ok (.iadd, 1) := by decide +kernel
theorem dX1_mod_13 : decode cX1_mod 13 = .ok (.goto 4, 3) := by decide +kernel
theorem dX1_mod_16 : decode cX1_mod 16 = .ok (.iload_n 2, 1) := by decide +kernel
theorem dX1_mod_17 : decode cX1_mod 17 = .ok (.ireturn, 1) := by decide +kernel
abbrev cX1_scale : ByteArray := prog_3_method_17_code
def yX1_scale : MethodName := ⟨RX1, "scale", "(II)I"⟩
theorem dX1_scale_0 : decode cX1_scale 0 = .ok (.aload_n 0, 1) := by decide +kernel
theorem dX1_scale_1 : decode cX1_scale 1 = .ok (.iload_n 1, 1) := by decide +kernel
theorem dX1_scale_2 : decode cX1_scale 2 = .ok (.invokevirtual 49, 3) := by decide +kernel
theorem dX1_scale_5 : decode cX1_scale 5 = .ok (.ifCond .eq 5, 3) := by decide +kernel
theorem dX1_scale_8 : decode cX1_scale 8 = .ok (.iconst (-1), 1) := by decide +kernel
theorem dX1_scale_9 : decode cX1_scale 9 = .ok (.ireturn, 1) := by decide +kernel
theorem dX1_scale_10 : decode cX1_scale 10 = .ok (.aload_n 0, 1) := by decide +kernel
theorem dX1_scale_11 : decode cX1_scale 11 = .ok (.iload_n 2, 1) := by decide +kernel
theorem dX1_scale_12 : decode cX1_scale 12 = .ok (.invokevirtual 38, 3) := by decide +kernel
theorem dX1_scale_15 : decode cX1_scale 15 = .ok (.istore_n 3, 1) := by decide +kernel
theorem dX1_scale_16 : decode cX1_scale 16 = .ok (.iconst 0, 1) := by decide +kernel
theorem dX1_scale_17 : decode cX1_scale 17 = .ok (.istore 4, 2) := by decide +kernel
theorem dX1_scale_19 : decode cX1_scale 19 = .ok (.iload 4, 2) := by decide +kernel
theorem dX1_scale_21 : decode cX1_scale 21 = .ok (.bipush 32, 2) := by decide +kernel
theorem dX1_scale_23 : decode cX1_scale 23 = .ok (.if_icmp .ge 33, 3) := by decide +kernel
theorem dX1_scale_26 : decode cX1_scale 26 = .ok (.aload_n 0, 1) := by decide +kernel
theorem dX1_scale_27 : decode cX1_scale 27 = .ok (.getfield 13, 3) := by decide +kernel
theorem dX1_scale_30 : decode cX1_scale 30 = .ok (.iload 4, 2) := by decide +kernel
theorem dX1_scale_32 : decode cX1_scale 32 = .ok (.aload_n 0, 1) := by decide +kernel
theorem dX1_scale_33 : decode cX1_scale 33 = .ok (.getfield 7, 3) := by decide +kernel
theorem dX1_scale_36 : decode cX1_scale 36 = .ok (.iload_n 1, 1) := by decide +kernel
theorem dX1_scale_37 : decode cX1_scale 37 = .ok (.bipush 32, 2) := by decide +kernel
theorem dX1_scale_39 : decode cX1_scale 39 = .ok (.imul, 1) := by decide +kernel
theorem dX1_scale_40 : decode cX1_scale 40 = .ok (.iload 4, 2) := by decide +kernel
theorem dX1_scale_42 : decode cX1_scale 42 = .ok (.iadd, 1) := by decide +kernel
theorem dX1_scale_43 : decode cX1_scale 43 = .ok (.iaload, 1) := by decide +kernel
theorem dX1_scale_44 : decode cX1_scale 44 = .ok (.iload_n 3, 1) := by decide +kernel
theorem dX1_scale_45 : decode cX1_scale 45 = .ok (.imul, 1) := by decide +kernel
theorem dX1_scale_46 : decode cX1_scale 46 = .ok (.bipush 101, 2) := by decide +kernel
theorem dX1_scale_48 : decode cX1_scale 48 = .ok (.irem, 1) := by decide +kernel
theorem dX1_scale_49 : decode cX1_scale 49 = .ok (.iastore, 1) := by decide +kernel
theorem dX1_scale_50 : decode cX1_scale 50 = .ok (.iinc 4 1, 3) := by decide +kernel
theorem dX1_scale_53 : decode cX1_scale 53 = .ok (.goto (-34), 3) := by decide +kernel
theorem dX1_scale_56 : decode cX1_scale 56 = .ok (.aload_n 0, 1) := by decide +kernel
theorem dX1_scale_57 : decode cX1_scale 57 = .ok (.iload_n 1, 1) := by decide +kernel
theorem dX1_scale_58 : decode cX1_scale 58 = .ok (.invokevirtual 61, 3) := by decide +kernel
theorem dX1_scale_61 : decode cX1_scale 61 = .ok (.ireturn, 1) := by decide +kernel
abbrev cX1_advance : ByteArray := prog_3_method_18_code
def yX1_advance : MethodName := ⟨RX1, "advance", "(I)I"⟩
theorem dX1_advance_0 : decode cX1_advance 0 = .ok (.aload_n 0, 1) := by decide +kernel
theorem dX1_advance_1 : decode cX1_advance 1 = .ok (.iload_n 1, 1) := by decide +kernel
theorem dX1_advance_2 : decode cX1_advance 2 = .ok (.invokevirtual 49, 3) := by decide +kernel
theorem dX1_advance_5 : decode cX1_advance 5 = .ok (.ifCond .eq 5, 3) := by decide +kernel
theorem dX1_advance_8 : decode cX1_advance 8 = .ok (.iconst (-1), 1) := by decide +kernel
theorem dX1_advance_9 : decode cX1_advance 9 = .ok (.ireturn, 1) := by decide +kernel
theorem dX1_advance_10 : decode cX1_advance 10 = .ok (.aload_n 0, 1) := by decide +kernel
theorem dX1_advance_11 : decode cX1_advance 11 = .ok (.iload_n 1, 1) := by decide +kernel
theorem dX1_advance_12 : decode cX1_advance 12 = .ok (.invokevirtual 64, 3) := by decide +kernel
theorem dX1_advance_15 : decode cX1_advance 15 = .ok (.aload_n 0, 1) := by decide +kernel
theorem dX1_advance_16 : decode cX1_advance 16 = .ok (.bipush 32, 2) := by decide +kernel
theorem dX1_advance_18 : decode cX1_advance 18 = .ok (.invokevirtual 67, 3) := by decide +kernel
theorem dX1_advance_21 : decode cX1_advance 21 = .ok (.iconst 0, 1) := by decide +kernel
theorem dX1_advance_22 : decode cX1_advance 22 = .ok (.istore_n 2, 1) := by decide +kernel
theorem dX1_advance_23 : decode cX1_advance 23 = .ok (.iload_n 2, 1) := by decide +kernel
theorem dX1_advance_24 : decode cX1_advance 24 = .ok (.bipush 32, 2) := by decide +kernel
theorem dX1_advance_26 : decode cX1_advance 26 = .ok (.if_icmp .ge 23, 3) := by decide +kernel
theorem dX1_advance_29 : decode cX1_advance 29 = .ok (.aload_n 0, 1) := by decide +kernel
theorem dX1_advance_30 : decode cX1_advance 30 = .ok (.getfield 13, 3) := by decide +kernel
theorem dX1_advance_33 : decode cX1_advance 33 = .ok (.iload_n 2, 1) := by decide +kernel
theorem dX1_advance_34 : decode cX1_advance 34 = .ok (.aload_n 0, 1) := by decide +kernel
theorem dX1_advance_35 : decode cX1_advance 35 = .ok (.getfield 13, 3) := by decide +kernel
theorem dX1_advance_38 : decode cX1_advance 38 = .ok (.iload_n 2, 1) := by decide +kernel
theorem dX1_advance_39 : decode cX1_advance 39 = .ok (.iconst 1, 1) := by decide +kernel
theorem dX1_advance_40 : decode cX1_advance 40 = .ok (.iadd, 1) := by decide +kernel
theorem dX1_advance_41 : decode cX1_advance 41 = .ok (.iaload, 1) := by decide +kernel
theorem dX1_advance_42 : decode cX1_advance 42 = .ok (.iastore, 1) := by decide +kernel
theorem dX1_advance_43 : decode cX1_advance 43 = .ok (.iinc 2 1, 3) := by decide +kernel
theorem dX1_advance_46 : decode cX1_advance 46 = .ok (.goto (-23), 3) := by decide +kernel
theorem dX1_advance_49 : decode cX1_advance 49 = .ok (.aload_n 0, 1) := by decide +kernel
theorem dX1_advance_50 : decode cX1_advance 50 = .ok (.iload_n 1, 1) := by decide +kernel
theorem dX1_advance_51 : decode cX1_advance 51 = .ok (.invokevirtual 61, 3) := by decide +kernel
theorem dX1_advance_54 : decode cX1_advance 54 = .ok (.ireturn, 1) := by decide +kernel
abbrev cX1_load : ByteArray := prog_3_method_5_code
def yX1_load : MethodName := ⟨RX1, "load", "(I)V"⟩
theorem dX1_load_0 : decode cX1_load 0 = .ok (.iconst 0, 1) := by decide +kernel
theorem dX1_load_1 : decode cX1_load 1 = .ok (.istore_n 2, 1) := by decide +kernel
theorem dX1_load_2 : decode cX1_load 2 = .ok (.iload_n 2, 1) := by decide +kernel
theorem dX1_load_3 : decode cX1_load 3 = .ok (.bipush 32, 2) := by decide +kernel
theorem dX1_load_5 : decode cX1_load 5 = .ok (.if_icmp .ge 26, 3) := by decide +kernel
theorem dX1_load_8 : decode cX1_load 8 = .ok (.aload_n 0, 1) := by decide +kernel
theorem dX1_load_9 : decode cX1_load 9 = .ok (.getfield 13, 3) := by decide +kernel
theorem dX1_load_12 : decode cX1_load 12 = .ok (.iload_n 2, 1) := by decide +kernel
theorem dX1_load_13 : decode cX1_load 13 = .ok (.aload_n 0, 1) := by decide +kernel
theorem dX1_load_14 : decode cX1_load 14 = .ok (.getfield 7, 3) := by decide +kernel
theorem dX1_load_17 : decode cX1_load 17 = .ok (.iload_n 1, 1) := by decide +kernel
theorem dX1_load_18 : decode cX1_load 18 = .ok (.bipush 32, 2) := by decide +kernel
theorem dX1_load_20 : decode cX1_load 20 = .ok (.imul, 1) := by decide +kernel
theorem dX1_load_21 : decode cX1_load 21 = .ok (.iload_n 2, 1) := by decide +kernel
theorem dX1_load_22 : decode cX1_load 22 = .ok (.iadd, 1) := by decide +kernel
theorem dX1_load_23 : decode cX1_load 23 = .ok (.iaload, 1) := by decide +kernel
theorem dX1_load_24 : decode cX1_load 24 = .ok (.iastore, 1) := by decide +kernel
theorem dX1_load_25 : decode cX1_load 25 = .ok (.iinc 2 1, 3) := by decide +kernel
theorem dX1_load_28 : decode cX1_load 28 = .ok (.goto (-26), 3) := by decide +kernel
theorem dX1_load_31 : decode cX1_load 31 = .ok (.return_, 1) := by decide +kernel
abbrev cX1_extend : ByteArray := prog_3_method_12_code
def yX1_extend : MethodName := ⟨RX1, "extend", "(I)V"⟩
theorem dX1_extend_0 : decode cX1_extend 0 = .ok (.aload_n 0, 1) := by decide +kernel
theorem dX1_extend_1 : decode cX1_extend 1 = .ok (.invokevirtual 44, 3) := by decide +kernel
theorem dX1_extend_4 : decode cX1_extend 4 = .ok (.istore_n 2, 1) := by decide +kernel
theorem dX1_extend_5 : decode cX1_extend 5 = .ok (.iconst 0, 1) := by decide +kernel
theorem dX1_extend_6 : decode cX1_extend 6 = .ok (.istore_n 3, 1) := by decide +kernel
theorem dX1_extend_7 : decode cX1_extend 7 = .ok (.iload_n 3, 1) := by decide +kernel
theorem dX1_extend_8 : decode cX1_extend 8 = .ok (.iload_n 2, 1) := by decide +kernel
theorem dX1_extend_9 : decode cX1_extend 9 = .ok (.if_icmp .ge 76, 3) := by decide +kernel
theorem dX1_extend_12 : decode cX1_extend 12 = .ok (.iconst 0, 1) := by decide +kernel
theorem dX1_extend_13 : decode cX1_extend 13 = .ok (.istore 4, 2) := by decide +kernel
theorem dX1_extend_15 : decode cX1_extend 15 = .ok (.iload 4, 2) := by decide +kernel
theorem dX1_extend_17 : decode cX1_extend 17 = .ok (.bipush 17, 2) := by decide +kernel
theorem dX1_extend_19 : decode cX1_extend 19 = .ok (.if_icmp .ge 40, 3) := by decide +kernel
theorem dX1_extend_22 : decode cX1_extend 22 = .ok (.aload_n 0, 1) := by decide +kernel
theorem dX1_extend_23 : decode cX1_extend 23 = .ok (.getfield 16, 3) := by decide +kernel
theorem dX1_extend_26 : decode cX1_extend 26 = .ok (.iload_n 3, 1) := by decide +kernel
theorem dX1_extend_27 : decode cX1_extend 27 = .ok (.bipush 17, 2) := by decide +kernel
theorem dX1_extend_29 : decode cX1_extend 29 = .ok (.imul, 1) := by decide +kernel
theorem dX1_extend_30 : decode cX1_extend 30 = .ok (.iload 4, 2) := by decide +kernel
theorem dX1_extend_32 : decode cX1_extend 32 = .ok (.iadd, 1) := by decide +kernel
theorem dX1_extend_33 : decode cX1_extend 33 = .ok (.iload 4, 2) := by decide +kernel
theorem dX1_extend_35 : decode cX1_extend 35 = .ok (.iload_n 2, 1) := by decide +kernel
theorem dX1_extend_36 : decode cX1_extend 36 = .ok (.if_icmp .ge 15, 3) := by decide +kernel
theorem dX1_extend_39 : decode cX1_extend 39 = .ok (.aload_n 0, 1) := by decide +kernel
theorem dX1_extend_40 : decode cX1_extend 40 = .ok (.getfield 13, 3) := by decide +kernel
theorem dX1_extend_43 : decode cX1_extend 43 = .ok (.iload_n 3, 1) := by decide +kernel
theorem dX1_extend_44 : decode cX1_extend 44 = .ok (.iload 4, 2) := by decide +kernel
theorem dX1_extend_46 : decode cX1_extend 46 = .ok (.iadd, 1) := by decide +kernel
theorem dX1_extend_47 : decode cX1_extend 47 = .ok (.iaload, 1) := by decide +kernel
theorem dX1_extend_48 : decode cX1_extend 48 = .ok (.goto 4, 3) := by decide +kernel
theorem dX1_extend_51 : decode cX1_extend 51 = .ok (.iconst 0, 1) := by decide +kernel
theorem dX1_extend_52 : decode cX1_extend 52 = .ok (.iastore, 1) := by decide +kernel
theorem dX1_extend_53 : decode cX1_extend 53 = .ok (.iinc 4 1, 3) := by decide +kernel
theorem dX1_extend_56 : decode cX1_extend 56 = .ok (.goto (-41), 3) := by decide +kernel
theorem dX1_extend_59 : decode cX1_extend 59 = .ok (.aload_n 0, 1) := by decide +kernel
theorem dX1_extend_60 : decode cX1_extend 60 = .ok (.getfield 16, 3) := by decide +kernel
theorem dX1_extend_63 : decode cX1_extend 63 = .ok (.iload_n 3, 1) := by decide +kernel
theorem dX1_extend_64 : decode cX1_extend 64 = .ok (.bipush 17, 2) := by decide +kernel
theorem dX1_extend_66 : decode cX1_extend 66 = .ok (.imul, 1) := by decide +kernel
theorem dX1_extend_67 : decode cX1_extend 67 = .ok (.bipush 16, 2) := by decide +kernel
theorem dX1_extend_69 : decode cX1_extend 69 = .ok (.iadd, 1) := by decide +kernel
theorem dX1_extend_70 : decode cX1_extend 70 = .ok (.aload_n 0, 1) := by decide +kernel
theorem dX1_extend_71 : decode cX1_extend 71 = .ok (.getfield 13, 3) := by decide +kernel
theorem dX1_extend_74 : decode cX1_extend 74 = .ok (.iload_n 3, 1) := by decide +kernel
theorem dX1_extend_75 : decode cX1_extend 75 = .ok (.iload_n 2, 1) := by decide +kernel
theorem dX1_extend_76 : decode cX1_extend 76 = .ok (.iadd, 1) := by decide +kernel
theorem dX1_extend_77 : decode cX1_extend 77 = .ok (.iaload, 1) := by decide +kernel
theorem dX1_extend_78 : decode cX1_extend 78 = .ok (.iastore, 1) := by decide +kernel
theorem dX1_extend_79 : decode cX1_extend 79 = .ok (.iinc 3 1, 3) := by decide +kernel
theorem dX1_extend_82 : decode cX1_extend 82 = .ok (.goto (-75), 3) := by decide +kernel
theorem dX1_extend_85 : decode cX1_extend 85 = .ok (.aload_n 0, 1) := by decide +kernel
theorem dX1_extend_86 : decode cX1_extend 86 = .ok (.iload_n 2, 1) := by decide +kernel
theorem dX1_extend_87 : decode cX1_extend 87 = .ok (.invokevirtual 41, 3) := by decide +kernel
theorem dX1_extend_90 : decode cX1_extend 90 = .ok (.pop, 1) := by decide +kernel
theorem dX1_extend_91 : decode cX1_extend 91 = .ok (.iconst 0, 1) := by decide +kernel
theorem dX1_extend_92 : decode cX1_extend 92 = .ok (.istore_n 3, 1) := by decide +kernel
theorem dX1_extend_93 : decode cX1_extend 93 = .ok (.iload_n 3, 1) := by decide +kernel
theorem dX1_extend_94 : decode cX1_extend 94 = .ok (.iload_n 2, 1) := by decide +kernel
theorem dX1_extend_95 : decode cX1_extend 95 = .ok (.if_icmp .ge 27, 3) := by decide +kernel
theorem dX1_extend_98 : decode cX1_extend 98 = .ok (.aload_n 0, 1) := by decide +kernel
theorem dX1_extend_99 : decode cX1_extend 99 = .ok (.getfield 19, 3) := by decide +kernel
theorem dX1_extend_102 : decode cX1_extend 102 = .ok (.iload_n 3, 1) := by decide +kernel
theorem dX1_extend_103 : decode cX1_extend 103 = .ok (.aload_n 0, 1) := by decide +kernel
theorem dX1_extend_104 : decode cX1_extend 104 = .ok (.getfield 16, 3) := by decide +kernel
theorem dX1_extend_107 : decode cX1_extend 107 = .ok (.iload_n 3, 1) := by decide +kernel
theorem dX1_extend_108 : decode cX1_extend 108 = .ok (.bipush 17, 2) := by decide +kernel
theorem dX1_extend_110 : decode cX1_extend 110 = .ok (.imul, 1) := by decide +kernel
theorem dX1_extend_111 : decode cX1_extend 111 = .ok (.bipush 16, 2) := by decide +kernel
theorem dX1_extend_113 : decode cX1_extend 113 = .ok (.iadd, 1) := by decide +kernel
theorem dX1_extend_114 : decode cX1_extend 114 = .ok (.iaload, 1) := by decide +kernel
theorem dX1_extend_115 : decode cX1_extend 115 = .ok (.iastore, 1) := by decide +kernel
theorem dX1_extend_116 : decode cX1_extend 116 = .ok (.iinc 3 1, 3) := by decide +kernel
theorem dX1_extend_119 : decode cX1_extend 119 = .ok (.goto (-26), 3) := by decide +kernel
theorem dX1_extend_122 : decode cX1_extend 122 = .ok (.bipush 32, 2) := by decide +kernel
theorem dX1_extend_124 : decode cX1_extend 124 = .ok (.istore_n 3, 1) := by decide +kernel
theorem dX1_extend_125 : decode cX1_extend 125 = .ok (.iload_n 3, 1) := by decide +kernel
theorem dX1_extend_126 : decode cX1_extend 126 = .ok (.iload_n 1, 1) := by decide +kernel
theorem dX1_extend_127 : decode cX1_extend 127 = .ok (.if_icmp .gt 62, 3) := by decide +kernel
theorem dX1_extend_130 : decode cX1_extend 130 = .ok (.iconst 0, 1) := by decide +kernel
theorem dX1_extend_131 : decode cX1_extend 131 = .ok (.istore 4, 2) := by decide +kernel
theorem dX1_extend_133 : decode cX1_extend 133 = .ok (.iconst 0, 1) := by decide +kernel
theorem dX1_extend_134 : decode cX1_extend 134 = .ok (.istore 5, 2) := by decide +kernel
theorem dX1_extend_136 : decode cX1_extend 136 = .ok (.iload 5, 2) := by decide +kernel
theorem dX1_extend_138 : decode cX1_extend 138 = .ok (.iload_n 2, 1) := by decide +kernel
theorem dX1_extend_139 : decode cX1_extend 139 = .ok (.if_icmp .ge 33, 3) := by decide +kernel
theorem dX1_extend_142 : decode cX1_extend 142 = .ok (.iload 4, 2) := by decide +kernel
theorem dX1_extend_144 : decode cX1_extend 144 = .ok (.aload_n 0, 1) := by decide +kernel
theorem dX1_extend_145 : decode cX1_extend 145 = .ok (.getfield 19, 3) := by decide +kernel
theorem dX1_extend_148 : decode cX1_extend 148 = .ok (.iload 5, 2) := by decide +kernel
theorem dX1_extend_150 : decode cX1_extend 150 = .ok (.iaload, 1) := by decide +kernel
theorem dX1_extend_151 : decode cX1_extend 151 = .ok (.aload_n 0, 1) := by decide +kernel
theorem dX1_extend_152 : decode cX1_extend 152 = .ok (.getfield 13, 3) := by decide +kernel
theorem dX1_extend_155 : decode cX1_extend 155 = .ok (.iload_n 3, 1) := by decide +kernel
theorem dX1_extend_156 : decode cX1_extend 156 = .ok (.iload_n 2, 1) := by decide +kernel
theorem dX1_extend_157 : decode cX1_extend 157 = .ok (.isub, 1) := by decide +kernel
theorem dX1_extend_158 : decode cX1_extend 158 = .ok (.iload 5, 2) := by decide +kernel
theorem dX1_extend_160 : decode cX1_extend 160 = .ok (.iadd, 1) := by decide +kernel
theorem dX1_extend_161 : decode cX1_extend 161 = .ok (.iaload, 1) := by decide +kernel
theorem dX1_extend_162 : decode cX1_extend 162 = .ok (.imul, 1) := by decide +kernel
theorem dX1_extend_163 : decode cX1_extend 163 = .ok (.iadd, 1) := by decide +kernel
theorem dX1_extend_164 : decode cX1_extend 164 = .ok (.istore 4, 2) := by decide +kernel
theorem dX1_extend_166 : decode cX1_extend 166 = .ok (.iinc 5 1, 3) := by decide +kernel
theorem dX1_extend_169 : decode cX1_extend 169 = .ok (.goto (-33), 3) := by decide +kernel
theorem dX1_extend_172 : decode cX1_extend 172 = .ok (.aload_n 0, 1) := by decide +kernel
theorem dX1_extend_173 : decode cX1_extend 173 = .ok (.getfield 13, 3) := by decide +kernel
theorem dX1_extend_176 : decode cX1_extend 176 = .ok (.iload_n 3, 1) := by decide +kernel
theorem dX1_extend_177 : decode cX1_extend 177 = .ok (.iload 4, 2) := by decide +kernel
theorem dX1_extend_179 : decode cX1_extend 179 = .ok (.bipush 101, 2) := by decide +kernel
theorem dX1_extend_181 : decode cX1_extend 181 = .ok (.irem, 1) := by decide +kernel
theorem dX1_extend_182 : decode cX1_extend 182 = .ok (.iastore, 1) := by decide +kernel
theorem dX1_extend_183 : decode cX1_extend 183 = .ok (.iinc 3 1, 3) := by decide +kernel
theorem dX1_extend_186 : decode cX1_extend 186 = .ok (.goto (-61), 3) := by decide +kernel
theorem dX1_extend_189 : decode cX1_extend 189 = .ok (.return_, 1) := by decide +kernel
abbrev cX1_prepend : ByteArray := prog_3_method_19_code
def yX1_prepend : MethodName := ⟨RX1, "prepend", "(II)I"⟩
theorem dX1_prepend_0 : decode cX1_prepend 0 = .ok (.aload_n 0, 1) := by decide +kernel
theorem dX1_prepend_1 : decode cX1_prepend 1 = .ok (.iload_n 1, 1) := by decide +kernel
theorem dX1_prepend_2 : decode cX1_prepend 2 = .ok (.invokevirtual 49, 3) := by decide +kernel
theorem dX1_prepend_5 : decode cX1_prepend 5 = .ok (.ifCond .eq 5, 3) := by decide +kernel
theorem dX1_prepend_8 : decode cX1_prepend 8 = .ok (.iconst (-1), 1) := by decide +kernel
theorem dX1_prepend_9 : decode cX1_prepend 9 = .ok (.ireturn, 1) := by decide +kernel
theorem dX1_prepend_10 : decode cX1_prepend 10 = .ok (.aload_n 0, 1) := by decide +kernel
theorem dX1_prepend_11 : decode cX1_prepend 11 = .ok (.getfield 13, 3) := by decide +kernel
theorem dX1_prepend_14 : decode cX1_prepend 14 = .ok (.iconst 0, 1) := by decide +kernel
theorem dX1_prepend_15 : decode cX1_prepend 15 = .ok (.aload_n 0, 1) := by decide +kernel
theorem dX1_prepend_16 : decode cX1_prepend 16 = .ok (.iload_n 2, 1) := by decide +kernel
theorem dX1_prepend_17 : decode cX1_prepend 17 = .ok (.invokevirtual 38, 3) := by decide +kernel
theorem dX1_prepend_20 : decode cX1_prepend 20 = .ok (.iastore, 1) := by decide +kernel
theorem dX1_prepend_21 : decode cX1_prepend 21 = .ok (.iconst 1, 1) := by decide +kernel
theorem dX1_prepend_22 : decode cX1_prepend 22 = .ok (.istore_n 3, 1) := by decide +kernel
theorem dX1_prepend_23 : decode cX1_prepend 23 = .ok (.iload_n 3, 1) := by decide +kernel
theorem dX1_prepend_24 : decode cX1_prepend 24 = .ok (.bipush 32, 2) := by decide +kernel
theorem dX1_prepend_26 : decode cX1_prepend 26 = .ok (.if_icmp .ge 28, 3) := by decide +kernel
theorem dX1_prepend_29 : decode cX1_prepend 29 = .ok (.aload_n 0, 1) := by decide +kernel
theorem dX1_prepend_30 : decode cX1_prepend 30 = .ok (.getfield 13, 3) := by decide +kernel
theorem dX1_prepend_33 : decode cX1_prepend 33 = .ok (.iload_n 3, 1) := by decide +kernel
theorem dX1_prepend_34 : decode cX1_prepend 34 = .ok (.aload_n 0, 1) := by decide +kernel
theorem dX1_prepend_35 : decode cX1_prepend 35 = .ok (.getfield 7, 3) := by decide +kernel
theorem dX1_prepend_38 : decode cX1_prepend 38 = .ok (.iload_n 1, 1) := by decide +kernel
theorem dX1_prepend_39 : decode cX1_prepend 39 = .ok (.bipush 32, 2) := by decide +kernel
theorem dX1_prepend_41 : decode cX1_prepend 41 = .ok (.imul, 1) := by decide +kernel
theorem dX1_prepend_42 : decode cX1_prepend 42 = .ok (.iload_n 3, 1) := by decide +kernel
theorem dX1_prepend_43 : decode cX1_prepend 43 = .ok (.iadd, 1) := by decide +kernel
theorem dX1_prepend_44 : decode cX1_prepend 44 = .ok (.iconst 1, 1) := by decide +kernel
theorem dX1_prepend_45 : decode cX1_prepend 45 = .ok (.isub, 1) := by decide +kernel
theorem dX1_prepend_46 : decode cX1_prepend 46 = .ok (.iaload, 1) := by decide +kernel
theorem dX1_prepend_47 : decode cX1_prepend 47 = .ok (.iastore, 1) := by decide +kernel
theorem dX1_prepend_48 : decode cX1_prepend 48 = .ok (.iinc 3 1, 3) := by decide +kernel
theorem dX1_prepend_51 : decode cX1_prepend 51 = .ok (.goto (-28), 3) := by decide +kernel
theorem dX1_prepend_54 : decode cX1_prepend 54 = .ok (.aload_n 0, 1) := by decide +kernel
theorem dX1_prepend_55 : decode cX1_prepend 55 = .ok (.iload_n 1, 1) := by decide +kernel
theorem dX1_prepend_56 : decode cX1_prepend 56 = .ok (.invokevirtual 61, 3) := by decide +kernel
theorem dX1_prepend_59 : decode cX1_prepend 59 = .ok (.ireturn, 1) := by decide +kernel
abbrev cX1_accumulate : ByteArray := prog_3_method_20_code
def yX1_accumulate : MethodName := ⟨RX1, "accumulate", "(I)I"⟩
theorem dX1_accumulate_0 : decode cX1_accumulate 0 = .ok (.aload_n 0, 1) := by decide +kernel
theorem dX1_accumulate_1 : decode cX1_accumulate 1 = .ok (.iload_n 1, 1) := by decide +kernel
theorem dX1_accumulate_2 : decode cX1_accumulate 2 = .ok (.invokevirtual 49, 3) := by decide +kernel
theorem dX1_accumulate_5 : decode cX1_accumulate 5 = .ok (.ifCond .eq 5, 3) := by decide +kernel
theorem dX1_accumulate_8 : decode cX1_accumulate 8 = .ok (.iconst (-1), 1) := by decide +kernel
theorem dX1_accumulate_9 : decode cX1_accumulate 9 = .ok (.ireturn, 1) := by decide +kernel
theorem dX1_accumulate_10 : decode cX1_accumulate 10 = .ok (.iconst 0, 1) := by decide +kernel
theorem dX1_accumulate_11 : decode cX1_accumulate 11 = .ok (.istore_n 2, 1) := by decide +kernel
theorem dX1_accumulate_12 : decode cX1_accumulate 12 = .ok (.iconst 0, 1) := by decide +kernel
theorem dX1_accumulate_13 : decode cX1_accumulate 13 = .ok (.istore_n 3, 1) := by decide +kernel
theorem dX1_accumulate_14 : decode cX1_accumulate 14 = .ok (.iload_n 3, 1) := by decide +kernel
theorem dX1_accumulate_15 : decode cX1_accumulate 15 = .ok (.bipush 32, 2) := by decide +kernel
theorem dX1_accumulate_17 : decode cX1_accumulate 17 = .ok (.if_icmp .ge 33, 3) := by decide +kernel
theorem dX1_accumulate_20 : decode cX1_accumulate 20 = .ok (.iload_n 2, 1) := by decide +kernel
theorem dX1_accumulate_21 : decode cX1_accumulate 21 = .ok (.aload_n 0, 1) := by decide +kernel
theorem dX1_accumulate_22 : decode cX1_accumulate 22 = .ok (.getfield 7, 3) := by decide +kernel
theorem dX1_accumulate_25 : decode cX1_accumulate 25 = .ok (.iload_n 1, 1) := by decide +kernel
theorem dX1_accumulate_26 : decode cX1_accumulate 26 = .ok (.bipush 32, 2) := by decide +kernel
theorem dX1_accumulate_28 : decode cX1_accumulate 28 = .ok (.imul, 1) := by decide +kernel
theorem dX1_accumulate_29 : decode cX1_accumulate 29 = .ok (.iload_n 3, 1) := by decide +kernel
theorem dX1_accumulate_30 : decode cX1_accumulate 30 = .ok (.iadd, 1) := by decide +kernel
theorem dX1_accumulate_31 : decode cX1_accumulate 31 = .ok (.iaload, 1) := by decide +kernel
theorem dX1_accumulate_32 : decode cX1_accumulate 32 = .ok (.iadd, 1) := by decide +kernel
theorem dX1_accumulate_33 : decode cX1_accumulate 33 = .ok (.bipush 101, 2) := by decide +kernel
theorem dX1_accumulate_35 : decode cX1_accumulate 35 = .ok (.irem, 1) := by decide +kernel
theorem dX1_accumulate_36 : decode cX1_accumulate 36 = .ok (.istore_n 2, 1) := by decide +kernel
theorem dX1_accumulate_37 : decode cX1_accumulate 37 = .ok (.aload_n 0, 1) := by decide +kernel
theorem dX1_accumulate_38 : decode cX1_accumulate 38 = .ok (.getfield 13, 3) := by decide +kernel
theorem dX1_accumulate_41 : decode cX1_accumulate 41 = .ok (.iload_n 3, 1) := by decide +kernel
theorem dX1_accumulate_42 : decode cX1_accumulate 42 = .ok (.iload_n 2, 1) := by decide +kernel
theorem dX1_accumulate_43 : decode cX1_accumulate 43 = .ok (.iastore, 1) := by decide +kernel
theorem dX1_accumulate_44 : decode cX1_accumulate 44 = .ok (.iinc 3 1, 3) := by decide +kernel
theorem dX1_accumulate_47 : decode cX1_accumulate 47 = .ok (.goto (-33), 3) := by decide +kernel
theorem dX1_accumulate_50 : decode cX1_accumulate 50 = .ok (.aload_n 0, 1) := by decide +kernel
theorem dX1_accumulate_51 : decode cX1_accumulate 51 = .ok (.iload_n 1, 1) := by decide +kernel
theorem dX1_accumulate_52 : decode cX1_accumulate 52 = .ok (.invokevirtual 61, 3) := by decide +kernel
theorem dX1_accumulate_55 : decode cX1_accumulate 55 = .ok (.ireturn, 1) := by decide +kernel
abbrev cX1_difference : ByteArray := prog_3_method_21_code
def yX1_difference : MethodName := ⟨RX1, "difference", "(I)I"⟩
theorem dX1_difference_0 : decode cX1_difference 0 = .ok (.aload_n 0, 1) := by decide +kernel
theorem dX1_difference_1 : decode cX1_difference 1 = .ok (.iload_n 1, 1) := by decide +kernel
theorem dX1_difference_2 : decode cX1_difference 2 = .ok (.invokevirtual 49, 3) := by decide +kernel
theorem dX1_difference_5 : decode cX1_difference 5 = .ok (.ifCond .eq 5, 3) := by decide +kernel
theorem dX1_difference_8 : decode cX1_difference 8 = .ok (.iconst (-1), 1) := by decide +kernel
theorem dX1_difference_9 : decode cX1_difference 9 = .ok (.ireturn, 1) := by decide +kernel
theorem dX1_difference_10 : decode cX1_difference 10 = .ok (.iconst 0, 1) := by decide +kernel
theorem dX1_difference_11 : decode cX1_difference 11 = .ok (.istore_n 2, 1) := by decide +kernel
theorem dX1_difference_12 : decode cX1_difference 12 = .ok (.iconst 0, 1) := by decide +kernel
theorem dX1_difference_13 : decode cX1_difference 13 = .ok (.istore_n 3, 1) := by decide +kernel
theorem dX1_difference_14 : decode cX1_difference 14 = .ok (.iload_n 3, 1) := by decide +kernel
theorem dX1_difference_15 : decode cX1_difference 15 = .ok (.bipush 32, 2) := by decide +kernel
theorem dX1_difference_17 : decode cX1_difference 17 = .ok (.if_icmp .ge 44, 3) := by decide +kernel
theorem dX1_difference_20 : decode cX1_difference 20 = .ok (.aload_n 0, 1) := by decide +kernel
theorem dX1_difference_21 : decode cX1_difference 21 = .ok (.getfield 13, 3) := by decide +kernel
theorem dX1_difference_24 : decode cX1_difference 24 = .ok (.iload_n 3, 1) := by decide +kernel
theorem dX1_difference_25 : decode cX1_difference 25 = .ok (.aload_n 0, 1) := by decide +kernel
theorem dX1_difference_26 : decode cX1_difference 26 = .ok (.aload_n 0, 1) := by decide +kernel
theorem dX1_difference_27 : decode cX1_difference 27 = .ok (.getfield 7, 3) := by decide +kernel
theorem dX1_difference_30 : decode cX1_difference 30 = .ok (.iload_n 1, 1) := by decide +kernel
theorem dX1_difference_31 : decode cX1_difference 31 = .ok (.bipush 32, 2) := by decide +kernel
theorem dX1_difference_33 : decode cX1_difference 33 = .ok (.imul, 1) := by decide +kernel
theorem dX1_difference_34 : decode cX1_difference 34 = .ok (.iload_n 3, 1) := by decide +kernel
theorem dX1_difference_35 : decode cX1_difference 35 = .ok (.iadd, 1) := by decide +kernel
theorem dX1_difference_36 : decode cX1_difference 36 = .ok (.iaload, 1) := by decide +kernel
theorem dX1_difference_37 : decode cX1_difference 37 = .ok (.iload_n 2, 1) := by decide +kernel
theorem dX1_difference_38 : decode cX1_difference 38 = .ok (.isub, 1) := by decide +kernel
theorem dX1_difference_39 : decode cX1_difference 39 = .ok (.invokevirtual 38, 3) := by decide +kernel
theorem dX1_difference_42 : decode cX1_difference 42 = .ok (.iastore, 1) := by decide +kernel
theorem dX1_difference_43 : decode cX1_difference 43 = .ok (.aload_n 0, 1) := by decide +kernel
theorem dX1_difference_44 : decode cX1_difference 44 = .ok (.getfield 7, 3) := by decide +kernel
theorem dX1_difference_47 : decode cX1_difference 47 = .ok (.iload_n 1, 1) := by decide +kernel
theorem dX1_difference_48 : decode cX1_difference 48 = .ok (.bipush 32, 2) := by decide +kernel
theorem dX1_difference_50 : decode cX1_difference 50 = .ok (.imul, 1) := by decide +kernel
theorem dX1_difference_51 : decode cX1_difference 51 = .ok (.iload_n 3, 1) := by decide +kernel
theorem dX1_difference_52 : decode cX1_difference 52 = .ok (.iadd, 1) := by decide +kernel
theorem dX1_difference_53 : decode cX1_difference 53 = .ok (.iaload, 1) := by decide +kernel
theorem dX1_difference_54 : decode cX1_difference 54 = .ok (.istore_n 2, 1) := by decide +kernel
theorem dX1_difference_55 : decode cX1_difference 55 = .ok (.iinc 3 1, 3) := by decide +kernel
theorem dX1_difference_58 : decode cX1_difference 58 = .ok (.goto (-44), 3) := by decide +kernel
theorem dX1_difference_61 : decode cX1_difference 61 = .ok (.aload_n 0, 1) := by decide +kernel
theorem dX1_difference_62 : decode cX1_difference 62 = .ok (.iload_n 1, 1) := by decide +kernel
theorem dX1_difference_63 : decode cX1_difference 63 = .ok (.invokevirtual 61, 3) := by decide +kernel
theorem dX1_difference_66 : decode cX1_difference 66 = .ok (.ireturn, 1) := by decide +kernel
abbrev cX1_copy : ByteArray := prog_3_method_22_code
def yX1_copy : MethodName := ⟨RX1, "copy", "(II)I"⟩
theorem dX1_copy_0 : decode cX1_copy 0 = .ok (.aload_n 0, 1) := by decide +kernel
theorem dX1_copy_1 : decode cX1_copy 1 = .ok (.iload_n 1, 1) := by decide +kernel
theorem dX1_copy_2 : decode cX1_copy 2 = .ok (.invokevirtual 49, 3) := by decide +kernel
theorem dX1_copy_5 : decode cX1_copy 5 = .ok (.ifCond .ne 11, 3) := by decide +kernel
theorem dX1_copy_8 : decode cX1_copy 8 = .ok (.aload_n 0, 1) := by decide +kernel
theorem dX1_copy_9 : decode cX1_copy 9 = .ok (.iload_n 2, 1) := by decide +kernel
theorem dX1_copy_10 : decode cX1_copy 10 = .ok (.invokevirtual 49, 3) := by decide +kernel
theorem dX1_copy_13 : decode cX1_copy 13 = .ok (.ifCond .eq 5, 3) := by decide +kernel
theorem dX1_copy_16 : decode cX1_copy 16 = .ok (.iconst (-1), 1) := by decide +kernel
theorem dX1_copy_17 : decode cX1_copy 17 = .ok (.ireturn, 1) := by decide +kernel
theorem dX1_copy_18 : decode cX1_copy 18 = .ok (.aload_n 0, 1) := by decide +kernel
theorem dX1_copy_19 : decode cX1_copy 19 = .ok (.iload_n 2, 1) := by decide +kernel
theorem dX1_copy_20 : decode cX1_copy 20 = .ok (.invokevirtual 64, 3) := by decide +kernel
theorem dX1_copy_23 : decode cX1_copy 23 = .ok (.aload_n 0, 1) := by decide +kernel
theorem dX1_copy_24 : decode cX1_copy 24 = .ok (.iload_n 1, 1) := by decide +kernel
theorem dX1_copy_25 : decode cX1_copy 25 = .ok (.invokevirtual 61, 3) := by decide +kernel
theorem dX1_copy_28 : decode cX1_copy 28 = .ok (.ireturn, 1) := by decide +kernel
abbrev cX1_term : ByteArray := prog_3_method_24_code
def yX1_term : MethodName := ⟨RX1, "term", "(II)I"⟩
theorem dX1_term_0 : decode cX1_term 0 = .ok (.aload_n 0, 1) := by decide +kernel
theorem dX1_term_1 : decode cX1_term 1 = .ok (.iload_n 1, 1) := by decide +kernel
theorem dX1_term_2 : decode cX1_term 2 = .ok (.invokevirtual 49, 3) := by decide +kernel
theorem dX1_term_5 : decode cX1_term 5 = .ok (.ifCond .eq 5, 3) := by decide +kernel
theorem dX1_term_8 : decode cX1_term 8 = .ok (.iconst (-1), 1) := by decide +kernel
theorem dX1_term_9 : decode cX1_term 9 = .ok (.ireturn, 1) := by decide +kernel
theorem dX1_term_10 : decode cX1_term 10 = .ok (.aload_n 0, 1) := by decide +kernel
theorem dX1_term_11 : decode cX1_term 11 = .ok (.iload_n 2, 1) := by decide +kernel
theorem dX1_term_12 : decode cX1_term 12 = .ok (.invokevirtual 70, 3) := by decide +kernel
theorem dX1_term_15 : decode cX1_term 15 = .ok (.ifCond .eq 6, 3) := by decide +kernel
theorem dX1_term_18 : decode cX1_term 18 = .ok (.bipush (-4), 2) := by decide +kernel
theorem dX1_term_20 : decode cX1_term 20 = .ok (.ireturn, 1) := by decide +kernel
theorem dX1_term_21 : decode cX1_term 21 = .ok (.aload_n 0, 1) := by decide +kernel
theorem dX1_term_22 : decode cX1_term 22 = .ok (.iload_n 1, 1) := by decide +kernel
theorem dX1_term_23 : decode cX1_term 23 = .ok (.invokevirtual 64, 3) := by decide +kernel
theorem dX1_term_26 : decode cX1_term 26 = .ok (.aload_n 0, 1) := by decide +kernel
theorem dX1_term_27 : decode cX1_term 27 = .ok (.iload_n 2, 1) := by decide +kernel
theorem dX1_term_28 : decode cX1_term 28 = .ok (.invokevirtual 67, 3) := by decide +kernel
theorem dX1_term_31 : decode cX1_term 31 = .ok (.aload_n 0, 1) := by decide +kernel
theorem dX1_term_32 : decode cX1_term 32 = .ok (.getfield 13, 3) := by decide +kernel
theorem dX1_term_35 : decode cX1_term 35 = .ok (.iload_n 2, 1) := by decide +kernel
theorem dX1_term_36 : decode cX1_term 36 = .ok (.iaload, 1) := by decide +kernel
theorem dX1_term_37 : decode cX1_term 37 = .ok (.ireturn, 1) := by decide +kernel
abbrev cX1_badIndex : ByteArray := prog_3_method_23_code
def yX1_badIndex : MethodName := ⟨RX1, "badIndex", "(I)Z"⟩
theorem dX1_badIndex_0 : decode cX1_badIndex 0 = .ok (.iload_n 1, 1) := by decide +kernel
theorem dX1_badIndex_1 : decode cX1_badIndex 1 = .ok (.ifCond .lt 10, 3) := by decide +kernel
theorem dX1_badIndex_4 : decode cX1_badIndex 4 = .ok (.iload_n 1, 1) := by decide +kernel
theorem dX1_badIndex_5 : decode cX1_badIndex 5 = .ok (.sipush 400, 3) := by decide +kernel
theorem dX1_badIndex_8 : decode cX1_badIndex 8 = .ok (.if_icmp .le 7, 3) := by decide +kernel
theorem dX1_badIndex_11 : decode cX1_badIndex 11 = .ok (.iconst 1, 1) := by decide +kernel
theorem dX1_badIndex_12 : decode cX1_badIndex 12 = .ok (.goto 4, 3) := by decide +kernel
theorem dX1_badIndex_15 : decode cX1_badIndex 15 = .ok (.iconst 0, 1) := by decide +kernel
theorem dX1_badIndex_16 : decode cX1_badIndex 16 = .ok (.ireturn, 1) := by decide +kernel
abbrev cX1_order : ByteArray := prog_3_method_25_code
def yX1_order : MethodName := ⟨RX1, "order", "(I)I"⟩
theorem dX1_order_0 : decode cX1_order 0 = .ok (.aload_n 0, 1) := by decide +kernel
theorem dX1_order_1 : decode cX1_order 1 = .ok (.iload_n 1, 1) := by decide +kernel
theorem dX1_order_2 : decode cX1_order 2 = .ok (.invokevirtual 49, 3) := by decide +kernel
theorem dX1_order_5 : decode cX1_order 5 = .ok (.ifCond .eq 5, 3) := by decide +kernel
theorem dX1_order_8 : decode cX1_order 8 = .ok (.iconst (-1), 1) := by decide +kernel
theorem dX1_order_9 : decode cX1_order 9 = .ok (.ireturn, 1) := by decide +kernel
theorem dX1_order_10 : decode cX1_order 10 = .ok (.aload_n 0, 1) := by decide +kernel
theorem dX1_order_11 : decode cX1_order 11 = .ok (.iload_n 1, 1) := by decide +kernel
theorem dX1_order_12 : decode cX1_order 12 = .ok (.invokevirtual 64, 3) := by decide +kernel
theorem dX1_order_15 : decode cX1_order 15 = .ok (.aload_n 0, 1) := by decide +kernel
theorem dX1_order_16 : decode cX1_order 16 = .ok (.invokevirtual 44, 3) := by decide +kernel
theorem dX1_order_19 : decode cX1_order 19 = .ok (.ireturn, 1) := by decide +kernel
abbrev cX1_equal : ByteArray := prog_3_method_26_code
def yX1_equal : MethodName := ⟨RX1, "equal", "(II)Z"⟩
theorem dX1_equal_0 : decode cX1_equal 0 = .ok (.aload_n 0, 1) := by decide +kernel
theorem dX1_equal_1 : decode cX1_equal 1 = .ok (.iload_n 1, 1) := by decide +kernel
theorem dX1_equal_2 : decode cX1_equal 2 = .ok (.invokevirtual 49, 3) := by decide +kernel
theorem dX1_equal_5 : decode cX1_equal 5 = .ok (.ifCond .ne 11, 3) := by decide +kernel
theorem dX1_equal_8 : decode cX1_equal 8 = .ok (.aload_n 0, 1) := by decide +kernel
theorem dX1_equal_9 : decode cX1_equal 9 = .ok (.iload_n 2, 1) := by decide +kernel
theorem dX1_equal_10 : decode cX1_equal 10 = .ok (.invokevirtual 49, 3) := by decide +kernel
theorem dX1_equal_13 : decode cX1_equal 13 = .ok (.ifCond .eq 5, 3) := by decide +kernel
theorem dX1_equal_16 : decode cX1_equal 16 = .ok (.iconst 0, 1) := by decide +kernel
theorem dX1_equal_17 : decode cX1_equal 17 = .ok (.ireturn, 1) := by decide +kernel
theorem dX1_equal_18 : decode cX1_equal 18 = .ok (.iconst 0, 1) := by decide +kernel
theorem dX1_equal_19 : decode cX1_equal 19 = .ok (.istore_n 3, 1) := by decide +kernel
theorem dX1_equal_20 : decode cX1_equal 20 = .ok (.iload_n 3, 1) := by decide +kernel
theorem dX1_equal_21 : decode cX1_equal 21 = .ok (.bipush 32, 2) := by decide +kernel
theorem dX1_equal_23 : decode cX1_equal 23 = .ok (.if_icmp .ge 36, 3) := by decide +kernel
theorem dX1_equal_26 : decode cX1_equal 26 = .ok (.aload_n 0, 1) := by decide +kernel
theorem dX1_equal_27 : decode cX1_equal 27 = .ok (.getfield 7, 3) := by decide +kernel
theorem dX1_equal_30 : decode cX1_equal 30 = .ok (.iload_n 1, 1) := by decide +kernel
theorem dX1_equal_31 : decode cX1_equal 31 = .ok (.bipush 32, 2) := by decide +kernel
theorem dX1_equal_33 : decode cX1_equal 33 = .ok (.imul, 1) := by decide +kernel
theorem dX1_equal_34 : decode cX1_equal 34 = .ok (.iload_n 3, 1) := by decide +kernel
theorem dX1_equal_35 : decode cX1_equal 35 = .ok (.iadd, 1) := by decide +kernel
theorem dX1_equal_36 : decode cX1_equal 36 = .ok (.iaload, 1) := by decide +kernel
theorem dX1_equal_37 : decode cX1_equal 37 = .ok (.aload_n 0, 1) := by decide +kernel
theorem dX1_equal_38 : decode cX1_equal 38 = .ok (.getfield 7, 3) := by decide +kernel
theorem dX1_equal_41 : decode cX1_equal 41 = .ok (.iload_n 2, 1) := by decide +kernel
theorem dX1_equal_42 : decode cX1_equal 42 = .ok (.bipush 32, 2) := by decide +kernel
theorem dX1_equal_44 : decode cX1_equal 44 = .ok (.imul, 1) := by decide +kernel
theorem dX1_equal_45 : decode cX1_equal 45 = .ok (.iload_n 3, 1) := by decide +kernel
theorem dX1_equal_46 : decode cX1_equal 46 = .ok (.iadd, 1) := by decide +kernel
theorem dX1_equal_47 : decode cX1_equal 47 = .ok (.iaload, 1) := by decide +kernel
theorem dX1_equal_48 : decode cX1_equal 48 = .ok (.if_icmp .eq 5, 3) := by decide +kernel
theorem dX1_equal_51 : decode cX1_equal 51 = .ok (.iconst 0, 1) := by decide +kernel
theorem dX1_equal_52 : decode cX1_equal 52 = .ok (.ireturn, 1) := by decide +kernel
theorem dX1_equal_53 : decode cX1_equal 53 = .ok (.iinc 3 1, 3) := by decide +kernel
theorem dX1_equal_56 : decode cX1_equal 56 = .ok (.goto (-36), 3) := by decide +kernel
theorem dX1_equal_59 : decode cX1_equal 59 = .ok (.iconst 1, 1) := by decide +kernel
theorem dX1_equal_60 : decode cX1_equal 60 = .ok (.ireturn, 1) := by decide +kernel
abbrev cX1_sum : ByteArray := prog_3_method_27_code
def yX1_sum : MethodName := ⟨RX1, "sum", "(III)I"⟩
theorem dX1_sum_0 : decode cX1_sum 0 = .ok (.aload_n 0, 1) := by decide +kernel
theorem dX1_sum_1 : decode cX1_sum 1 = .ok (.iload_n 1, 1) := by decide +kernel
theorem dX1_sum_2 : decode cX1_sum 2 = .ok (.invokevirtual 49, 3) := by decide +kernel
theorem dX1_sum_5 : decode cX1_sum 5 = .ok (.ifCond .eq 5, 3) := by decide +kernel
theorem dX1_sum_8 : decode cX1_sum 8 = .ok (.iconst (-1), 1) := by decide +kernel
theorem dX1_sum_9 : decode cX1_sum 9 = .ok (.ireturn, 1) := by decide +kernel
theorem dX1_sum_10 : decode cX1_sum 10 = .ok (.aload_n 0, 1) := by decide +kernel
theorem dX1_sum_11 : decode cX1_sum 11 = .ok (.iload_n 2, 1) := by decide +kernel
theorem dX1_sum_12 : decode cX1_sum 12 = .ok (.invokevirtual 70, 3) := by decide +kernel
theorem dX1_sum_15 : decode cX1_sum 15 = .ok (.ifCond .ne 16, 3) := by decide +kernel
theorem dX1_sum_18 : decode cX1_sum 18 = .ok (.aload_n 0, 1) := by decide +kernel
theorem dX1_sum_19 : decode cX1_sum 19 = .ok (.iload_n 3, 1) := by decide +kernel
theorem dX1_sum_20 : decode cX1_sum 20 = .ok (.invokevirtual 70, 3) := by decide +kernel
theorem dX1_sum_23 : decode cX1_sum 23 = .ok (.ifCond .ne 8, 3) := by decide +kernel
theorem dX1_sum_26 : decode cX1_sum 26 = .ok (.iload_n 2, 1) := by decide +kernel
theorem dX1_sum_27 : decode cX1_sum 27 = .ok (.iload_n 3, 1) := by decide +kernel
theorem dX1_sum_28 : decode cX1_sum 28 = .ok (.if_icmp .le 6, 3) := by decide +kernel
theorem dX1_sum_31 : decode cX1_sum 31 = .ok (.bipush (-4), 2) := by decide +kernel
theorem dX1_sum_33 : decode cX1_sum 33 = .ok (.ireturn, 1) := by decide +kernel
theorem dX1_sum_34 : decode cX1_sum 34 = .ok (.aload_n 0, 1) := by decide +kernel
theorem dX1_sum_35 : decode cX1_sum 35 = .ok (.iload_n 1, 1) := by decide +kernel
theorem dX1_sum_36 : decode cX1_sum 36 = .ok (.invokevirtual 64, 3) := by decide +kernel
theorem dX1_sum_39 : decode cX1_sum 39 = .ok (.aload_n 0, 1) := by decide +kernel
theorem dX1_sum_40 : decode cX1_sum 40 = .ok (.iload_n 3, 1) := by decide +kernel
theorem dX1_sum_41 : decode cX1_sum 41 = .ok (.invokevirtual 67, 3) := by decide +kernel
theorem dX1_sum_44 : decode cX1_sum 44 = .ok (.iconst 0, 1) := by decide +kernel
theorem dX1_sum_45 : decode cX1_sum 45 = .ok (.istore 4, 2) := by decide +kernel
theorem dX1_sum_47 : decode cX1_sum 47 = .ok (.iload_n 2, 1) := by decide +kernel
theorem dX1_sum_48 : decode cX1_sum 48 = .ok (.istore 5, 2) := by decide +kernel
theorem dX1_sum_50 : decode cX1_sum 50 = .ok (.iload 5, 2) := by decide +kernel
theorem dX1_sum_52 : decode cX1_sum 52 = .ok (.iload_n 3, 1) := by decide +kernel
theorem dX1_sum_53 : decode cX1_sum 53 = .ok (.if_icmp .gt 24, 3) := by decide +kernel
theorem dX1_sum_56 : decode cX1_sum 56 = .ok (.iload 4, 2) := by decide +kernel
theorem dX1_sum_58 : decode cX1_sum 58 = .ok (.aload_n 0, 1) := by decide +kernel
theorem dX1_sum_59 : decode cX1_sum 59 = .ok (.getfield 13, 3) := by decide +kernel
theorem dX1_sum_62 : decode cX1_sum 62 = .ok (.iload 5, 2) := by decide +kernel
theorem dX1_sum_64 : decode cX1_sum 64 = .ok (.iaload, 1) := by decide +kernel
theorem dX1_sum_65 : decode cX1_sum 65 = .ok (.iadd, 1) := by decide +kernel
theorem dX1_sum_66 : decode cX1_sum 66 = .ok (.bipush 101, 2) := by decide +kernel
theorem dX1_sum_68 : decode cX1_sum 68 = .ok (.irem, 1) := by decide +kernel
theorem dX1_sum_69 : decode cX1_sum 69 = .ok (.istore 4, 2) := by decide +kernel
theorem dX1_sum_71 : decode cX1_sum 71 = .ok (.iinc 5 1, 3) := by decide +kernel
theorem dX1_sum_74 : decode cX1_sum 74 = .ok (.goto (-24), 3) := by decide +kernel
theorem dX1_sum_77 : decode cX1_sum 77 = .ok (.iload 4, 2) := by decide +kernel
theorem dX1_sum_79 : decode cX1_sum 79 = .ok (.ireturn, 1) := by decide +kernel
abbrev cX1_find : ByteArray := prog_3_method_28_code
def yX1_find : MethodName := ⟨RX1, "find", "(II)I"⟩
theorem dX1_find_0 : decode cX1_find 0 = .ok (.aload_n 0, 1) := by decide +kernel
theorem dX1_find_1 : decode cX1_find 1 = .ok (.iload_n 1, 1) := by decide +kernel
theorem dX1_find_2 : decode cX1_find 2 = .ok (.invokevirtual 49, 3) := by decide +kernel
theorem dX1_find_5 : decode cX1_find 5 = .ok (.ifCond .eq 5, 3) := by decide +kernel
theorem dX1_find_8 : decode cX1_find 8 = .ok (.iconst (-1), 1) := by decide +kernel
theorem dX1_find_9 : decode cX1_find 9 = .ok (.ireturn, 1) := by decide +kernel
theorem dX1_find_10 : decode cX1_find 10 = .ok (.aload_n 0, 1) := by decide +kernel
theorem dX1_find_11 : decode cX1_find 11 = .ok (.iload_n 2, 1) := by decide +kernel
theorem dX1_find_12 : decode cX1_find 12 = .ok (.invokevirtual 38, 3) := by decide +kernel
theorem dX1_find_15 : decode cX1_find 15 = .ok (.istore_n 3, 1) := by decide +kernel
theorem dX1_find_16 : decode cX1_find 16 = .ok (.aload_n 0, 1) := by decide +kernel
theorem dX1_find_17 : decode cX1_find 17 = .ok (.iload_n 1, 1) := by decide +kernel
theorem dX1_find_18 : decode cX1_find 18 = .ok (.invokevirtual 64, 3) := by decide +kernel
theorem dX1_find_21 : decode cX1_find 21 = .ok (.aload_n 0, 1) := by decide +kernel
theorem dX1_find_22 : decode cX1_find 22 = .ok (.sipush 400, 3) := by decide +kernel
theorem dX1_find_25 : decode cX1_find 25 = .ok (.invokevirtual 67, 3) := by decide +kernel
theorem dX1_find_28 : decode cX1_find 28 = .ok (.iconst 0, 1) := by decide +kernel
theorem dX1_find_29 : decode cX1_find 29 = .ok (.istore 4, 2) := by decide +kernel
theorem dX1_find_31 : decode cX1_find 31 = .ok (.iload 4, 2) := by decide +kernel
theorem dX1_find_33 : decode cX1_find 33 = .ok (.sipush 401, 3) := by decide +kernel
theorem dX1_find_36 : decode cX1_find 36 = .ok (.if_icmp .ge 23, 3) := by decide +kernel
theorem dX1_find_39 : decode cX1_find 39 = .ok (.aload_n 0, 1) := by decide +kernel
theorem dX1_find_40 : decode cX1_find 40 = .ok (.getfield 13, 3) := by decide +kernel
theorem dX1_find_43 : decode cX1_find 43 = .ok (.iload 4, 2) := by decide +kernel
theorem dX1_find_45 : decode cX1_find 45 = .ok (.iaload, 1) := by decide +kernel
theorem dX1_find_46 : decode cX1_find 46 = .ok (.iload_n 3, 1) := by decide +kernel
theorem dX1_find_47 : decode cX1_find 47 = .ok (.if_icmp .ne 6, 3) := by decide +kernel
theorem dX1_find_50 : decode cX1_find 50 = .ok (.iload 4, 2) := by decide +kernel
theorem dX1_find_52 : decode cX1_find 52 = .ok (.ireturn, 1) := by decide +kernel
theorem dX1_find_53 : decode cX1_find 53 = .ok (.iinc 4 1, 3) := by decide +kernel
theorem dX1_find_56 : decode cX1_find 56 = .ok (.goto (-25), 3) := by decide +kernel
theorem dX1_find_59 : decode cX1_find 59 = .ok (.bipush (-4), 2) := by decide +kernel
theorem dX1_find_61 : decode cX1_find 61 = .ok (.ireturn, 1) := by decide +kernel
theorem q34 : (Jvm.Cond.initialized "RecurrenceEngineModel") ∈ lw_all := lw_g (lw_at lw_m1 2 rfl) rfl
theorem q192 : (Jvm.Cond.instantiable "RecurrenceEngineModel" (4 : Nat)) ∈ lw_all := lw_g (lw_at lw_m1 160 rfl) rfl
theorem q194 : (Jvm.Cond.instanceMethod ({ cls := "RecurrenceEngineModel", name := "<init>", desc := "()V" } : Jvm.MethodName)) ∈ lw_all := lw_g (lw_at lw_m1 162 rfl) rfl
theorem q195 : (Jvm.Cond.code ({ cls := "RecurrenceEngineModel", name := "<init>", desc := "()V" } : Jvm.MethodName) prog_3_method_1_code (1 : Nat) (Option.none : Option Jvm.ClassFile.FieldType)) ∈ lw_all := lw_g (lw_at lw_m1 163 rfl) rfl
theorem q196 : (Jvm.Cond.methodLink "RecurrenceEngineModel" (1 : Nat) ({ cls := "java/lang/Object", name := "<init>", desc := "()V" } : Jvm.MethodName)) ∈ lw_all := lw_g (lw_at lw_m1 164 rfl) rfl
theorem q197 : (Jvm.Cond.fieldLink "RecurrenceEngineModel" (7 : Nat) "RecurrenceEngineModel" "terms" "[I") ∈ lw_all := lw_g (lw_at lw_m1 165 rfl) rfl
theorem q198 : (Jvm.Cond.fieldLink "RecurrenceEngineModel" (13 : Nat) "RecurrenceEngineModel" "work" "[I") ∈ lw_all := lw_g (lw_at lw_m1 166 rfl) rfl
theorem q199 : (Jvm.Cond.fieldLink "RecurrenceEngineModel" (16 : Nat) "RecurrenceEngineModel" "table" "[I") ∈ lw_all := lw_g (lw_at lw_m1 167 rfl) rfl
theorem q200 : (Jvm.Cond.fieldLink "RecurrenceEngineModel" (19 : Nat) "RecurrenceEngineModel" "factors" "[I") ∈ lw_all := lw_g (lw_at lw_m1 168 rfl) rfl
theorem q201 : (Jvm.Cond.laysFinal "RecurrenceEngineModel" "RecurrenceEngineModel" "terms" "[I") ∈ lw_all := lw_g (lw_at lw_m1 169 rfl) rfl
theorem q202 : (Jvm.Cond.soleField "RecurrenceEngineModel" "terms") ∈ lw_all := lw_g (lw_at lw_m1 170 rfl) rfl
theorem q203 : (Jvm.Cond.laysFinal "RecurrenceEngineModel" "RecurrenceEngineModel" "work" "[I") ∈ lw_all := lw_g (lw_at lw_m1 171 rfl) rfl
theorem q204 : (Jvm.Cond.soleField "RecurrenceEngineModel" "work") ∈ lw_all := lw_g (lw_at lw_m1 172 rfl) rfl
theorem q205 : (Jvm.Cond.laysFinal "RecurrenceEngineModel" "RecurrenceEngineModel" "table" "[I") ∈ lw_all := lw_g (lw_at lw_m1 173 rfl) rfl
theorem q206 : (Jvm.Cond.soleField "RecurrenceEngineModel" "table") ∈ lw_all := lw_g (lw_at lw_m1 174 rfl) rfl
theorem q207 : (Jvm.Cond.laysFinal "RecurrenceEngineModel" "RecurrenceEngineModel" "factors" "[I") ∈ lw_all := lw_g (lw_at lw_m1 175 rfl) rfl
theorem q208 : (Jvm.Cond.soleField "RecurrenceEngineModel" "factors") ∈ lw_all := lw_g (lw_at lw_m1 176 rfl) rfl
theorem q209 : (Jvm.Cond.superclass "RecurrenceEngineModel" "java/lang/Object") ∈ lw_all := lw_g (lw_at lw_m1 177 rfl) rfl
theorem q211 : (Jvm.Cond.instanceMethod ({ cls := "RecurrenceEngineModel", name := "define", desc := "(IIII)I" } : Jvm.MethodName)) ∈ lw_all := lw_g (lw_at lw_m1 179 rfl) rfl
theorem q212 : (Jvm.Cond.selects "RecurrenceEngineModel" ({ cls := "RecurrenceEngineModel", name := "define", desc := "(IIII)I" } : Jvm.MethodName) ({ cls := "RecurrenceEngineModel", name := "define", desc := "(IIII)I" } : Jvm.MethodName)) ∈ lw_all := lw_g (lw_at lw_m1 180 rfl) rfl
theorem q213 : (Jvm.Cond.code ({ cls := "RecurrenceEngineModel", name := "define", desc := "(IIII)I" } : Jvm.MethodName) prog_3_method_14_code (9 : Nat) (Option.some Jvm.ClassFile.FieldType.int)) ∈ lw_all := lw_g (lw_at lw_m1 181 rfl) rfl
theorem q214 : (Jvm.Cond.methodLink "RecurrenceEngineModel" (49 : Nat) ({ cls := "RecurrenceEngineModel", name := "bad", desc := "(I)Z" } : Jvm.MethodName)) ∈ lw_all := lw_g (lw_at lw_m1 182 rfl) rfl
theorem q215 : (Jvm.Cond.privateMethod ({ cls := "RecurrenceEngineModel", name := "bad", desc := "(I)Z" } : Jvm.MethodName)) ∈ lw_tbl := lw_at lw_m1 183 rfl
theorem q216 : (Jvm.Cond.instanceMethod ({ cls := "RecurrenceEngineModel", name := "bad", desc := "(I)Z" } : Jvm.MethodName)) ∈ lw_all := lw_g (lw_at lw_m1 184 rfl) rfl
theorem q217 : (Jvm.Cond.code ({ cls := "RecurrenceEngineModel", name := "bad", desc := "(I)Z" } : Jvm.MethodName) prog_3_method_2_code (2 : Nat) (Option.some Jvm.ClassFile.FieldType.boolean)) ∈ lw_all := lw_g (lw_at lw_m1 185 rfl) rfl
theorem q218 : (Jvm.Cond.methodLink "RecurrenceEngineModel" (53 : Nat) ({ cls := "RecurrenceEngineModel", name := "digit", desc := "(II)I" } : Jvm.MethodName)) ∈ lw_all := lw_g (lw_at lw_m1 186 rfl) rfl
theorem q219 : (Jvm.Cond.privateMethod ({ cls := "RecurrenceEngineModel", name := "digit", desc := "(II)I" } : Jvm.MethodName)) ∈ lw_tbl := lw_at lw_m1 187 rfl
theorem q220 : (Jvm.Cond.instanceMethod ({ cls := "RecurrenceEngineModel", name := "digit", desc := "(II)I" } : Jvm.MethodName)) ∈ lw_all := lw_g (lw_at lw_m1 188 rfl) rfl
theorem q221 : (Jvm.Cond.code ({ cls := "RecurrenceEngineModel", name := "digit", desc := "(II)I" } : Jvm.MethodName) prog_3_method_13_code (5 : Nat) (Option.some Jvm.ClassFile.FieldType.int)) ∈ lw_all := lw_g (lw_at lw_m1 189 rfl) rfl
theorem q222 : (Jvm.Cond.constant "RecurrenceEngineModel" (48 : Nat) (2147483647 : Int32)) ∈ lw_all := lw_g (lw_at lw_m1 190 rfl) rfl
theorem q223 : (Jvm.Cond.methodLink "RecurrenceEngineModel" (57 : Nat) ({ cls := "RecurrenceEngineModel", name := "store", desc := "(I)V" } : Jvm.MethodName)) ∈ lw_all := lw_g (lw_at lw_m1 191 rfl) rfl
theorem q224 : (Jvm.Cond.privateMethod ({ cls := "RecurrenceEngineModel", name := "store", desc := "(I)V" } : Jvm.MethodName)) ∈ lw_tbl := lw_at lw_m1 192 rfl
theorem q225 : (Jvm.Cond.instanceMethod ({ cls := "RecurrenceEngineModel", name := "store", desc := "(I)V" } : Jvm.MethodName)) ∈ lw_all := lw_g (lw_at lw_m1 193 rfl) rfl
theorem q226 : (Jvm.Cond.code ({ cls := "RecurrenceEngineModel", name := "store", desc := "(I)V" } : Jvm.MethodName) prog_3_method_6_code (3 : Nat) (Option.none : Option Jvm.ClassFile.FieldType)) ∈ lw_all := lw_g (lw_at lw_m1 194 rfl) rfl
theorem q228 : (Jvm.Cond.instanceMethod ({ cls := "RecurrenceEngineModel", name := "add", desc := "(III)I" } : Jvm.MethodName)) ∈ lw_all := lw_g (lw_at lw_m1 196 rfl) rfl
theorem q229 : (Jvm.Cond.selects "RecurrenceEngineModel" ({ cls := "RecurrenceEngineModel", name := "add", desc := "(III)I" } : Jvm.MethodName) ({ cls := "RecurrenceEngineModel", name := "add", desc := "(III)I" } : Jvm.MethodName)) ∈ lw_all := lw_g (lw_at lw_m1 197 rfl) rfl
theorem q230 : (Jvm.Cond.code ({ cls := "RecurrenceEngineModel", name := "add", desc := "(III)I" } : Jvm.MethodName) prog_3_method_16_code (5 : Nat) (Option.some Jvm.ClassFile.FieldType.int)) ∈ lw_all := lw_g (lw_at lw_m1 198 rfl) rfl
theorem q231 : (Jvm.Cond.methodLink "RecurrenceEngineModel" (61 : Nat) ({ cls := "RecurrenceEngineModel", name := "settle", desc := "(I)I" } : Jvm.MethodName)) ∈ lw_all := lw_g (lw_at lw_m1 199 rfl) rfl
theorem q232 : (Jvm.Cond.privateMethod ({ cls := "RecurrenceEngineModel", name := "settle", desc := "(I)I" } : Jvm.MethodName)) ∈ lw_tbl := lw_at lw_m1 200 rfl
theorem q233 : (Jvm.Cond.instanceMethod ({ cls := "RecurrenceEngineModel", name := "settle", desc := "(I)I" } : Jvm.MethodName)) ∈ lw_all := lw_g (lw_at lw_m1 201 rfl) rfl
theorem q234 : (Jvm.Cond.code ({ cls := "RecurrenceEngineModel", name := "settle", desc := "(I)I" } : Jvm.MethodName) prog_3_method_15_code (3 : Nat) (Option.some Jvm.ClassFile.FieldType.int)) ∈ lw_all := lw_g (lw_at lw_m1 202 rfl) rfl
theorem q235 : (Jvm.Cond.methodLink "RecurrenceEngineModel" (44 : Nat) ({ cls := "RecurrenceEngineModel", name := "rank", desc := "()I" } : Jvm.MethodName)) ∈ lw_all := lw_g (lw_at lw_m1 203 rfl) rfl
theorem q236 : (Jvm.Cond.privateMethod ({ cls := "RecurrenceEngineModel", name := "rank", desc := "()I" } : Jvm.MethodName)) ∈ lw_tbl := lw_at lw_m1 204 rfl
theorem q237 : (Jvm.Cond.instanceMethod ({ cls := "RecurrenceEngineModel", name := "rank", desc := "()I" } : Jvm.MethodName)) ∈ lw_all := lw_g (lw_at lw_m1 205 rfl) rfl
theorem q238 : (Jvm.Cond.code ({ cls := "RecurrenceEngineModel", name := "rank", desc := "()I" } : Jvm.MethodName) prog_3_method_11_code (3 : Nat) (Option.some Jvm.ClassFile.FieldType.int)) ∈ lw_all := lw_g (lw_at lw_m1 206 rfl) rfl
theorem q239 : (Jvm.Cond.methodLink "RecurrenceEngineModel" (41 : Nat) ({ cls := "RecurrenceEngineModel", name := "eliminate", desc := "(I)I" } : Jvm.MethodName)) ∈ lw_all := lw_g (lw_at lw_m1 207 rfl) rfl
theorem q240 : (Jvm.Cond.privateMethod ({ cls := "RecurrenceEngineModel", name := "eliminate", desc := "(I)I" } : Jvm.MethodName)) ∈ lw_tbl := lw_at lw_m1 208 rfl
theorem q241 : (Jvm.Cond.instanceMethod ({ cls := "RecurrenceEngineModel", name := "eliminate", desc := "(I)I" } : Jvm.MethodName)) ∈ lw_all := lw_g (lw_at lw_m1 209 rfl) rfl
theorem q242 : (Jvm.Cond.code ({ cls := "RecurrenceEngineModel", name := "eliminate", desc := "(I)I" } : Jvm.MethodName) prog_3_method_7_code (5 : Nat) (Option.some Jvm.ClassFile.FieldType.int)) ∈ lw_all := lw_g (lw_at lw_m1 210 rfl) rfl
theorem q243 : (Jvm.Cond.methodLink "RecurrenceEngineModel" (22 : Nat) ({ cls := "RecurrenceEngineModel", name := "pivot", desc := "(III)I" } : Jvm.MethodName)) ∈ lw_all := lw_g (lw_at lw_m1 211 rfl) rfl
theorem q244 : (Jvm.Cond.privateMethod ({ cls := "RecurrenceEngineModel", name := "pivot", desc := "(III)I" } : Jvm.MethodName)) ∈ lw_tbl := lw_at lw_m1 212 rfl
theorem q245 : (Jvm.Cond.instanceMethod ({ cls := "RecurrenceEngineModel", name := "pivot", desc := "(III)I" } : Jvm.MethodName)) ∈ lw_all := lw_g (lw_at lw_m1 213 rfl) rfl
theorem q246 : (Jvm.Cond.code ({ cls := "RecurrenceEngineModel", name := "pivot", desc := "(III)I" } : Jvm.MethodName) prog_3_method_8_code (5 : Nat) (Option.some Jvm.ClassFile.FieldType.int)) ∈ lw_all := lw_g (lw_at lw_m1 214 rfl) rfl
theorem q247 : (Jvm.Cond.methodLink "RecurrenceEngineModel" (26 : Nat) ({ cls := "RecurrenceEngineModel", name := "exchange", desc := "(II)V" } : Jvm.MethodName)) ∈ lw_all := lw_g (lw_at lw_m1 215 rfl) rfl
theorem q248 : (Jvm.Cond.privateMethod ({ cls := "RecurrenceEngineModel", name := "exchange", desc := "(II)V" } : Jvm.MethodName)) ∈ lw_tbl := lw_at lw_m1 216 rfl
theorem q249 : (Jvm.Cond.instanceMethod ({ cls := "RecurrenceEngineModel", name := "exchange", desc := "(II)V" } : Jvm.MethodName)) ∈ lw_all := lw_g (lw_at lw_m1 217 rfl) rfl
theorem q250 : (Jvm.Cond.code ({ cls := "RecurrenceEngineModel", name := "exchange", desc := "(II)V" } : Jvm.MethodName) prog_3_method_9_code (5 : Nat) (Option.none : Option Jvm.ClassFile.FieldType)) ∈ lw_all := lw_g (lw_at lw_m1 218 rfl) rfl
theorem q251 : (Jvm.Cond.methodLink "RecurrenceEngineModel" (30 : Nat) ({ cls := "RecurrenceEngineModel", name := "clearColumn", desc := "(III)V" } : Jvm.MethodName)) ∈ lw_all := lw_g (lw_at lw_m1 219 rfl) rfl
theorem q252 : (Jvm.Cond.privateMethod ({ cls := "RecurrenceEngineModel", name := "clearColumn", desc := "(III)V" } : Jvm.MethodName)) ∈ lw_tbl := lw_at lw_m1 220 rfl
theorem q253 : (Jvm.Cond.instanceMethod ({ cls := "RecurrenceEngineModel", name := "clearColumn", desc := "(III)V" } : Jvm.MethodName)) ∈ lw_all := lw_g (lw_at lw_m1 221 rfl) rfl
theorem q254 : (Jvm.Cond.code ({ cls := "RecurrenceEngineModel", name := "clearColumn", desc := "(III)V" } : Jvm.MethodName) prog_3_method_10_code (8 : Nat) (Option.none : Option Jvm.ClassFile.FieldType)) ∈ lw_all := lw_g (lw_at lw_m1 222 rfl) rfl
theorem q255 : (Jvm.Cond.methodLink "RecurrenceEngineModel" (34 : Nat) ({ cls := "RecurrenceEngineModel", name := "inverse", desc := "(I)I" } : Jvm.MethodName)) ∈ lw_all := lw_g (lw_at lw_m1 223 rfl) rfl
theorem q256 : (Jvm.Cond.privateMethod ({ cls := "RecurrenceEngineModel", name := "inverse", desc := "(I)I" } : Jvm.MethodName)) ∈ lw_tbl := lw_at lw_m1 224 rfl
theorem q257 : (Jvm.Cond.instanceMethod ({ cls := "RecurrenceEngineModel", name := "inverse", desc := "(I)I" } : Jvm.MethodName)) ∈ lw_all := lw_g (lw_at lw_m1 225 rfl) rfl
theorem q258 : (Jvm.Cond.code ({ cls := "RecurrenceEngineModel", name := "inverse", desc := "(I)I" } : Jvm.MethodName) prog_3_method_4_code (3 : Nat) (Option.some Jvm.ClassFile.FieldType.int)) ∈ lw_all := lw_g (lw_at lw_m1 226 rfl) rfl
theorem q259 : (Jvm.Cond.methodLink "RecurrenceEngineModel" (38 : Nat) ({ cls := "RecurrenceEngineModel", name := "mod", desc := "(I)I" } : Jvm.MethodName)) ∈ lw_all := lw_g (lw_at lw_m1 227 rfl) rfl
theorem q260 : (Jvm.Cond.privateMethod ({ cls := "RecurrenceEngineModel", name := "mod", desc := "(I)I" } : Jvm.MethodName)) ∈ lw_tbl := lw_at lw_m1 228 rfl
theorem q261 : (Jvm.Cond.instanceMethod ({ cls := "RecurrenceEngineModel", name := "mod", desc := "(I)I" } : Jvm.MethodName)) ∈ lw_all := lw_g (lw_at lw_m1 229 rfl) rfl
theorem q262 : (Jvm.Cond.code ({ cls := "RecurrenceEngineModel", name := "mod", desc := "(I)I" } : Jvm.MethodName) prog_3_method_3_code (3 : Nat) (Option.some Jvm.ClassFile.FieldType.int)) ∈ lw_all := lw_g (lw_at lw_m1 230 rfl) rfl
theorem q264 : (Jvm.Cond.instanceMethod ({ cls := "RecurrenceEngineModel", name := "scale", desc := "(II)I" } : Jvm.MethodName)) ∈ lw_all := lw_g (lw_at lw_m1 232 rfl) rfl
theorem q265 : (Jvm.Cond.selects "RecurrenceEngineModel" ({ cls := "RecurrenceEngineModel", name := "scale", desc := "(II)I" } : Jvm.MethodName) ({ cls := "RecurrenceEngineModel", name := "scale", desc := "(II)I" } : Jvm.MethodName)) ∈ lw_all := lw_g (lw_at lw_m1 233 rfl) rfl
theorem q266 : (Jvm.Cond.code ({ cls := "RecurrenceEngineModel", name := "scale", desc := "(II)I" } : Jvm.MethodName) prog_3_method_17_code (5 : Nat) (Option.some Jvm.ClassFile.FieldType.int)) ∈ lw_all := lw_g (lw_at lw_m1 234 rfl) rfl
theorem q268 : (Jvm.Cond.instanceMethod ({ cls := "RecurrenceEngineModel", name := "advance", desc := "(I)I" } : Jvm.MethodName)) ∈ lw_all := lw_g (lw_at lw_m1 236 rfl) rfl
theorem q269 : (Jvm.Cond.selects "RecurrenceEngineModel" ({ cls := "RecurrenceEngineModel", name := "advance", desc := "(I)I" } : Jvm.MethodName) ({ cls := "RecurrenceEngineModel", name := "advance", desc := "(I)I" } : Jvm.MethodName)) ∈ lw_all := lw_g (lw_at lw_m1 237 rfl) rfl
theorem q270 : (Jvm.Cond.code ({ cls := "RecurrenceEngineModel", name := "advance", desc := "(I)I" } : Jvm.MethodName) prog_3_method_18_code (3 : Nat) (Option.some Jvm.ClassFile.FieldType.int)) ∈ lw_all := lw_g (lw_at lw_m1 238 rfl) rfl
theorem q271 : (Jvm.Cond.methodLink "RecurrenceEngineModel" (64 : Nat) ({ cls := "RecurrenceEngineModel", name := "load", desc := "(I)V" } : Jvm.MethodName)) ∈ lw_all := lw_g (lw_at lw_m1 239 rfl) rfl
theorem q272 : (Jvm.Cond.privateMethod ({ cls := "RecurrenceEngineModel", name := "load", desc := "(I)V" } : Jvm.MethodName)) ∈ lw_tbl := lw_at lw_m2 0 rfl
theorem q273 : (Jvm.Cond.instanceMethod ({ cls := "RecurrenceEngineModel", name := "load", desc := "(I)V" } : Jvm.MethodName)) ∈ lw_all := lw_g (lw_at lw_m2 1 rfl) rfl
theorem q274 : (Jvm.Cond.code ({ cls := "RecurrenceEngineModel", name := "load", desc := "(I)V" } : Jvm.MethodName) prog_3_method_5_code (3 : Nat) (Option.none : Option Jvm.ClassFile.FieldType)) ∈ lw_all := lw_g (lw_at lw_m2 2 rfl) rfl
theorem q275 : (Jvm.Cond.methodLink "RecurrenceEngineModel" (67 : Nat) ({ cls := "RecurrenceEngineModel", name := "extend", desc := "(I)V" } : Jvm.MethodName)) ∈ lw_all := lw_g (lw_at lw_m2 3 rfl) rfl
theorem q276 : (Jvm.Cond.privateMethod ({ cls := "RecurrenceEngineModel", name := "extend", desc := "(I)V" } : Jvm.MethodName)) ∈ lw_tbl := lw_at lw_m2 4 rfl
theorem q277 : (Jvm.Cond.instanceMethod ({ cls := "RecurrenceEngineModel", name := "extend", desc := "(I)V" } : Jvm.MethodName)) ∈ lw_all := lw_g (lw_at lw_m2 5 rfl) rfl
theorem q278 : (Jvm.Cond.code ({ cls := "RecurrenceEngineModel", name := "extend", desc := "(I)V" } : Jvm.MethodName) prog_3_method_12_code (6 : Nat) (Option.none : Option Jvm.ClassFile.FieldType)) ∈ lw_all := lw_g (lw_at lw_m2 6 rfl) rfl
theorem q280 : (Jvm.Cond.instanceMethod ({ cls := "RecurrenceEngineModel", name := "prepend", desc := "(II)I" } : Jvm.MethodName)) ∈ lw_all := lw_g (lw_at lw_m2 8 rfl) rfl
theorem q281 : (Jvm.Cond.selects "RecurrenceEngineModel" ({ cls := "RecurrenceEngineModel", name := "prepend", desc := "(II)I" } : Jvm.MethodName) ({ cls := "RecurrenceEngineModel", name := "prepend", desc := "(II)I" } : Jvm.MethodName)) ∈ lw_all := lw_g (lw_at lw_m2 9 rfl) rfl
theorem q282 : (Jvm.Cond.code ({ cls := "RecurrenceEngineModel", name := "prepend", desc := "(II)I" } : Jvm.MethodName) prog_3_method_19_code (4 : Nat) (Option.some Jvm.ClassFile.FieldType.int)) ∈ lw_all := lw_g (lw_at lw_m2 10 rfl) rfl
theorem q284 : (Jvm.Cond.instanceMethod ({ cls := "RecurrenceEngineModel", name := "accumulate", desc := "(I)I" } : Jvm.MethodName)) ∈ lw_all := lw_g (lw_at lw_m2 12 rfl) rfl
theorem q285 : (Jvm.Cond.selects "RecurrenceEngineModel" ({ cls := "RecurrenceEngineModel", name := "accumulate", desc := "(I)I" } : Jvm.MethodName) ({ cls := "RecurrenceEngineModel", name := "accumulate", desc := "(I)I" } : Jvm.MethodName)) ∈ lw_all := lw_g (lw_at lw_m2 13 rfl) rfl
theorem q286 : (Jvm.Cond.code ({ cls := "RecurrenceEngineModel", name := "accumulate", desc := "(I)I" } : Jvm.MethodName) prog_3_method_20_code (4 : Nat) (Option.some Jvm.ClassFile.FieldType.int)) ∈ lw_all := lw_g (lw_at lw_m2 14 rfl) rfl
theorem q288 : (Jvm.Cond.instanceMethod ({ cls := "RecurrenceEngineModel", name := "difference", desc := "(I)I" } : Jvm.MethodName)) ∈ lw_all := lw_g (lw_at lw_m2 16 rfl) rfl
theorem q289 : (Jvm.Cond.selects "RecurrenceEngineModel" ({ cls := "RecurrenceEngineModel", name := "difference", desc := "(I)I" } : Jvm.MethodName) ({ cls := "RecurrenceEngineModel", name := "difference", desc := "(I)I" } : Jvm.MethodName)) ∈ lw_all := lw_g (lw_at lw_m2 17 rfl) rfl
theorem q290 : (Jvm.Cond.code ({ cls := "RecurrenceEngineModel", name := "difference", desc := "(I)I" } : Jvm.MethodName) prog_3_method_21_code (4 : Nat) (Option.some Jvm.ClassFile.FieldType.int)) ∈ lw_all := lw_g (lw_at lw_m2 18 rfl) rfl
theorem q292 : (Jvm.Cond.instanceMethod ({ cls := "RecurrenceEngineModel", name := "copy", desc := "(II)I" } : Jvm.MethodName)) ∈ lw_all := lw_g (lw_at lw_m2 20 rfl) rfl
theorem q293 : (Jvm.Cond.selects "RecurrenceEngineModel" ({ cls := "RecurrenceEngineModel", name := "copy", desc := "(II)I" } : Jvm.MethodName) ({ cls := "RecurrenceEngineModel", name := "copy", desc := "(II)I" } : Jvm.MethodName)) ∈ lw_all := lw_g (lw_at lw_m2 21 rfl) rfl
theorem q294 : (Jvm.Cond.code ({ cls := "RecurrenceEngineModel", name := "copy", desc := "(II)I" } : Jvm.MethodName) prog_3_method_22_code (3 : Nat) (Option.some Jvm.ClassFile.FieldType.int)) ∈ lw_all := lw_g (lw_at lw_m2 22 rfl) rfl
theorem q296 : (Jvm.Cond.instanceMethod ({ cls := "RecurrenceEngineModel", name := "term", desc := "(II)I" } : Jvm.MethodName)) ∈ lw_all := lw_g (lw_at lw_m2 24 rfl) rfl
theorem q297 : (Jvm.Cond.selects "RecurrenceEngineModel" ({ cls := "RecurrenceEngineModel", name := "term", desc := "(II)I" } : Jvm.MethodName) ({ cls := "RecurrenceEngineModel", name := "term", desc := "(II)I" } : Jvm.MethodName)) ∈ lw_all := lw_g (lw_at lw_m2 25 rfl) rfl
theorem q298 : (Jvm.Cond.code ({ cls := "RecurrenceEngineModel", name := "term", desc := "(II)I" } : Jvm.MethodName) prog_3_method_24_code (3 : Nat) (Option.some Jvm.ClassFile.FieldType.int)) ∈ lw_all := lw_g (lw_at lw_m2 26 rfl) rfl
theorem q299 : (Jvm.Cond.methodLink "RecurrenceEngineModel" (70 : Nat) ({ cls := "RecurrenceEngineModel", name := "badIndex", desc := "(I)Z" } : Jvm.MethodName)) ∈ lw_all := lw_g (lw_at lw_m2 27 rfl) rfl
theorem q300 : (Jvm.Cond.privateMethod ({ cls := "RecurrenceEngineModel", name := "badIndex", desc := "(I)Z" } : Jvm.MethodName)) ∈ lw_tbl := lw_at lw_m2 28 rfl
theorem q301 : (Jvm.Cond.instanceMethod ({ cls := "RecurrenceEngineModel", name := "badIndex", desc := "(I)Z" } : Jvm.MethodName)) ∈ lw_all := lw_g (lw_at lw_m2 29 rfl) rfl
theorem q302 : (Jvm.Cond.code ({ cls := "RecurrenceEngineModel", name := "badIndex", desc := "(I)Z" } : Jvm.MethodName) prog_3_method_23_code (2 : Nat) (Option.some Jvm.ClassFile.FieldType.boolean)) ∈ lw_all := lw_g (lw_at lw_m2 30 rfl) rfl
theorem q304 : (Jvm.Cond.instanceMethod ({ cls := "RecurrenceEngineModel", name := "order", desc := "(I)I" } : Jvm.MethodName)) ∈ lw_all := lw_g (lw_at lw_m2 32 rfl) rfl
theorem q305 : (Jvm.Cond.selects "RecurrenceEngineModel" ({ cls := "RecurrenceEngineModel", name := "order", desc := "(I)I" } : Jvm.MethodName) ({ cls := "RecurrenceEngineModel", name := "order", desc := "(I)I" } : Jvm.MethodName)) ∈ lw_all := lw_g (lw_at lw_m2 33 rfl) rfl
theorem q306 : (Jvm.Cond.code ({ cls := "RecurrenceEngineModel", name := "order", desc := "(I)I" } : Jvm.MethodName) prog_3_method_25_code (2 : Nat) (Option.some Jvm.ClassFile.FieldType.int)) ∈ lw_all := lw_g (lw_at lw_m2 34 rfl) rfl
theorem q308 : (Jvm.Cond.instanceMethod ({ cls := "RecurrenceEngineModel", name := "equal", desc := "(II)Z" } : Jvm.MethodName)) ∈ lw_all := lw_g (lw_at lw_m2 36 rfl) rfl
theorem q309 : (Jvm.Cond.selects "RecurrenceEngineModel" ({ cls := "RecurrenceEngineModel", name := "equal", desc := "(II)Z" } : Jvm.MethodName) ({ cls := "RecurrenceEngineModel", name := "equal", desc := "(II)Z" } : Jvm.MethodName)) ∈ lw_all := lw_g (lw_at lw_m2 37 rfl) rfl
theorem q310 : (Jvm.Cond.code ({ cls := "RecurrenceEngineModel", name := "equal", desc := "(II)Z" } : Jvm.MethodName) prog_3_method_26_code (4 : Nat) (Option.some Jvm.ClassFile.FieldType.boolean)) ∈ lw_all := lw_g (lw_at lw_m2 38 rfl) rfl
theorem q312 : (Jvm.Cond.instanceMethod ({ cls := "RecurrenceEngineModel", name := "sum", desc := "(III)I" } : Jvm.MethodName)) ∈ lw_all := lw_g (lw_at lw_m2 40 rfl) rfl
theorem q313 : (Jvm.Cond.selects "RecurrenceEngineModel" ({ cls := "RecurrenceEngineModel", name := "sum", desc := "(III)I" } : Jvm.MethodName) ({ cls := "RecurrenceEngineModel", name := "sum", desc := "(III)I" } : Jvm.MethodName)) ∈ lw_all := lw_g (lw_at lw_m2 41 rfl) rfl
theorem q314 : (Jvm.Cond.code ({ cls := "RecurrenceEngineModel", name := "sum", desc := "(III)I" } : Jvm.MethodName) prog_3_method_27_code (6 : Nat) (Option.some Jvm.ClassFile.FieldType.int)) ∈ lw_all := lw_g (lw_at lw_m2 42 rfl) rfl
theorem q316 : (Jvm.Cond.instanceMethod ({ cls := "RecurrenceEngineModel", name := "find", desc := "(II)I" } : Jvm.MethodName)) ∈ lw_all := lw_g (lw_at lw_m2 44 rfl) rfl
theorem q317 : (Jvm.Cond.selects "RecurrenceEngineModel" ({ cls := "RecurrenceEngineModel", name := "find", desc := "(II)I" } : Jvm.MethodName) ({ cls := "RecurrenceEngineModel", name := "find", desc := "(II)I" } : Jvm.MethodName)) ∈ lw_all := lw_g (lw_at lw_m2 45 rfl) rfl
theorem q318 : (Jvm.Cond.code ({ cls := "RecurrenceEngineModel", name := "find", desc := "(II)I" } : Jvm.MethodName) prog_3_method_28_code (5 : Nat) (Option.some Jvm.ClassFile.FieldType.int)) ∈ lw_all := lw_g (lw_at lw_m2 46 rfl) rfl
theorem in_X1 : ∀ w ∈ wsX10, w ∈ lw_all := lw_in wsX10 [201, 203, 205, 207] (by decide +kernel) (by decide +kernel)
end
section
/-! java/lang/Object -/
set_option maxRecDepth 100000
def RJ0 : String := "java/lang/Object"
abbrev cJ0_init : ByteArray := object_method_1_code
def yJ0_init : MethodName := ⟨RJ0, "<init>", "()V"⟩
theorem dJ0_init_0 : decode cJ0_init 0 = .ok (.return_, 1) := by decide +kernel
theorem q41 : (Jvm.Cond.instanceMethod ({ cls := "java/lang/Object", name := "<init>", desc := "()V" } : Jvm.MethodName)) ∈ lw_all := lw_g (lw_at lw_m1 9 rfl) rfl
theorem q42 : (Jvm.Cond.code ({ cls := "java/lang/Object", name := "<init>", desc := "()V" } : Jvm.MethodName) object_method_1_code (1 : Nat) (Option.none : Option Jvm.ClassFile.FieldType)) ∈ lw_all := lw_g (lw_at lw_m1 10 rfl) rfl
/-! the law's own entry -/
set_option maxRecDepth 100000
abbrev cL_law : ByteArray := code
theorem dL_law_0 : decode cL_law 0 = .ok (.new 7, 3) := by decide +kernel
theorem dL_law_3 : decode cL_law 3 = .ok (.dup, 1) := by decide +kernel
theorem dL_law_4 : decode cL_law 4 = .ok (.invokespecial 9, 3) := by decide +kernel
theorem dL_law_7 : decode cL_law 7 = .ok (.astore_n 1, 1) := by decide +kernel
theorem dL_law_8 : decode cL_law 8 = .ok (.new 10, 3) := by decide +kernel
theorem dL_law_11 : decode cL_law 11 = .ok (.dup, 1) := by decide +kernel
theorem dL_law_12 : decode cL_law 12 = .ok (.invokespecial 12, 3) := by decide +kernel
theorem dL_law_15 : decode cL_law 15 = .ok (.astore_n 2, 1) := by decide +kernel
theorem dL_law_16 : decode cL_law 16 = .ok (.iconst 0, 1) := by decide +kernel
theorem dL_law_17 : decode cL_law 17 = .ok (.istore_n 3, 1) := by decide +kernel
theorem dL_law_18 : decode cL_law 18 = .ok (.iload_n 3, 1) := by decide +kernel
theorem dL_law_19 : decode cL_law 19 = .ok (.aload_n 0, 1) := by decide +kernel
theorem dL_law_20 : decode cL_law 20 = .ok (.arraylength, 1) := by decide +kernel
theorem dL_law_21 : decode cL_law 21 = .ok (.iconst 5, 1) := by decide +kernel
theorem dL_law_22 : decode cL_law 22 = .ok (.isub, 1) := by decide +kernel
theorem dL_law_23 : decode cL_law 23 = .ok (.if_icmp .gt 512, 3) := by decide +kernel
theorem dL_law_26 : decode cL_law 26 = .ok (.aload_n 0, 1) := by decide +kernel
theorem dL_law_27 : decode cL_law 27 = .ok (.iload_n 3, 1) := by decide +kernel
theorem dL_law_28 : decode cL_law 28 = .ok (.iaload, 1) := by decide +kernel
theorem dL_law_29 : decode cL_law 29 = .ok (.bipush 15, 2) := by decide +kernel
theorem dL_law_31 : decode cL_law 31 = .ok (.iand, 1) := by decide +kernel
theorem dL_law_32 : decode cL_law 32 = .ok (.tableswitch 497 0 12 #[68, 121, 164, 197, 220, 253, 276, 299, 332, 365, 388, 421, 464], 68) := by decide +kernel
theorem dL_law_100 : decode cL_law 100 = .ok (.aload_n 1, 1) := by decide +kernel
theorem dL_law_101 : decode cL_law 101 = .ok (.aload_n 0, 1) := by decide +kernel
theorem dL_law_102 : decode cL_law 102 = .ok (.iload_n 3, 1) := by decide +kernel
theorem dL_law_103 : decode cL_law 103 = .ok (.iconst 1, 1) := by decide +kernel
theorem dL_law_104 : decode cL_law 104 = .ok (.iadd, 1) := by decide +kernel
theorem dL_law_105 : decode cL_law 105 = .ok (.iaload, 1) := by decide +kernel
theorem dL_law_106 : decode cL_law 106 = .ok (.aload_n 0, 1) := by decide +kernel
theorem dL_law_107 : decode cL_law 107 = .ok (.iload_n 3, 1) := by decide +kernel
theorem dL_law_108 : decode cL_law 108 = .ok (.iconst 2, 1) := by decide +kernel
theorem dL_law_109 : decode cL_law 109 = .ok (.iadd, 1) := by decide +kernel
theorem dL_law_110 : decode cL_law 110 = .ok (.iaload, 1) := by decide +kernel
theorem dL_law_111 : decode cL_law 111 = .ok (.aload_n 0, 1) := by decide +kernel
theorem dL_law_112 : decode cL_law 112 = .ok (.iload_n 3, 1) := by decide +kernel
theorem dL_law_113 : decode cL_law 113 = .ok (.iconst 3, 1) := by decide +kernel
theorem dL_law_114 : decode cL_law 114 = .ok (.iadd, 1) := by decide +kernel
theorem dL_law_115 : decode cL_law 115 = .ok (.iaload, 1) := by decide +kernel
theorem dL_law_116 : decode cL_law 116 = .ok (.aload_n 0, 1) := by decide +kernel
theorem dL_law_117 : decode cL_law 117 = .ok (.iload_n 3, 1) := by decide +kernel
theorem dL_law_118 : decode cL_law 118 = .ok (.iconst 4, 1) := by decide +kernel
theorem dL_law_119 : decode cL_law 119 = .ok (.iadd, 1) := by decide +kernel
theorem dL_law_120 : decode cL_law 120 = .ok (.iaload, 1) := by decide +kernel
theorem dL_law_121 : decode cL_law 121 = .ok (.invokevirtual 13, 3) := by decide +kernel
theorem dL_law_124 : decode cL_law 124 = .ok (.aload_n 2, 1) := by decide +kernel
theorem dL_law_125 : decode cL_law 125 = .ok (.aload_n 0, 1) := by decide +kernel
theorem dL_law_126 : decode cL_law 126 = .ok (.iload_n 3, 1) := by decide +kernel
theorem dL_law_127 : decode cL_law 127 = .ok (.iconst 1, 1) := by decide +kernel
theorem dL_law_128 : decode cL_law 128 = .ok (.iadd, 1) := by decide +kernel
theorem dL_law_129 : decode cL_law 129 = .ok (.iaload, 1) := by decide +kernel
theorem dL_law_130 : decode cL_law 130 = .ok (.aload_n 0, 1) := by decide +kernel
theorem dL_law_131 : decode cL_law 131 = .ok (.iload_n 3, 1) := by decide +kernel
theorem dL_law_132 : decode cL_law 132 = .ok (.iconst 2, 1) := by decide +kernel
theorem dL_law_133 : decode cL_law 133 = .ok (.iadd, 1) := by decide +kernel
theorem dL_law_134 : decode cL_law 134 = .ok (.iaload, 1) := by decide +kernel
theorem dL_law_135 : decode cL_law 135 = .ok (.aload_n 0, 1) := by decide +kernel
theorem dL_law_136 : decode cL_law 136 = .ok (.iload_n 3, 1) := by decide +kernel
theorem dL_law_137 : decode cL_law 137 = .ok (.iconst 3, 1) := by decide +kernel
theorem dL_law_138 : decode cL_law 138 = .ok (.iadd, 1) := by decide +kernel
theorem dL_law_139 : decode cL_law 139 = .ok (.iaload, 1) := by decide +kernel
theorem dL_law_140 : decode cL_law 140 = .ok (.aload_n 0, 1) := by decide +kernel
theorem dL_law_141 : decode cL_law 141 = .ok (.iload_n 3, 1) := by decide +kernel
theorem dL_law_142 : decode cL_law 142 = .ok (.iconst 4, 1) := by decide +kernel
theorem dL_law_143 : decode cL_law 143 = .ok (.iadd, 1) := by decide +kernel
theorem dL_law_144 : decode cL_law 144 = .ok (.iaload, 1) := by decide +kernel
theorem dL_law_145 : decode cL_law 145 = .ok (.invokevirtual 17, 3) := by decide +kernel
theorem dL_law_148 : decode cL_law 148 = .ok (.if_icmp .eq 381, 3) := by decide +kernel
theorem dL_law_151 : decode cL_law 151 = .ok (.iconst 0, 1) := by decide +kernel
theorem dL_law_152 : decode cL_law 152 = .ok (.ireturn, 1) := by decide +kernel
theorem dL_law_153 : decode cL_law 153 = .ok (.aload_n 1, 1) := by decide +kernel
theorem dL_law_154 : decode cL_law 154 = .ok (.aload_n 0, 1) := by decide +kernel
theorem dL_law_155 : decode cL_law 155 = .ok (.iload_n 3, 1) := by decide +kernel
theorem dL_law_156 : decode cL_law 156 = .ok (.iconst 1, 1) := by decide +kernel
theorem dL_law_157 : decode cL_law 157 = .ok (.iadd, 1) := by decide +kernel
theorem dL_law_158 : decode cL_law 158 = .ok (.iaload, 1) := by decide +kernel
theorem dL_law_159 : decode cL_law 159 = .ok (.aload_n 0, 1) := by decide +kernel
theorem dL_law_160 : decode cL_law 160 = .ok (.iload_n 3, 1) := by decide +kernel
theorem dL_law_161 : decode cL_law 161 = .ok (.iconst 2, 1) := by decide +kernel
theorem dL_law_162 : decode cL_law 162 = .ok (.iadd, 1) := by decide +kernel
theorem dL_law_163 : decode cL_law 163 = .ok (.iaload, 1) := by decide +kernel
theorem dL_law_164 : decode cL_law 164 = .ok (.aload_n 0, 1) := by decide +kernel
theorem dL_law_165 : decode cL_law 165 = .ok (.iload_n 3, 1) := by decide +kernel
theorem dL_law_166 : decode cL_law 166 = .ok (.iconst 3, 1) := by decide +kernel
theorem dL_law_167 : decode cL_law 167 = .ok (.iadd, 1) := by decide +kernel
theorem dL_law_168 : decode cL_law 168 = .ok (.iaload, 1) := by decide +kernel
theorem dL_law_169 : decode cL_law 169 = .ok (.invokevirtual 18, 3) := by decide +kernel
theorem dL_law_172 : decode cL_law 172 = .ok (.aload_n 2, 1) := by decide +kernel
theorem dL_law_173 : decode cL_law 173 = .ok (.aload_n 0, 1) := by decide +kernel
theorem dL_law_174 : decode cL_law 174 = .ok (.iload_n 3, 1) := by decide +kernel
theorem dL_law_175 : decode cL_law 175 = .ok (.iconst 1, 1) := by decide +kernel
theorem dL_law_176 : decode cL_law 176 = .ok (.iadd, 1) := by decide +kernel
theorem dL_law_177 : decode cL_law 177 = .ok (.iaload, 1) := by decide +kernel
theorem dL_law_178 : decode cL_law 178 = .ok (.aload_n 0, 1) := by decide +kernel
theorem dL_law_179 : decode cL_law 179 = .ok (.iload_n 3, 1) := by decide +kernel
theorem dL_law_180 : decode cL_law 180 = .ok (.iconst 2, 1) := by decide +kernel
theorem dL_law_181 : decode cL_law 181 = .ok (.iadd, 1) := by decide +kernel
theorem dL_law_182 : decode cL_law 182 = .ok (.iaload, 1) := by decide +kernel
theorem dL_law_183 : decode cL_law 183 = .ok (.aload_n 0, 1) := by decide +kernel
theorem dL_law_184 : decode cL_law 184 = .ok (.iload_n 3, 1) := by decide +kernel
theorem dL_law_185 : decode cL_law 185 = .ok (.iconst 3, 1) := by decide +kernel
theorem dL_law_186 : decode cL_law 186 = .ok (.iadd, 1) := by decide +kernel
theorem dL_law_187 : decode cL_law 187 = .ok (.iaload, 1) := by decide +kernel
theorem dL_law_188 : decode cL_law 188 = .ok (.invokevirtual 22, 3) := by decide +kernel
theorem dL_law_191 : decode cL_law 191 = .ok (.if_icmp .eq 338, 3) := by decide +kernel
theorem dL_law_194 : decode cL_law 194 = .ok (.iconst 0, 1) := by decide +kernel
theorem dL_law_195 : decode cL_law 195 = .ok (.ireturn, 1) := by decide +kernel
theorem dL_law_196 : decode cL_law 196 = .ok (.aload_n 1, 1) := by decide +kernel
theorem dL_law_197 : decode cL_law 197 = .ok (.aload_n 0, 1) := by decide +kernel
theorem dL_law_198 : decode cL_law 198 = .ok (.iload_n 3, 1) := by decide +kernel
theorem dL_law_199 : decode cL_law 199 = .ok (.iconst 1, 1) := by decide +kernel
theorem dL_law_200 : decode cL_law 200 = .ok (.iadd, 1) := by decide +kernel
theorem dL_law_201 : decode cL_law 201 = .ok (.iaload, 1) := by decide +kernel
theorem dL_law_202 : decode cL_law 202 = .ok (.aload_n 0, 1) := by decide +kernel
theorem dL_law_203 : decode cL_law 203 = .ok (.iload_n 3, 1) := by decide +kernel
theorem dL_law_204 : decode cL_law 204 = .ok (.iconst 2, 1) := by decide +kernel
theorem dL_law_205 : decode cL_law 205 = .ok (.iadd, 1) := by decide +kernel
theorem dL_law_206 : decode cL_law 206 = .ok (.iaload, 1) := by decide +kernel
theorem dL_law_207 : decode cL_law 207 = .ok (.invokevirtual 23, 3) := by decide +kernel
theorem dL_law_210 : decode cL_law 210 = .ok (.aload_n 2, 1) := by decide +kernel
theorem dL_law_211 : decode cL_law 211 = .ok (.aload_n 0, 1) := by decide +kernel
theorem dL_law_212 : decode cL_law 212 = .ok (.iload_n 3, 1) := by decide +kernel
theorem dL_law_213 : decode cL_law 213 = .ok (.iconst 1, 1) := by decide +kernel
theorem dL_law_214 : decode cL_law 214 = .ok (.iadd, 1) := by decide +kernel
theorem dL_law_215 : decode cL_law 215 = .ok (.iaload, 1) := by decide +kernel
theorem dL_law_216 : decode cL_law 216 = .ok (.aload_n 0, 1) := by decide +kernel
theorem dL_law_217 : decode cL_law 217 = .ok (.iload_n 3, 1) := by decide +kernel
theorem dL_law_218 : decode cL_law 218 = .ok (.iconst 2, 1) := by decide +kernel
theorem dL_law_219 : decode cL_law 219 = .ok (.iadd, 1) := by decide +kernel
theorem dL_law_220 : decode cL_law 220 = .ok (.iaload, 1) := by decide +kernel
theorem dL_law_221 : decode cL_law 221 = .ok (.invokevirtual 27, 3) := by decide +kernel
theorem dL_law_224 : decode cL_law 224 = .ok (.if_icmp .eq 305, 3) := by decide +kernel
theorem dL_law_227 : decode cL_law 227 = .ok (.iconst 0, 1) := by decide +kernel
theorem dL_law_228 : decode cL_law 228 = .ok (.ireturn, 1) := by decide +kernel
theorem dL_law_229 : decode cL_law 229 = .ok (.aload_n 1, 1) := by decide +kernel
theorem dL_law_230 : decode cL_law 230 = .ok (.aload_n 0, 1) := by decide +kernel
theorem dL_law_231 : decode cL_law 231 = .ok (.iload_n 3, 1) := by decide +kernel
theorem dL_law_232 : decode cL_law 232 = .ok (.iconst 1, 1) := by decide +kernel
theorem dL_law_233 : decode cL_law 233 = .ok (.iadd, 1) := by decide +kernel
theorem dL_law_234 : decode cL_law 234 = .ok (.iaload, 1) := by decide +kernel
theorem dL_law_235 : decode cL_law 235 = .ok (.invokevirtual 28, 3) := by decide +kernel
theorem dL_law_238 : decode cL_law 238 = .ok (.aload_n 2, 1) := by decide +kernel
theorem dL_law_239 : decode cL_law 239 = .ok (.aload_n 0, 1) := by decide +kernel
theorem dL_law_240 : decode cL_law 240 = .ok (.iload_n 3, 1) := by decide +kernel
theorem dL_law_241 : decode cL_law 241 = .ok (.iconst 1, 1) := by decide +kernel
theorem dL_law_242 : decode cL_law 242 = .ok (.iadd, 1) := by decide +kernel
theorem dL_law_243 : decode cL_law 243 = .ok (.iaload, 1) := by decide +kernel
theorem dL_law_244 : decode cL_law 244 = .ok (.invokevirtual 32, 3) := by decide +kernel
theorem dL_law_247 : decode cL_law 247 = .ok (.if_icmp .eq 282, 3) := by decide +kernel
theorem dL_law_250 : decode cL_law 250 = .ok (.iconst 0, 1) := by decide +kernel
theorem dL_law_251 : decode cL_law 251 = .ok (.ireturn, 1) := by decide +kernel
theorem dL_law_252 : decode cL_law 252 = .ok (.aload_n 1, 1) := by decide +kernel
theorem dL_law_253 : decode cL_law 253 = .ok (.aload_n 0, 1) := by decide +kernel
theorem dL_law_254 : decode cL_law 254 = .ok (.iload_n 3, 1) := by decide +kernel
theorem dL_law_255 : decode cL_law 255 = .ok (.iconst 1, 1) := by decide +kernel
theorem dL_law_256 : decode cL_law 256 = .ok (.iadd, 1) := by decide +kernel
theorem dL_law_257 : decode cL_law 257 = .ok (.iaload, 1) := by decide +kernel
theorem dL_law_258 : decode cL_law 258 = .ok (.aload_n 0, 1) := by decide +kernel
theorem dL_law_259 : decode cL_law 259 = .ok (.iload_n 3, 1) := by decide +kernel
theorem dL_law_260 : decode cL_law 260 = .ok (.iconst 2, 1) := by decide +kernel
theorem dL_law_261 : decode cL_law 261 = .ok (.iadd, 1) := by decide +kernel
theorem dL_law_262 : decode cL_law 262 = .ok (.iaload, 1) := by decide +kernel
theorem dL_law_263 : decode cL_law 263 = .ok (.invokevirtual 33, 3) := by decide +kernel
theorem dL_law_266 : decode cL_law 266 = .ok (.aload_n 2, 1) := by decide +kernel
theorem dL_law_267 : decode cL_law 267 = .ok (.aload_n 0, 1) := by decide +kernel
theorem dL_law_268 : decode cL_law 268 = .ok (.iload_n 3, 1) := by decide +kernel
theorem dL_law_269 : decode cL_law 269 = .ok (.iconst 1, 1) := by decide +kernel
theorem dL_law_270 : decode cL_law 270 = .ok (.iadd, 1) := by decide +kernel
theorem dL_law_271 : decode cL_law 271 = .ok (.iaload, 1) := by decide +kernel
theorem dL_law_272 : decode cL_law 272 = .ok (.aload_n 0, 1) := by decide +kernel
theorem dL_law_273 : decode cL_law 273 = .ok (.iload_n 3, 1) := by decide +kernel
theorem dL_law_274 : decode cL_law 274 = .ok (.iconst 2, 1) := by decide +kernel
theorem dL_law_275 : decode cL_law 275 = .ok (.iadd, 1) := by decide +kernel
theorem dL_law_276 : decode cL_law 276 = .ok (.iaload, 1) := by decide +kernel
theorem dL_law_277 : decode cL_law 277 = .ok (.invokevirtual 36, 3) := by decide +kernel
theorem dL_law_280 : decode cL_law 280 = .ok (.if_icmp .eq 249, 3) := by decide +kernel
theorem dL_law_283 : decode cL_law 283 = .ok (.iconst 0, 1) := by decide +kernel
theorem dL_law_284 : decode cL_law 284 = .ok (.ireturn, 1) := by decide +kernel
theorem dL_law_285 : decode cL_law 285 = .ok (.aload_n 1, 1) := by decide +kernel
theorem dL_law_286 : decode cL_law 286 = .ok (.aload_n 0, 1) := by decide +kernel
theorem dL_law_287 : decode cL_law 287 = .ok (.iload_n 3, 1) := by decide +kernel
theorem dL_law_288 : decode cL_law 288 = .ok (.iconst 1, 1) := by decide +kernel
theorem dL_law_289 : decode cL_law 289 = .ok (.iadd, 1) := by decide +kernel
theorem dL_law_290 : decode cL_law 290 = .ok (.iaload, 1) := by decide +kernel
theorem dL_law_291 : decode cL_law 291 = .ok (.invokevirtual 37, 3) := by decide +kernel
theorem dL_law_294 : decode cL_law 294 = .ok (.aload_n 2, 1) := by decide +kernel
theorem dL_law_295 : decode cL_law 295 = .ok (.aload_n 0, 1) := by decide +kernel
theorem dL_law_296 : decode cL_law 296 = .ok (.iload_n 3, 1) := by decide +kernel
theorem dL_law_297 : decode cL_law 297 = .ok (.iconst 1, 1) := by decide +kernel
theorem dL_law_298 : decode cL_law 298 = .ok (.iadd, 1) := by decide +kernel
theorem dL_law_299 : decode cL_law 299 = .ok (.iaload, 1) := by decide +kernel
theorem dL_law_300 : decode cL_law 300 = .ok (.invokevirtual 40, 3) := by decide +kernel
theorem dL_law_303 : decode cL_law 303 = .ok (.if_icmp .eq 226, 3) := by decide +kernel
theorem dL_law_306 : decode cL_law 306 = .ok (.iconst 0, 1) := by decide +kernel
theorem dL_law_307 : decode cL_law 307 = .ok (.ireturn, 1) := by decide +kernel
theorem dL_law_308 : decode cL_law 308 = .ok (.aload_n 1, 1) := by decide +kernel
theorem dL_law_309 : decode cL_law 309 = .ok (.aload_n 0, 1) := by decide +kernel
theorem dL_law_310 : decode cL_law 310 = .ok (.iload_n 3, 1) := by decide +kernel
theorem dL_law_311 : decode cL_law 311 = .ok (.iconst 1, 1) := by decide +kernel
theorem dL_law_312 : decode cL_law 312 = .ok (.iadd, 1) := by decide +kernel
theorem dL_law_313 : decode cL_law 313 = .ok (.iaload, 1) := by decide +kernel
theorem dL_law_314 : decode cL_law 314 = .ok (.invokevirtual 41, 3) := by decide +kernel
theorem dL_law_317 : decode cL_law 317 = .ok (.aload_n 2, 1) := by decide +kernel
theorem dL_law_318 : decode cL_law 318 = .ok (.aload_n 0, 1) := by decide +kernel
theorem dL_law_319 : decode cL_law 319 = .ok (.iload_n 3, 1) := by decide +kernel
theorem dL_law_320 : decode cL_law 320 = .ok (.iconst 1, 1) := by decide +kernel
theorem dL_law_321 : decode cL_law 321 = .ok (.iadd, 1) := by decide +kernel
theorem dL_law_322 : decode cL_law 322 = .ok (.iaload, 1) := by decide +kernel
theorem dL_law_323 : decode cL_law 323 = .ok (.invokevirtual 44, 3) := by decide +kernel
theorem dL_law_326 : decode cL_law 326 = .ok (.if_icmp .eq 203, 3) := by decide +kernel
theorem dL_law_329 : decode cL_law 329 = .ok (.iconst 0, 1) := by decide +kernel
theorem dL_law_330 : decode cL_law 330 = .ok (.ireturn, 1) := by decide +kernel
theorem dL_law_331 : decode cL_law 331 = .ok (.aload_n 1, 1) := by decide +kernel
theorem dL_law_332 : decode cL_law 332 = .ok (.aload_n 0, 1) := by decide +kernel
theorem dL_law_333 : decode cL_law 333 = .ok (.iload_n 3, 1) := by decide +kernel
theorem dL_law_334 : decode cL_law 334 = .ok (.iconst 1, 1) := by decide +kernel
theorem dL_law_335 : decode cL_law 335 = .ok (.iadd, 1) := by decide +kernel
theorem dL_law_336 : decode cL_law 336 = .ok (.iaload, 1) := by decide +kernel
theorem dL_law_337 : decode cL_law 337 = .ok (.aload_n 0, 1) := by decide +kernel
theorem dL_law_338 : decode cL_law 338 = .ok (.iload_n 3, 1) := by decide +kernel
theorem dL_law_339 : decode cL_law 339 = .ok (.iconst 2, 1) := by decide +kernel
theorem dL_law_340 : decode cL_law 340 = .ok (.iadd, 1) := by decide +kernel
theorem dL_law_341 : decode cL_law 341 = .ok (.iaload, 1) := by decide +kernel
theorem dL_law_342 : decode cL_law 342 = .ok (.invokevirtual 45, 3) := by decide +kernel
theorem dL_law_345 : decode cL_law 345 = .ok (.aload_n 2, 1) := by decide +kernel
theorem dL_law_346 : decode cL_law 346 = .ok (.aload_n 0, 1) := by decide +kernel
theorem dL_law_347 : decode cL_law 347 = .ok (.iload_n 3, 1) := by decide +kernel
theorem dL_law_348 : decode cL_law 348 = .ok (.iconst 1, 1) := by decide +kernel
theorem dL_law_349 : decode cL_law 349 = .ok (.iadd, 1) := by decide +kernel
theorem dL_law_350 : decode cL_law 350 = .ok (.iaload, 1) := by decide +kernel
theorem dL_law_351 : decode cL_law 351 = .ok (.aload_n 0, 1) := by decide +kernel
theorem dL_law_352 : decode cL_law 352 = .ok (.iload_n 3, 1) := by decide +kernel
theorem dL_law_353 : decode cL_law 353 = .ok (.iconst 2, 1) := by decide +kernel
theorem dL_law_354 : decode cL_law 354 = .ok (.iadd, 1) := by decide +kernel
theorem dL_law_355 : decode cL_law 355 = .ok (.iaload, 1) := by decide +kernel
theorem dL_law_356 : decode cL_law 356 = .ok (.invokevirtual 48, 3) := by decide +kernel
theorem dL_law_359 : decode cL_law 359 = .ok (.if_icmp .eq 170, 3) := by decide +kernel
theorem dL_law_362 : decode cL_law 362 = .ok (.iconst 0, 1) := by decide +kernel
theorem dL_law_363 : decode cL_law 363 = .ok (.ireturn, 1) := by decide +kernel
theorem dL_law_364 : decode cL_law 364 = .ok (.aload_n 1, 1) := by decide +kernel
theorem dL_law_365 : decode cL_law 365 = .ok (.aload_n 0, 1) := by decide +kernel
theorem dL_law_366 : decode cL_law 366 = .ok (.iload_n 3, 1) := by decide +kernel
theorem dL_law_367 : decode cL_law 367 = .ok (.iconst 1, 1) := by decide +kernel
theorem dL_law_368 : decode cL_law 368 = .ok (.iadd, 1) := by decide +kernel
theorem dL_law_369 : decode cL_law 369 = .ok (.iaload, 1) := by decide +kernel
theorem dL_law_370 : decode cL_law 370 = .ok (.aload_n 0, 1) := by decide +kernel
theorem dL_law_371 : decode cL_law 371 = .ok (.iload_n 3, 1) := by decide +kernel
theorem dL_law_372 : decode cL_law 372 = .ok (.iconst 2, 1) := by decide +kernel
theorem dL_law_373 : decode cL_law 373 = .ok (.iadd, 1) := by decide +kernel
theorem dL_law_374 : decode cL_law 374 = .ok (.iaload, 1) := by decide +kernel
theorem dL_law_375 : decode cL_law 375 = .ok (.invokevirtual 49, 3) := by decide +kernel
theorem dL_law_378 : decode cL_law 378 = .ok (.aload_n 2, 1) := by decide +kernel
theorem dL_law_379 : decode cL_law 379 = .ok (.aload_n 0, 1) := by decide +kernel
theorem dL_law_380 : decode cL_law 380 = .ok (.iload_n 3, 1) := by decide +kernel
theorem dL_law_381 : decode cL_law 381 = .ok (.iconst 1, 1) := by decide +kernel
theorem dL_law_382 : decode cL_law 382 = .ok (.iadd, 1) := by decide +kernel
theorem dL_law_383 : decode cL_law 383 = .ok (.iaload, 1) := by decide +kernel
theorem dL_law_384 : decode cL_law 384 = .ok (.aload_n 0, 1) := by decide +kernel
theorem dL_law_385 : decode cL_law 385 = .ok (.iload_n 3, 1) := by decide +kernel
theorem dL_law_386 : decode cL_law 386 = .ok (.iconst 2, 1) := by decide +kernel
theorem dL_law_387 : decode cL_law 387 = .ok (.iadd, 1) := by decide +kernel
theorem dL_law_388 : decode cL_law 388 = .ok (.iaload, 1) := by decide +kernel
theorem dL_law_389 : decode cL_law 389 = .ok (.invokevirtual 52, 3) := by decide +kernel
theorem dL_law_392 : decode cL_law 392 = .ok (.if_icmp .eq 137, 3) := by decide +kernel
theorem dL_law_395 : decode cL_law 395 = .ok (.iconst 0, 1) := by decide +kernel
theorem dL_law_396 : decode cL_law 396 = .ok (.ireturn, 1) := by decide +kernel
theorem dL_law_397 : decode cL_law 397 = .ok (.aload_n 1, 1) := by decide +kernel
theorem dL_law_398 : decode cL_law 398 = .ok (.aload_n 0, 1) := by decide +kernel
theorem dL_law_399 : decode cL_law 399 = .ok (.iload_n 3, 1) := by decide +kernel
theorem dL_law_400 : decode cL_law 400 = .ok (.iconst 1, 1) := by decide +kernel
theorem dL_law_401 : decode cL_law 401 = .ok (.iadd, 1) := by decide +kernel
theorem dL_law_402 : decode cL_law 402 = .ok (.iaload, 1) := by decide +kernel
theorem dL_law_403 : decode cL_law 403 = .ok (.invokevirtual 53, 3) := by decide +kernel
theorem dL_law_406 : decode cL_law 406 = .ok (.aload_n 2, 1) := by decide +kernel
theorem dL_law_407 : decode cL_law 407 = .ok (.aload_n 0, 1) := by decide +kernel
theorem dL_law_408 : decode cL_law 408 = .ok (.iload_n 3, 1) := by decide +kernel
theorem dL_law_409 : decode cL_law 409 = .ok (.iconst 1, 1) := by decide +kernel
theorem dL_law_410 : decode cL_law 410 = .ok (.iadd, 1) := by decide +kernel
theorem dL_law_411 : decode cL_law 411 = .ok (.iaload, 1) := by decide +kernel
theorem dL_law_412 : decode cL_law 412 = .ok (.invokevirtual 56, 3) := by decide +kernel
theorem dL_law_415 : decode cL_law 415 = .ok (.if_icmp .eq 114, 3) := by decide +kernel
theorem dL_law_418 : decode cL_law 418 = .ok (.iconst 0, 1) := by decide +kernel
theorem dL_law_419 : decode cL_law 419 = .ok (.ireturn, 1) := by decide +kernel
theorem dL_law_420 : decode cL_law 420 = .ok (.aload_n 1, 1) := by decide +kernel
theorem dL_law_421 : decode cL_law 421 = .ok (.aload_n 0, 1) := by decide +kernel
theorem dL_law_422 : decode cL_law 422 = .ok (.iload_n 3, 1) := by decide +kernel
theorem dL_law_423 : decode cL_law 423 = .ok (.iconst 1, 1) := by decide +kernel
theorem dL_law_424 : decode cL_law 424 = .ok (.iadd, 1) := by decide +kernel
theorem dL_law_425 : decode cL_law 425 = .ok (.iaload, 1) := by decide +kernel
theorem dL_law_426 : decode cL_law 426 = .ok (.aload_n 0, 1) := by decide +kernel
theorem dL_law_427 : decode cL_law 427 = .ok (.iload_n 3, 1) := by decide +kernel
theorem dL_law_428 : decode cL_law 428 = .ok (.iconst 2, 1) := by decide +kernel
theorem dL_law_429 : decode cL_law 429 = .ok (.iadd, 1) := by decide +kernel
theorem dL_law_430 : decode cL_law 430 = .ok (.iaload, 1) := by decide +kernel
theorem dL_law_431 : decode cL_law 431 = .ok (.invokevirtual 57, 3) := by decide +kernel
theorem dL_law_434 : decode cL_law 434 = .ok (.aload_n 2, 1) := by decide +kernel
theorem dL_law_435 : decode cL_law 435 = .ok (.aload_n 0, 1) := by decide +kernel
theorem dL_law_436 : decode cL_law 436 = .ok (.iload_n 3, 1) := by decide +kernel
theorem dL_law_437 : decode cL_law 437 = .ok (.iconst 1, 1) := by decide +kernel
theorem dL_law_438 : decode cL_law 438 = .ok (.iadd, 1) := by decide +kernel
theorem dL_law_439 : decode cL_law 439 = .ok (.iaload, 1) := by decide +kernel
theorem dL_law_440 : decode cL_law 440 = .ok (.aload_n 0, 1) := by decide +kernel
theorem dL_law_441 : decode cL_law 441 = .ok (.iload_n 3, 1) := by decide +kernel
theorem dL_law_442 : decode cL_law 442 = .ok (.iconst 2, 1) := by decide +kernel
theorem dL_law_443 : decode cL_law 443 = .ok (.iadd, 1) := by decide +kernel
theorem dL_law_444 : decode cL_law 444 = .ok (.iaload, 1) := by decide +kernel
theorem dL_law_445 : decode cL_law 445 = .ok (.invokevirtual 61, 3) := by decide +kernel
theorem dL_law_448 : decode cL_law 448 = .ok (.if_icmp .eq 81, 3) := by decide +kernel
theorem dL_law_451 : decode cL_law 451 = .ok (.iconst 0, 1) := by decide +kernel
theorem dL_law_452 : decode cL_law 452 = .ok (.ireturn, 1) := by decide +kernel
theorem dL_law_453 : decode cL_law 453 = .ok (.aload_n 1, 1) := by decide +kernel
theorem dL_law_454 : decode cL_law 454 = .ok (.aload_n 0, 1) := by decide +kernel
theorem dL_law_455 : decode cL_law 455 = .ok (.iload_n 3, 1) := by decide +kernel
theorem dL_law_456 : decode cL_law 456 = .ok (.iconst 1, 1) := by decide +kernel
theorem dL_law_457 : decode cL_law 457 = .ok (.iadd, 1) := by decide +kernel
theorem dL_law_458 : decode cL_law 458 = .ok (.iaload, 1) := by decide +kernel
theorem dL_law_459 : decode cL_law 459 = .ok (.aload_n 0, 1) := by decide +kernel
theorem dL_law_460 : decode cL_law 460 = .ok (.iload_n 3, 1) := by decide +kernel
theorem dL_law_461 : decode cL_law 461 = .ok (.iconst 2, 1) := by decide +kernel
theorem dL_law_462 : decode cL_law 462 = .ok (.iadd, 1) := by decide +kernel
theorem dL_law_463 : decode cL_law 463 = .ok (.iaload, 1) := by decide +kernel
theorem dL_law_464 : decode cL_law 464 = .ok (.aload_n 0, 1) := by decide +kernel
theorem dL_law_465 : decode cL_law 465 = .ok (.iload_n 3, 1) := by decide +kernel
theorem dL_law_466 : decode cL_law 466 = .ok (.iconst 3, 1) := by decide +kernel
theorem dL_law_467 : decode cL_law 467 = .ok (.iadd, 1) := by decide +kernel
theorem dL_law_468 : decode cL_law 468 = .ok (.iaload, 1) := by decide +kernel
theorem dL_law_469 : decode cL_law 469 = .ok (.invokevirtual 62, 3) := by decide +kernel
theorem dL_law_472 : decode cL_law 472 = .ok (.aload_n 2, 1) := by decide +kernel
theorem dL_law_473 : decode cL_law 473 = .ok (.aload_n 0, 1) := by decide +kernel
theorem dL_law_474 : decode cL_law 474 = .ok (.iload_n 3, 1) := by decide +kernel
theorem dL_law_475 : decode cL_law 475 = .ok (.iconst 1, 1) := by decide +kernel
theorem dL_law_476 : decode cL_law 476 = .ok (.iadd, 1) := by decide +kernel
theorem dL_law_477 : decode cL_law 477 = .ok (.iaload, 1) := by decide +kernel
theorem dL_law_478 : decode cL_law 478 = .ok (.aload_n 0, 1) := by decide +kernel
theorem dL_law_479 : decode cL_law 479 = .ok (.iload_n 3, 1) := by decide +kernel
theorem dL_law_480 : decode cL_law 480 = .ok (.iconst 2, 1) := by decide +kernel
theorem dL_law_481 : decode cL_law 481 = .ok (.iadd, 1) := by decide +kernel
theorem dL_law_482 : decode cL_law 482 = .ok (.iaload, 1) := by decide +kernel
theorem dL_law_483 : decode cL_law 483 = .ok (.aload_n 0, 1) := by decide +kernel
theorem dL_law_484 : decode cL_law 484 = .ok (.iload_n 3, 1) := by decide +kernel
theorem dL_law_485 : decode cL_law 485 = .ok (.iconst 3, 1) := by decide +kernel
theorem dL_law_486 : decode cL_law 486 = .ok (.iadd, 1) := by decide +kernel
theorem dL_law_487 : decode cL_law 487 = .ok (.iaload, 1) := by decide +kernel
theorem dL_law_488 : decode cL_law 488 = .ok (.invokevirtual 65, 3) := by decide +kernel
theorem dL_law_491 : decode cL_law 491 = .ok (.if_icmp .eq 38, 3) := by decide +kernel
theorem dL_law_494 : decode cL_law 494 = .ok (.iconst 0, 1) := by decide +kernel
theorem dL_law_495 : decode cL_law 495 = .ok (.ireturn, 1) := by decide +kernel
theorem dL_law_496 : decode cL_law 496 = .ok (.aload_n 1, 1) := by decide +kernel
theorem dL_law_497 : decode cL_law 497 = .ok (.aload_n 0, 1) := by decide +kernel
theorem dL_law_498 : decode cL_law 498 = .ok (.iload_n 3, 1) := by decide +kernel
theorem dL_law_499 : decode cL_law 499 = .ok (.iconst 1, 1) := by decide +kernel
theorem dL_law_500 : decode cL_law 500 = .ok (.iadd, 1) := by decide +kernel
theorem dL_law_501 : decode cL_law 501 = .ok (.iaload, 1) := by decide +kernel
theorem dL_law_502 : decode cL_law 502 = .ok (.aload_n 0, 1) := by decide +kernel
theorem dL_law_503 : decode cL_law 503 = .ok (.iload_n 3, 1) := by decide +kernel
theorem dL_law_504 : decode cL_law 504 = .ok (.iconst 2, 1) := by decide +kernel
theorem dL_law_505 : decode cL_law 505 = .ok (.iadd, 1) := by decide +kernel
theorem dL_law_506 : decode cL_law 506 = .ok (.iaload, 1) := by decide +kernel
theorem dL_law_507 : decode cL_law 507 = .ok (.invokevirtual 66, 3) := by decide +kernel
theorem dL_law_510 : decode cL_law 510 = .ok (.aload_n 2, 1) := by decide +kernel
theorem dL_law_511 : decode cL_law 511 = .ok (.aload_n 0, 1) := by decide +kernel
theorem dL_law_512 : decode cL_law 512 = .ok (.iload_n 3, 1) := by decide +kernel
theorem dL_law_513 : decode cL_law 513 = .ok (.iconst 1, 1) := by decide +kernel
theorem dL_law_514 : decode cL_law 514 = .ok (.iadd, 1) := by decide +kernel
theorem dL_law_515 : decode cL_law 515 = .ok (.iaload, 1) := by decide +kernel
theorem dL_law_516 : decode cL_law 516 = .ok (.aload_n 0, 1) := by decide +kernel
theorem dL_law_517 : decode cL_law 517 = .ok (.iload_n 3, 1) := by decide +kernel
theorem dL_law_518 : decode cL_law 518 = .ok (.iconst 2, 1) := by decide +kernel
theorem dL_law_519 : decode cL_law 519 = .ok (.iadd, 1) := by decide +kernel
theorem dL_law_520 : decode cL_law 520 = .ok (.iaload, 1) := by decide +kernel
theorem dL_law_521 : decode cL_law 521 = .ok (.invokevirtual 69, 3) := by decide +kernel
theorem dL_law_524 : decode cL_law 524 = .ok (.if_icmp .eq 5, 3) := by decide +kernel
theorem dL_law_527 : decode cL_law 527 = .ok (.iconst 0, 1) := by decide +kernel
theorem dL_law_528 : decode cL_law 528 = .ok (.ireturn, 1) := by decide +kernel
theorem dL_law_529 : decode cL_law 529 = .ok (.iinc 3 5, 3) := by decide +kernel
theorem dL_law_532 : decode cL_law 532 = .ok (.goto (-514), 3) := by decide +kernel
theorem dL_law_535 : decode cL_law 535 = .ok (.iconst 1, 1) := by decide +kernel
theorem dL_law_536 : decode cL_law 536 = .ok (.ireturn, 1) := by decide +kernel
theorem q32 : (Jvm.Cond.initialized "RecurrenceEngineLaw") ∈ lw_all := lw_g (lw_at lw_m1 0 rfl) rfl
set_option maxRecDepth 100000
theorem q35 : (Jvm.Cond.classLink "RecurrenceEngineLaw" (7 : Nat) "RecurrenceEngine") ∈ lw_all := lw_g (lw_at lw_m1 3 rfl) rfl
theorem q37 : (Jvm.Cond.methodLink "RecurrenceEngineLaw" (9 : Nat) ({ cls := "RecurrenceEngine", name := "<init>", desc := "()V" } : Jvm.MethodName)) ∈ lw_all := lw_g (lw_at lw_m1 5 rfl) rfl
theorem q51 : (Jvm.Cond.methodLink "RecurrenceEngineLaw" (13 : Nat) ({ cls := "RecurrenceEngine", name := "define", desc := "(IIII)I" } : Jvm.MethodName)) ∈ lw_all := lw_g (lw_at lw_m1 19 rfl) rfl
theorem q115 : (Jvm.Cond.methodLink "RecurrenceEngineLaw" (18 : Nat) ({ cls := "RecurrenceEngine", name := "add", desc := "(III)I" } : Jvm.MethodName)) ∈ lw_all := lw_g (lw_at lw_m1 83 rfl) rfl
theorem q119 : (Jvm.Cond.methodLink "RecurrenceEngineLaw" (23 : Nat) ({ cls := "RecurrenceEngine", name := "scale", desc := "(II)I" } : Jvm.MethodName)) ∈ lw_all := lw_g (lw_at lw_m1 87 rfl) rfl
theorem q127 : (Jvm.Cond.methodLink "RecurrenceEngineLaw" (28 : Nat) ({ cls := "RecurrenceEngine", name := "advance", desc := "(I)I" } : Jvm.MethodName)) ∈ lw_all := lw_g (lw_at lw_m1 95 rfl) rfl
theorem q131 : (Jvm.Cond.methodLink "RecurrenceEngineLaw" (33 : Nat) ({ cls := "RecurrenceEngine", name := "prepend", desc := "(II)I" } : Jvm.MethodName)) ∈ lw_all := lw_g (lw_at lw_m1 99 rfl) rfl
theorem q135 : (Jvm.Cond.methodLink "RecurrenceEngineLaw" (37 : Nat) ({ cls := "RecurrenceEngine", name := "accumulate", desc := "(I)I" } : Jvm.MethodName)) ∈ lw_all := lw_g (lw_at lw_m1 103 rfl) rfl
theorem q143 : (Jvm.Cond.methodLink "RecurrenceEngineLaw" (41 : Nat) ({ cls := "RecurrenceEngine", name := "difference", desc := "(I)I" } : Jvm.MethodName)) ∈ lw_all := lw_g (lw_at lw_m1 111 rfl) rfl
theorem q147 : (Jvm.Cond.methodLink "RecurrenceEngineLaw" (45 : Nat) ({ cls := "RecurrenceEngine", name := "copy", desc := "(II)I" } : Jvm.MethodName)) ∈ lw_all := lw_g (lw_at lw_m1 115 rfl) rfl
theorem q151 : (Jvm.Cond.methodLink "RecurrenceEngineLaw" (49 : Nat) ({ cls := "RecurrenceEngine", name := "term", desc := "(II)I" } : Jvm.MethodName)) ∈ lw_all := lw_g (lw_at lw_m1 119 rfl) rfl
theorem q167 : (Jvm.Cond.methodLink "RecurrenceEngineLaw" (53 : Nat) ({ cls := "RecurrenceEngine", name := "order", desc := "(I)I" } : Jvm.MethodName)) ∈ lw_all := lw_g (lw_at lw_m1 135 rfl) rfl
theorem q171 : (Jvm.Cond.methodLink "RecurrenceEngineLaw" (57 : Nat) ({ cls := "RecurrenceEngine", name := "equal", desc := "(II)Z" } : Jvm.MethodName)) ∈ lw_all := lw_g (lw_at lw_m1 139 rfl) rfl
theorem q175 : (Jvm.Cond.methodLink "RecurrenceEngineLaw" (62 : Nat) ({ cls := "RecurrenceEngine", name := "sum", desc := "(III)I" } : Jvm.MethodName)) ∈ lw_all := lw_g (lw_at lw_m1 143 rfl) rfl
theorem q183 : (Jvm.Cond.methodLink "RecurrenceEngineLaw" (66 : Nat) ({ cls := "RecurrenceEngine", name := "find", desc := "(II)I" } : Jvm.MethodName)) ∈ lw_all := lw_g (lw_at lw_m1 151 rfl) rfl
theorem q191 : (Jvm.Cond.classLink "RecurrenceEngineLaw" (10 : Nat) "RecurrenceEngineModel") ∈ lw_all := lw_g (lw_at lw_m1 159 rfl) rfl
theorem q193 : (Jvm.Cond.methodLink "RecurrenceEngineLaw" (12 : Nat) ({ cls := "RecurrenceEngineModel", name := "<init>", desc := "()V" } : Jvm.MethodName)) ∈ lw_all := lw_g (lw_at lw_m1 161 rfl) rfl
theorem q210 : (Jvm.Cond.methodLink "RecurrenceEngineLaw" (17 : Nat) ({ cls := "RecurrenceEngineModel", name := "define", desc := "(IIII)I" } : Jvm.MethodName)) ∈ lw_all := lw_g (lw_at lw_m1 178 rfl) rfl
theorem q227 : (Jvm.Cond.methodLink "RecurrenceEngineLaw" (22 : Nat) ({ cls := "RecurrenceEngineModel", name := "add", desc := "(III)I" } : Jvm.MethodName)) ∈ lw_all := lw_g (lw_at lw_m1 195 rfl) rfl
theorem q263 : (Jvm.Cond.methodLink "RecurrenceEngineLaw" (27 : Nat) ({ cls := "RecurrenceEngineModel", name := "scale", desc := "(II)I" } : Jvm.MethodName)) ∈ lw_all := lw_g (lw_at lw_m1 231 rfl) rfl
theorem q267 : (Jvm.Cond.methodLink "RecurrenceEngineLaw" (32 : Nat) ({ cls := "RecurrenceEngineModel", name := "advance", desc := "(I)I" } : Jvm.MethodName)) ∈ lw_all := lw_g (lw_at lw_m1 235 rfl) rfl
theorem q279 : (Jvm.Cond.methodLink "RecurrenceEngineLaw" (36 : Nat) ({ cls := "RecurrenceEngineModel", name := "prepend", desc := "(II)I" } : Jvm.MethodName)) ∈ lw_all := lw_g (lw_at lw_m2 7 rfl) rfl
theorem q283 : (Jvm.Cond.methodLink "RecurrenceEngineLaw" (40 : Nat) ({ cls := "RecurrenceEngineModel", name := "accumulate", desc := "(I)I" } : Jvm.MethodName)) ∈ lw_all := lw_g (lw_at lw_m2 11 rfl) rfl
theorem q287 : (Jvm.Cond.methodLink "RecurrenceEngineLaw" (44 : Nat) ({ cls := "RecurrenceEngineModel", name := "difference", desc := "(I)I" } : Jvm.MethodName)) ∈ lw_all := lw_g (lw_at lw_m2 15 rfl) rfl
theorem q291 : (Jvm.Cond.methodLink "RecurrenceEngineLaw" (48 : Nat) ({ cls := "RecurrenceEngineModel", name := "copy", desc := "(II)I" } : Jvm.MethodName)) ∈ lw_all := lw_g (lw_at lw_m2 19 rfl) rfl
theorem q295 : (Jvm.Cond.methodLink "RecurrenceEngineLaw" (52 : Nat) ({ cls := "RecurrenceEngineModel", name := "term", desc := "(II)I" } : Jvm.MethodName)) ∈ lw_all := lw_g (lw_at lw_m2 23 rfl) rfl
theorem q303 : (Jvm.Cond.methodLink "RecurrenceEngineLaw" (56 : Nat) ({ cls := "RecurrenceEngineModel", name := "order", desc := "(I)I" } : Jvm.MethodName)) ∈ lw_all := lw_g (lw_at lw_m2 31 rfl) rfl
theorem q307 : (Jvm.Cond.methodLink "RecurrenceEngineLaw" (61 : Nat) ({ cls := "RecurrenceEngineModel", name := "equal", desc := "(II)Z" } : Jvm.MethodName)) ∈ lw_all := lw_g (lw_at lw_m2 35 rfl) rfl
theorem q311 : (Jvm.Cond.methodLink "RecurrenceEngineLaw" (65 : Nat) ({ cls := "RecurrenceEngineModel", name := "sum", desc := "(III)I" } : Jvm.MethodName)) ∈ lw_all := lw_g (lw_at lw_m2 39 rfl) rfl
theorem q315 : (Jvm.Cond.methodLink "RecurrenceEngineLaw" (69 : Nat) ({ cls := "RecurrenceEngineModel", name := "find", desc := "(II)I" } : Jvm.MethodName)) ∈ lw_all := lw_g (lw_at lw_m2 43 rfl) rfl
theorem q50 : (Jvm.Cond.arrayClass Jvm.ClassFile.FieldType.int) ∈ lw_all := lw_g (lw_at lw_m1 18 rfl) rfl
set_option maxRecDepth 100000
end
section
/-! rows of instructions over ints, the two worlds, entries and calls -/
set_option maxRecDepth 100000
abbrev vwCl : List vw_C := [(RX0, TX0, 2), (RX1, TX1, 4)]
abbrev rK (f n : Nat) : Room := { frames := f, cells := 0, slots := 0, locals := n }
/-- a table of rows of w numbers, a row of numbers -/
def gr (w : Nat) (B : Nat → Sr) : Nat → Int32 := fun j => iI ((B (j / w) (j % w)).val : Int)
def sq (g : Sr) : Nat → Int32 := fun j => iI ((g j).val : Int)
def setB (B : Nat → Sr) (k n : Nat) (v : Fp) : Nat → Sr := fun k' n' => if k' = k ∧ n' = n then v else B k' n'
def setS (g : Sr) (n : Nat) (v : Fp) : Sr := fun n' => if n' = n then v else g n'
theorem upd_gr {w : Nat} (B : Nat → Sr) (k n : Nat) (v : Fp) (hn : n < w) : upd (gr w B) (w * k + n) (iI (v.val : Int)) = gr w (setB B k n v) := by
  have hw : 0 < w := by omega
  have e1 : (w * k + n) / w = k := by rw [Nat.mul_add_div hw, Nat.div_eq_of_lt hn, Nat.add_zero]
  have e2 : (w * k + n) % w = n := by rw [Nat.mul_add_mod, Nat.mod_eq_of_lt hn]
  funext j
  unfold upd gr setB
  by_cases h : j = w * k + n
  · rw [if_pos h, h, e1, e2, if_pos ⟨rfl, rfl⟩]
  · rw [if_neg h, if_neg (fun q => h (by rw [← q.1, ← q.2, Nat.div_add_mod]))]
theorem upd_sq (g : Sr) (n : Nat) (v : Fp) : upd (sq g) n (iI (v.val : Int)) = sq (setS g n v) := by
  funext j
  unfold upd sq setS
  by_cases h : j = n
  · rw [if_pos h, if_pos h]
  · rw [if_neg h, if_neg h]
theorem gr_at {w : Nat} (B : Nat → Sr) (k n : Nat) (hn : n < w) : gr w B (w * k + n) = iI ((B k n).val : Int) := by
  have hw : 0 < w := by omega
  unfold gr
  rw [Nat.mul_add_div hw, Nat.div_eq_of_lt hn, Nat.add_zero, Nat.mul_add_mod, Nat.mod_eq_of_lt hn]
def EW (h qb qr : Nat) (d : ClassId) (u : (Nat → Sr) × Sr) : va_W := [(h, .inr (0, [.ref qb, .ref qr])), (qb, .inl (d, 312, .inl (gr 24 u.1))), (qr, .inl (d, 8, .inl (sq u.2)))]
def MW (h qt qw qm qf : Nat) (d : ClassId) (u : (Nat → Sr) × Sr × (Nat → Sr) × Sr) : va_W := [(h, .inr (1, [.ref qt, .ref qw, .ref qm, .ref qf])), (qt, .inl (d, 128, .inl (gr 32 u.1))), (qw, .inl (d, 402, .inl (sq u.2.1))), (qm, .inl (d, 272, .inl (gr 17 u.2.2.1))), (qf, .inl (d, 17, .inl (sq u.2.2.2)))]
def gPre (D : va_G) (d : ClassId) (ws : va_W) (sz : Nat) : State → Prop := fun U => U.heap.size = sz ∧ va_P D vwCl ws U.heap ∧ va_K D vwCl [(d, .int)] U ∧ va_D (fun _ => True) ws
def gB {σ : Type} (D : va_G) (d : ClassId) (wd : σ → va_W) (A : Nat → Prop) (u : σ) (t : State) : Prop := va_P D vwCl (wd u) t.heap ∧ va_K D vwCl [(d, .int)] t ∧ va_D A (wd u)
/-- contracts: void, int; static int -/
def gMv {σ : Type} (l : Launch) (y : MethodName) (ws : List Cond) (rm : Room) (D : va_G) (d : ClassId) (wd : σ → va_W) (u0 : σ) (h : Nat) (As : List Value) (post : σ → Prop) : Prop :=
  ∀ sz, Met l y ws rm (va_Pc (.ref h :: As) (gPre D d (wd u0) sz)) (va_Qv post (gB D d wd (va_A (wd u0) sz)) (va_A (wd u0) sz)) 0 0 (va_A (wd u0) sz)
def gMi {σ : Type} (l : Launch) (y : MethodName) (ws : List Cond) (rm : Room) (D : va_G) (d : ClassId) (wd : σ → va_W) (u0 : σ) (h : Nat) (As : List Value) (post : Int32 → σ → Prop) : Prop :=
  ∀ sz, Met l y ws rm (va_Pc (.ref h :: As) (gPre D d (wd u0) sz)) (va_Qi post (gB D d wd (va_A (wd u0) sz)) (va_A (wd u0) sz)) 0 0 (va_A (wd u0) sz)
def sMi (l : Launch) (y : MethodName) (ws : List Cond) (rm : Room) (As : List Value) (post : Int32 → Prop) : Prop :=
  ∀ sz, Met l y ws rm (va_Pc As (fun U => U.heap.size = sz)) (va_Qi (fun r (_ : Unit) => post r) (fun _ _ => True) (va_A [] sz)) 0 0 (va_A [] sz)
section RW
variable {p : Program} {l : Launch} {e : Env} {R : Room} {s : State} {m : MethodId} {args : Array Value} {below : List Frame} {meth : Method} {c : Code} {H : Heap} {locs : List Loc} {cells slots : Nat} {Q : State → Prop} {cc : ByteArray} {pc : Nat} {ls : Array Slot} {rest : List Value}
theorem x_iconst (hx : p.tables.exec = Jvm.exec) (hb : c.code = cc) {n : Int} (hd : decode cc pc = .ok (.iconst n, 1)) (k : W p l e R s m args below meth c H locs cells slots Q (F0 m (pc + 1) ls (.int (iI n) :: rest))) : W p l e R s m args below meth c H locs cells slots Q (F0 m pc ls rest) := lv_iconst hx hb hd rfl k
theorem x_b8 {n : Int} (h : -128 ≤ n ∧ n < 128) : (Int8.ofInt n).toInt32 = iI n := by
  apply Int32.toInt_inj.1
  rw [Int8.toInt_toInt32, Int8.toInt_ofInt_of_le (by omega) (by omega), iI_toInt (by omega) (by omega)]
theorem x_b16 {n : Int} (h : -32768 ≤ n ∧ n < 32768) : (Int16.ofInt n).toInt32 = iI n := by
  apply Int32.toInt_inj.1
  rw [Int16.toInt_toInt32, Int16.toInt_ofInt_of_le (by omega) (by omega), iI_toInt (by omega) (by omega)]
theorem x_bipush (hx : p.tables.exec = Jvm.exec) (hb : c.code = cc) {n : Int} (hd : decode cc pc = .ok (.bipush n, 2)) (h : -128 ≤ n ∧ n < 128) (k : W p l e R s m args below meth c H locs cells slots Q (F0 m (pc + 2) ls (.int (iI n) :: rest))) : W p l e R s m args below meth c H locs cells slots Q (F0 m pc ls rest) := lv_bipush hx hb hd (x_b8 h) k
theorem x_sipush (hx : p.tables.exec = Jvm.exec) (hb : c.code = cc) {n : Int} (hd : decode cc pc = .ok (.sipush n, 3)) (h : -32768 ≤ n ∧ n < 32768) (k : W p l e R s m args below meth c H locs cells slots Q (F0 m (pc + 3) ls (.int (iI n) :: rest))) : W p l e R s m args below meth c H locs cells slots Q (F0 m pc ls rest) := lv_sipush hx hb hd (x_b16 h) k
theorem x_iadd (hx : p.tables.exec = Jvm.exec) (hb : c.code = cc) {a b : Int} (hd : decode cc pc = .ok (.iadd, 1)) (k : W p l e R s m args below meth c H locs cells slots Q (F0 m (pc + 1) ls (.int (iI (a + b)) :: rest))) : W p l e R s m args below meth c H locs cells slots Q (F0 m pc ls (.int (iI b) :: .int (iI a) :: rest)) := lv_iadd hx hb hd (by rw [iI_add]; exact k)
theorem x_isub (hx : p.tables.exec = Jvm.exec) (hb : c.code = cc) {a b : Int} (hd : decode cc pc = .ok (.isub, 1)) (k : W p l e R s m args below meth c H locs cells slots Q (F0 m (pc + 1) ls (.int (iI (a - b)) :: rest))) : W p l e R s m args below meth c H locs cells slots Q (F0 m pc ls (.int (iI b) :: .int (iI a) :: rest)) := lv_isub hx hb hd (by rw [iI_sub]; exact k)
theorem x_imul (hx : p.tables.exec = Jvm.exec) (hb : c.code = cc) {a b : Int} (hd : decode cc pc = .ok (.imul, 1)) (k : W p l e R s m args below meth c H locs cells slots Q (F0 m (pc + 1) ls (.int (iI (a * b)) :: rest))) : W p l e R s m args below meth c H locs cells slots Q (F0 m pc ls (.int (iI b) :: .int (iI a) :: rest)) := lv_imul hx hb hd (by rw [iI_mul]; exact k)
theorem x_ineg (hx : p.tables.exec = Jvm.exec) (hb : c.code = cc) {a : Int} (hd : decode cc pc = .ok (.ineg, 1)) (k : W p l e R s m args below meth c H locs cells slots Q (F0 m (pc + 1) ls (.int (iI (-a)) :: rest))) : W p l e R s m args below meth c H locs cells slots Q (F0 m pc ls (.int (iI a) :: rest)) := lv_ineg hx hb hd (by rw [iI_neg]; exact k)
theorem x_101 : ¬ iI 101 = 0 := by decide
/-- a remainder by 101 of a number that isn't negative, as an element of the field -/
theorem x_irem (hx : p.tables.exec = Jvm.exec) (hb : c.code = cc) {a : Int} (v : Fp) (hv : toF a = v) (h : 0 ≤ a ∧ a < 2147483648) (hd : decode cc pc = .ok (.irem, 1)) (k : W p l e R s m args below meth c H locs cells slots Q (F0 m (pc + 1) ls (.int (iI (v.val : Int)) :: rest))) : W p l e R s m args below meth c H locs cells slots Q (F0 m pc ls (.int (iI 101) :: .int (iI a) :: rest)) := lv_irem hx hb hd x_101 (by
  rw [iI_rem (by omega) (by omega), tmod_pos h.1, ← toF_val, hv]; exact k)
theorem x_iremT (hx : p.tables.exec = Jvm.exec) (hb : c.code = cc) {a : Int} (h : -2147483648 ≤ a ∧ a < 2147483648) (hd : decode cc pc = .ok (.irem, 1)) (k : W p l e R s m args below meth c H locs cells slots Q (F0 m (pc + 1) ls (.int (iI (a.tmod 101)) :: rest))) : W p l e R s m args below meth c H locs cells slots Q (F0 m pc ls (.int (iI 101) :: .int (iI a) :: rest)) := lv_irem hx hb hd x_101 (by
  rw [iI_rem h (by omega)]; exact k)
theorem x_idiv (hx : p.tables.exec = Jvm.exec) (hb : c.code = cc) {a : Int} (h : 0 ≤ a ∧ a < 2147483648) (hd : decode cc pc = .ok (.idiv, 1)) (k : W p l e R s m args below meth c H locs cells slots Q (F0 m (pc + 1) ls (.int (iI (a / 101)) :: rest))) : W p l e R s m args below meth c H locs cells slots Q (F0 m pc ls (.int (iI 101) :: .int (iI a) :: rest)) := lv_idiv hx hb hd x_101 (by
  rw [iI_div (by omega) (by omega), Int.tdiv_eq_ediv_of_nonneg h.1]; exact k)
/-- another name for the number on top -/
theorem x_top {a : Int} (b : Int) (h : a = b) (k : W p l e R s m args below meth c H locs cells slots Q (F0 m pc ls (.int (iI b) :: rest))) : W p l e R s m args below meth c H locs cells slots Q (F0 m pc ls (.int (iI a) :: rest)) := by rw [h]; exact k
theorem x_iinc (hx : p.tables.exec = Jvm.exec) (hb : c.code = cc) {i nL k : Nat} {n a v : Int} {lv lv' : List (Nat × Value)} (hd : decode cc pc = .ok (.iinc i n, 3)) (h : lv_has ls nL lv) (hk : lv[k]? = some (i, .int (iI a))) (hv : a + n = v) (hn : i < nL) (hl : (i, Value.int (iI v)) :: lv.filter (fun q => !(q.1 == i) && !(q.1 + 1 == i && q.2.category == 2)) = lv')
    (kk : ∀ ls' : Array Slot, lv_has ls' nL lv' → W p l e R s m args below meth c H locs cells slots Q (F0 m (pc + 3) ls' rest)) : W p l e R s m args below meth c H locs cells slots Q (F0 m pc ls rest) := by
  refine lv_iinc (v := iI v) hx hb hd h hk ?_ hn hl kk
  rw [← hv]
  exact iI_add a n
theorem x_icmp_eq (hx : p.tables.exec = Jvm.exec) (hb : c.code = cc) {a b : Int} {off : Int} {tgt : Nat} (h : -2147483648 ≤ a ∧ a < 2147483648 ∧ -2147483648 ≤ b ∧ b < 2147483648) (hd : decode cc pc = .ok (.if_icmp .eq off, 3)) (ht : (pc : Int) + off = (tgt : Int)) (kt : a = b → W p l e R s m args below meth c H locs cells slots Q (F0 m tgt ls rest)) (kf : ¬ a = b → W p l e R s m args below meth c H locs cells slots Q (F0 m (pc + 3) ls rest)) : W p l e R s m args below meth c H locs cells slots Q (F0 m pc ls (.int (iI b) :: .int (iI a) :: rest)) :=
  lv_icmp_eq hx hb hd ht (fun q => kt ((iI_eq h).mp q)) (fun q => kf (fun q' => q ((iI_eq h).mpr q')))
theorem x_icmp_ne (hx : p.tables.exec = Jvm.exec) (hb : c.code = cc) {a b : Int} {off : Int} {tgt : Nat} (h : -2147483648 ≤ a ∧ a < 2147483648 ∧ -2147483648 ≤ b ∧ b < 2147483648) (hd : decode cc pc = .ok (.if_icmp .ne off, 3)) (ht : (pc : Int) + off = (tgt : Int)) (kt : ¬ a = b → W p l e R s m args below meth c H locs cells slots Q (F0 m tgt ls rest)) (kf : a = b → W p l e R s m args below meth c H locs cells slots Q (F0 m (pc + 3) ls rest)) : W p l e R s m args below meth c H locs cells slots Q (F0 m pc ls (.int (iI b) :: .int (iI a) :: rest)) :=
  lv_icmp_ne hx hb hd ht (fun q => kt (fun q' => q ((iI_eq h).mpr q'))) (fun q => kf ((iI_eq h).mp q))
theorem x_icmp_ge (hx : p.tables.exec = Jvm.exec) (hb : c.code = cc) {a b : Int} {off : Int} {tgt : Nat} (h : -2147483648 ≤ a ∧ a < 2147483648 ∧ -2147483648 ≤ b ∧ b < 2147483648) (hd : decode cc pc = .ok (.if_icmp .ge off, 3)) (ht : (pc : Int) + off = (tgt : Int)) (kt : b ≤ a → W p l e R s m args below meth c H locs cells slots Q (F0 m tgt ls rest)) (kf : a < b → W p l e R s m args below meth c H locs cells slots Q (F0 m (pc + 3) ls rest)) : W p l e R s m args below meth c H locs cells slots Q (F0 m pc ls (.int (iI b) :: .int (iI a) :: rest)) :=
  lv_icmp_ge hx hb hd ht (fun q => kt ((iI_le ⟨h.2.2.1, h.2.2.2, h.1, h.2.1⟩).mp q)) (fun q => kf (Int.not_le.mp (fun q' => q ((iI_le ⟨h.2.2.1, h.2.2.2, h.1, h.2.1⟩).mpr q'))))
theorem x_icmp_lt (hx : p.tables.exec = Jvm.exec) (hb : c.code = cc) {a b : Int} {off : Int} {tgt : Nat} (h : -2147483648 ≤ a ∧ a < 2147483648 ∧ -2147483648 ≤ b ∧ b < 2147483648) (hd : decode cc pc = .ok (.if_icmp .lt off, 3)) (ht : (pc : Int) + off = (tgt : Int)) (kt : a < b → W p l e R s m args below meth c H locs cells slots Q (F0 m tgt ls rest)) (kf : b ≤ a → W p l e R s m args below meth c H locs cells slots Q (F0 m (pc + 3) ls rest)) : W p l e R s m args below meth c H locs cells slots Q (F0 m pc ls (.int (iI b) :: .int (iI a) :: rest)) :=
  lv_icmp_lt hx hb hd ht (fun q => kt ((iI_lt h).mp q)) (fun q => kf (Int.not_lt.mp (fun q' => q ((iI_lt h).mpr q'))))
theorem x_icmp_gt (hx : p.tables.exec = Jvm.exec) (hb : c.code = cc) {a b : Int} {off : Int} {tgt : Nat} (h : -2147483648 ≤ a ∧ a < 2147483648 ∧ -2147483648 ≤ b ∧ b < 2147483648) (hd : decode cc pc = .ok (.if_icmp .gt off, 3)) (ht : (pc : Int) + off = (tgt : Int)) (kt : b < a → W p l e R s m args below meth c H locs cells slots Q (F0 m tgt ls rest)) (kf : a ≤ b → W p l e R s m args below meth c H locs cells slots Q (F0 m (pc + 3) ls rest)) : W p l e R s m args below meth c H locs cells slots Q (F0 m pc ls (.int (iI b) :: .int (iI a) :: rest)) :=
  lv_icmp_gt hx hb hd ht (fun q => kt ((iI_lt ⟨h.2.2.1, h.2.2.2, h.1, h.2.1⟩).mp q)) (fun q => kf (Int.not_lt.mp (fun q' => q ((iI_lt ⟨h.2.2.1, h.2.2.2, h.1, h.2.1⟩).mpr q'))))
theorem x_icmp_le (hx : p.tables.exec = Jvm.exec) (hb : c.code = cc) {a b : Int} {off : Int} {tgt : Nat} (h : -2147483648 ≤ a ∧ a < 2147483648 ∧ -2147483648 ≤ b ∧ b < 2147483648) (hd : decode cc pc = .ok (.if_icmp .le off, 3)) (ht : (pc : Int) + off = (tgt : Int)) (kt : a ≤ b → W p l e R s m args below meth c H locs cells slots Q (F0 m tgt ls rest)) (kf : b < a → W p l e R s m args below meth c H locs cells slots Q (F0 m (pc + 3) ls rest)) : W p l e R s m args below meth c H locs cells slots Q (F0 m pc ls (.int (iI b) :: .int (iI a) :: rest)) :=
  lv_icmp_le hx hb hd ht (fun q => kt ((iI_le h).mp q)) (fun q => kf (Int.not_le.mp (fun q' => q ((iI_le h).mpr q'))))
theorem x_if_eq (hx : p.tables.exec = Jvm.exec) (hb : c.code = cc) {a : Int} {off : Int} {tgt : Nat} (h : -2147483648 ≤ a ∧ a < 2147483648) (hd : decode cc pc = .ok (.ifCond .eq off, 3)) (ht : (pc : Int) + off = (tgt : Int)) (kt : a = 0 → W p l e R s m args below meth c H locs cells slots Q (F0 m tgt ls rest)) (kf : ¬ a = 0 → W p l e R s m args below meth c H locs cells slots Q (F0 m (pc + 3) ls rest)) : W p l e R s m args below meth c H locs cells slots Q (F0 m pc ls (.int (iI a) :: rest)) :=
  lv_if_eq hx hb hd ht (fun q => kt ((iI_eq (b := 0) (by omega)).mp (q.trans iI_0))) (fun q => kf (fun q' => q (((iI_eq (b := 0) (by omega)).mpr q').trans iI_0.symm)))
theorem x_if_ne (hx : p.tables.exec = Jvm.exec) (hb : c.code = cc) {a : Int} {off : Int} {tgt : Nat} (h : -2147483648 ≤ a ∧ a < 2147483648) (hd : decode cc pc = .ok (.ifCond .ne off, 3)) (ht : (pc : Int) + off = (tgt : Int)) (kt : ¬ a = 0 → W p l e R s m args below meth c H locs cells slots Q (F0 m tgt ls rest)) (kf : a = 0 → W p l e R s m args below meth c H locs cells slots Q (F0 m (pc + 3) ls rest)) : W p l e R s m args below meth c H locs cells slots Q (F0 m pc ls (.int (iI a) :: rest)) :=
  lv_if_ne hx hb hd ht (fun q => kt (fun q' => q (((iI_eq (b := 0) (by omega)).mpr q').trans iI_0.symm))) (fun q => kf ((iI_eq (b := 0) (by omega)).mp (q.trans iI_0)))
theorem x_if_lt (hx : p.tables.exec = Jvm.exec) (hb : c.code = cc) {a : Int} {off : Int} {tgt : Nat} (h : -2147483648 ≤ a ∧ a < 2147483648) (hd : decode cc pc = .ok (.ifCond .lt off, 3)) (ht : (pc : Int) + off = (tgt : Int)) (kt : a < 0 → W p l e R s m args below meth c H locs cells slots Q (F0 m tgt ls rest)) (kf : 0 ≤ a → W p l e R s m args below meth c H locs cells slots Q (F0 m (pc + 3) ls rest)) : W p l e R s m args below meth c H locs cells slots Q (F0 m pc ls (.int (iI a) :: rest)) :=
  lv_if_lt hx hb hd ht (fun q => kt ((iI_lt (b := 0) (by omega)).mp (iI_0 ▸ q))) (fun q => kf (Int.not_lt.mp (fun q' => q (iI_0.symm ▸ (iI_lt (b := 0) (by omega)).mpr q'))))
theorem x_if_ge (hx : p.tables.exec = Jvm.exec) (hb : c.code = cc) {a : Int} {off : Int} {tgt : Nat} (h : -2147483648 ≤ a ∧ a < 2147483648) (hd : decode cc pc = .ok (.ifCond .ge off, 3)) (ht : (pc : Int) + off = (tgt : Int)) (kt : 0 ≤ a → W p l e R s m args below meth c H locs cells slots Q (F0 m tgt ls rest)) (kf : a < 0 → W p l e R s m args below meth c H locs cells slots Q (F0 m (pc + 3) ls rest)) : W p l e R s m args below meth c H locs cells slots Q (F0 m pc ls (.int (iI a) :: rest)) :=
  lv_if_ge hx hb hd ht (fun q => kt ((iI_le (a := 0) (by omega)).mp (iI_0 ▸ q))) (fun q => kf (Int.not_le.mp (fun q' => q (iI_0.symm ▸ (iI_le (a := 0) (by omega)).mpr q'))))
theorem x_if_le (hx : p.tables.exec = Jvm.exec) (hb : c.code = cc) {a : Int} {off : Int} {tgt : Nat} (h : -2147483648 ≤ a ∧ a < 2147483648) (hd : decode cc pc = .ok (.ifCond .le off, 3)) (ht : (pc : Int) + off = (tgt : Int)) (kt : a ≤ 0 → W p l e R s m args below meth c H locs cells slots Q (F0 m tgt ls rest)) (kf : 0 < a → W p l e R s m args below meth c H locs cells slots Q (F0 m (pc + 3) ls rest)) : W p l e R s m args below meth c H locs cells slots Q (F0 m pc ls (.int (iI a) :: rest)) :=
  lv_if_le hx hb hd ht (fun q => kt ((iI_le (b := 0) (by omega)).mp (iI_0 ▸ q))) (fun q => kf (Int.not_le.mp (fun q' => q (iI_0.symm ▸ (iI_le (b := 0) (by omega)).mpr q'))))
/-! the engine's arrays -/
variable {D : va_G} {d : ClassId} {A : Nat → Prop} {H0 : Heap}
theorem e_getb (hx : p.tables.exec = Jvm.exec) (hb : c.code = cc) {h qb qr : Nat} {u : (Nat → Sr) × Sr} (hts : ∀ w ∈ lw_all, w.before args s = true) (hown : s.vm.findClass RX0 = some m.cls) (hK : va_K D vwCl [(d, .int)] s) (hP : va_P D vwCl (EW h qb qr d u) H) (hd : decode cc pc = .ok (.getfield 7, 3)) (k : W p l e R s m args below meth c H locs cells slots Q (F0 m (pc + 3) ls (.ref qb :: rest))) : W p l e R s m args below meth c H locs cells slots Q (F0 m pc ls (.ref h :: rest)) :=
  va_get (D := D) (ci := 0) (v := .ref qb) (C := RX0) (T := TX0) (N := 2) hx hb hts in_X0 hown hK hP 0 rfl rfl 0 (by decide) (hts _ q43) (fun _ h9 => h9) rfl hd k
theorem e_getr (hx : p.tables.exec = Jvm.exec) (hb : c.code = cc) {h qb qr : Nat} {u : (Nat → Sr) × Sr} (hts : ∀ w ∈ lw_all, w.before args s = true) (hown : s.vm.findClass RX0 = some m.cls) (hK : va_K D vwCl [(d, .int)] s) (hP : va_P D vwCl (EW h qb qr d u) H) (hd : decode cc pc = .ok (.getfield 13, 3)) (k : W p l e R s m args below meth c H locs cells slots Q (F0 m (pc + 3) ls (.ref qr :: rest))) : W p l e R s m args below meth c H locs cells slots Q (F0 m pc ls (.ref h :: rest)) :=
  va_get (D := D) (ci := 0) (v := .ref qr) (C := RX0) (T := TX0) (N := 2) hx hb hts in_X0 hown hK hP 0 rfl rfl 1 (by decide) (hts _ q44) (fun _ h9 => h9) rfl hd k
theorem x_ix {z : Int} {w k n N : Nat} (hz : z = (w : Int) * (k : Int) + (n : Int)) (h : w * k + n < N) (hN : N < 2147483648) : vp_in (iI z) N ∧ (iI z).toNatClampNeg = w * k + n := by
  have e : z = ((w * k + n : Nat) : Int) := by rw [hz, Int.natCast_add, Int.natCast_mul]
  rw [e]
  exact ⟨iI_in h hN, iI_clamp (by omega)⟩
theorem x_ix1 {z : Int} {n N : Nat} (hz : z = (n : Int)) (h : n < N) (hN : N < 2147483648) : vp_in (iI z) N ∧ (iI z).toNatClampNeg = n := by
  rw [hz]
  exact ⟨iI_in h hN, iI_clamp (by omega)⟩
theorem e_bld (hx : p.tables.exec = Jvm.exec) (hb : c.code = cc) {h qb qr : Nat} {B : Nat → Sr} {g : Sr} (hK : va_K D vwCl [(d, .int)] s) (hP : va_P D vwCl (EW h qb qr d (B, g)) H) (k n : Nat) {z : Int} (hz : z = 24 * (k : Int) + (n : Int) ∧ k < 13 ∧ n < 24) (hd : decode cc pc = .ok (.iaload, 1)) (kk : W p l e R s m args below meth c H locs cells slots Q (F0 m (pc + 1) ls (.int (iI ((B k n).val : Int)) :: rest))) : W p l e R s m args below meth c H locs cells slots Q (F0 m pc ls (.int (iI z) :: .ref qb :: rest)) := by
  obtain ⟨h1, h2⟩ := x_ix (w := 24) (N := 312) hz.1 (by omega) (by decide)
  refine va_iald (f := gr 24 B) hx hb hK hP 1 0 rfl rfl h1 hd ?_
  rw [h2, gr_at B k n hz.2.2]
  exact kk
theorem e_bst (hx : p.tables.exec = Jvm.exec) (hb : c.code = cc) {h qb qr : Nat} {B : Nat → Sr} {g : Sr} (hK : va_K D vwCl [(d, .int)] s) (hP : va_P D vwCl (EW h qb qr d (B, g)) H) (hD : va_D A (EW h qb qr d (B, g))) (hS : va_S A H0 H locs) (k n : Nat) (v : Fp) {x z : Int} (hv : x = (v.val : Int)) (hz : z = 24 * (k : Int) + (n : Int) ∧ k < 13 ∧ n < 24) (hd : decode cc pc = .ok (.iastore, 1)) (kk : ∀ (H1 : Heap) (locs1 : List Loc), va_P D vwCl (EW h qb qr d (setB B k n v, g)) H1 → va_D A (EW h qb qr d (setB B k n v, g)) → va_S A H0 H1 locs1 → W p l e R s m args below meth c H1 locs1 cells slots Q (F0 m (pc + 1) ls rest)) : W p l e R s m args below meth c H locs cells slots Q (F0 m pc ls (.int (iI x) :: .int (iI z) :: .ref qb :: rest)) := by
  subst hv
  obtain ⟨h1, h2⟩ := x_ix (w := 24) (N := 312) hz.1 (by omega) (by decide)
  refine va_iast (f := gr 24 B) hx hb hK hP hD hS 1 0 rfl rfl h1 hd ?_
  rw [h2, upd_gr B k n v hz.2.2]
  exact kk
theorem e_rld (hx : p.tables.exec = Jvm.exec) (hb : c.code = cc) {h qb qr : Nat} {B : Nat → Sr} {g : Sr} (hK : va_K D vwCl [(d, .int)] s) (hP : va_P D vwCl (EW h qb qr d (B, g)) H) (n : Nat) {z : Int} (hz : z = (n : Int) ∧ n < 8) (hd : decode cc pc = .ok (.iaload, 1)) (kk : W p l e R s m args below meth c H locs cells slots Q (F0 m (pc + 1) ls (.int (iI ((g n).val : Int)) :: rest))) : W p l e R s m args below meth c H locs cells slots Q (F0 m pc ls (.int (iI z) :: .ref qr :: rest)) := by
  obtain ⟨h1, h2⟩ := x_ix1 (N := 8) hz.1 hz.2 (by decide)
  refine va_iald (f := sq g) hx hb hK hP 2 0 rfl rfl h1 hd ?_
  rw [h2]
  exact kk
theorem e_rst (hx : p.tables.exec = Jvm.exec) (hb : c.code = cc) {h qb qr : Nat} {B : Nat → Sr} {g : Sr} (hK : va_K D vwCl [(d, .int)] s) (hP : va_P D vwCl (EW h qb qr d (B, g)) H) (hD : va_D A (EW h qb qr d (B, g))) (hS : va_S A H0 H locs) (n : Nat) (v : Fp) {x z : Int} (hv : x = (v.val : Int)) (hz : z = (n : Int) ∧ n < 8) (hd : decode cc pc = .ok (.iastore, 1)) (kk : ∀ (H1 : Heap) (locs1 : List Loc), va_P D vwCl (EW h qb qr d (B, setS g n v)) H1 → va_D A (EW h qb qr d (B, setS g n v)) → va_S A H0 H1 locs1 → W p l e R s m args below meth c H1 locs1 cells slots Q (F0 m (pc + 1) ls rest)) : W p l e R s m args below meth c H locs cells slots Q (F0 m pc ls (.int (iI x) :: .int (iI z) :: .ref qr :: rest)) := by
  subst hv
  obtain ⟨h1, h2⟩ := x_ix1 (N := 8) hz.1 hz.2 (by decide)
  refine va_iast (f := sq g) hx hb hK hP hD hS 2 0 rfl rfl h1 hd ?_
  rw [h2, upd_sq g n v]
  exact kk
/-! the model's arrays -/
theorem m_get (hx : p.tables.exec = Jvm.exec) (hb : c.code = cc) {h qt qw qm qf : Nat} {u : (Nat → Sr) × Sr × (Nat → Sr) × Sr} (hts : ∀ w ∈ lw_all, w.before args s = true) (hown : s.vm.findClass RX1 = some m.cls) (hK : va_K D vwCl [(d, .int)] s) (hP : va_P D vwCl (MW h qt qw qm qf d u) H) (k : Nat) {q index : Nat} (hk : k < 4) (hl : Cond.fieldLink RX1 index RX1 (TX1 k).2.1 (TX1 k).2.2.1 ∈ lw_all) (hs : (TX1 k).1 = RX1) (hv : ([.ref qt, .ref qw, .ref qm, .ref qf] : List Value)[k]? = some (.ref q)) (hd : decode cc pc = .ok (.getfield index, 3)) (kk : W p l e R s m args below meth c H locs cells slots Q (F0 m (pc + 3) ls (.ref q :: rest))) : W p l e R s m args below meth c H locs cells slots Q (F0 m pc ls (.ref h :: rest)) :=
  va_get (D := D) (ci := 1) (v := .ref q) (C := RX1) (T := TX1) (N := 4) hx hb hts in_X1 hown hK hP 0 rfl rfl k hk (hts _ hl) (fun _ h9 => by rw [hs] at h9; exact h9) hv hd kk
theorem m_gett (hx : p.tables.exec = Jvm.exec) (hb : c.code = cc) {h qt qw qm qf : Nat} {u : (Nat → Sr) × Sr × (Nat → Sr) × Sr} (hts : ∀ w ∈ lw_all, w.before args s = true) (hown : s.vm.findClass RX1 = some m.cls) (hK : va_K D vwCl [(d, .int)] s) (hP : va_P D vwCl (MW h qt qw qm qf d u) H) (hd : decode cc pc = .ok (.getfield 7, 3)) (kk : W p l e R s m args below meth c H locs cells slots Q (F0 m (pc + 3) ls (.ref qt :: rest))) : W p l e R s m args below meth c H locs cells slots Q (F0 m pc ls (.ref h :: rest)) := m_get hx hb hts hown hK hP 0 (by decide) q197 rfl rfl hd kk
theorem m_getw (hx : p.tables.exec = Jvm.exec) (hb : c.code = cc) {h qt qw qm qf : Nat} {u : (Nat → Sr) × Sr × (Nat → Sr) × Sr} (hts : ∀ w ∈ lw_all, w.before args s = true) (hown : s.vm.findClass RX1 = some m.cls) (hK : va_K D vwCl [(d, .int)] s) (hP : va_P D vwCl (MW h qt qw qm qf d u) H) (hd : decode cc pc = .ok (.getfield 13, 3)) (kk : W p l e R s m args below meth c H locs cells slots Q (F0 m (pc + 3) ls (.ref qw :: rest))) : W p l e R s m args below meth c H locs cells slots Q (F0 m pc ls (.ref h :: rest)) := m_get hx hb hts hown hK hP 1 (by decide) q198 rfl rfl hd kk
theorem m_getm (hx : p.tables.exec = Jvm.exec) (hb : c.code = cc) {h qt qw qm qf : Nat} {u : (Nat → Sr) × Sr × (Nat → Sr) × Sr} (hts : ∀ w ∈ lw_all, w.before args s = true) (hown : s.vm.findClass RX1 = some m.cls) (hK : va_K D vwCl [(d, .int)] s) (hP : va_P D vwCl (MW h qt qw qm qf d u) H) (hd : decode cc pc = .ok (.getfield 16, 3)) (kk : W p l e R s m args below meth c H locs cells slots Q (F0 m (pc + 3) ls (.ref qm :: rest))) : W p l e R s m args below meth c H locs cells slots Q (F0 m pc ls (.ref h :: rest)) := m_get hx hb hts hown hK hP 2 (by decide) q199 rfl rfl hd kk
theorem m_getf (hx : p.tables.exec = Jvm.exec) (hb : c.code = cc) {h qt qw qm qf : Nat} {u : (Nat → Sr) × Sr × (Nat → Sr) × Sr} (hts : ∀ w ∈ lw_all, w.before args s = true) (hown : s.vm.findClass RX1 = some m.cls) (hK : va_K D vwCl [(d, .int)] s) (hP : va_P D vwCl (MW h qt qw qm qf d u) H) (hd : decode cc pc = .ok (.getfield 19, 3)) (kk : W p l e R s m args below meth c H locs cells slots Q (F0 m (pc + 3) ls (.ref qf :: rest))) : W p l e R s m args below meth c H locs cells slots Q (F0 m pc ls (.ref h :: rest)) := m_get hx hb hts hown hK hP 3 (by decide) q200 rfl rfl hd kk
variable {h qt qw qm qf : Nat} {T M : Nat → Sr} {w f : Sr}
theorem m_tld (hx : p.tables.exec = Jvm.exec) (hb : c.code = cc) (hK : va_K D vwCl [(d, .int)] s) (hP : va_P D vwCl (MW h qt qw qm qf d (T, w, M, f)) H) (k n : Nat) {z : Int} (hz : z = 32 * (k : Int) + (n : Int) ∧ k < 4 ∧ n < 32) (hd : decode cc pc = .ok (.iaload, 1)) (kk : W p l e R s m args below meth c H locs cells slots Q (F0 m (pc + 1) ls (.int (iI ((T k n).val : Int)) :: rest))) : W p l e R s m args below meth c H locs cells slots Q (F0 m pc ls (.int (iI z) :: .ref qt :: rest)) := by
  obtain ⟨h1, h2⟩ := x_ix (w := 32) (N := 128) hz.1 (by omega) (by decide)
  refine va_iald (f := gr 32 T) hx hb hK hP 1 0 rfl rfl h1 hd ?_
  rw [h2, gr_at T k n hz.2.2]
  exact kk
theorem m_tst (hx : p.tables.exec = Jvm.exec) (hb : c.code = cc) (hK : va_K D vwCl [(d, .int)] s) (hP : va_P D vwCl (MW h qt qw qm qf d (T, w, M, f)) H) (hD : va_D A (MW h qt qw qm qf d (T, w, M, f))) (hS : va_S A H0 H locs) (k n : Nat) (v : Fp) {x z : Int} (hv : x = (v.val : Int)) (hz : z = 32 * (k : Int) + (n : Int) ∧ k < 4 ∧ n < 32) (hd : decode cc pc = .ok (.iastore, 1)) (kk : ∀ (H1 : Heap) (locs1 : List Loc), va_P D vwCl (MW h qt qw qm qf d (setB T k n v, w, M, f)) H1 → va_D A (MW h qt qw qm qf d (setB T k n v, w, M, f)) → va_S A H0 H1 locs1 → W p l e R s m args below meth c H1 locs1 cells slots Q (F0 m (pc + 1) ls rest)) : W p l e R s m args below meth c H locs cells slots Q (F0 m pc ls (.int (iI x) :: .int (iI z) :: .ref qt :: rest)) := by
  subst hv
  obtain ⟨h1, h2⟩ := x_ix (w := 32) (N := 128) hz.1 (by omega) (by decide)
  refine va_iast (f := gr 32 T) hx hb hK hP hD hS 1 0 rfl rfl h1 hd ?_
  rw [h2, upd_gr T k n v hz.2.2]
  exact kk
theorem m_mld (hx : p.tables.exec = Jvm.exec) (hb : c.code = cc) (hK : va_K D vwCl [(d, .int)] s) (hP : va_P D vwCl (MW h qt qw qm qf d (T, w, M, f)) H) (k n : Nat) {z : Int} (hz : z = 17 * (k : Int) + (n : Int) ∧ k < 16 ∧ n < 17) (hd : decode cc pc = .ok (.iaload, 1)) (kk : W p l e R s m args below meth c H locs cells slots Q (F0 m (pc + 1) ls (.int (iI ((M k n).val : Int)) :: rest))) : W p l e R s m args below meth c H locs cells slots Q (F0 m pc ls (.int (iI z) :: .ref qm :: rest)) := by
  obtain ⟨h1, h2⟩ := x_ix (w := 17) (N := 272) hz.1 (by omega) (by decide)
  refine va_iald (f := gr 17 M) hx hb hK hP 3 0 rfl rfl h1 hd ?_
  rw [h2, gr_at M k n hz.2.2]
  exact kk
theorem m_mst (hx : p.tables.exec = Jvm.exec) (hb : c.code = cc) (hK : va_K D vwCl [(d, .int)] s) (hP : va_P D vwCl (MW h qt qw qm qf d (T, w, M, f)) H) (hD : va_D A (MW h qt qw qm qf d (T, w, M, f))) (hS : va_S A H0 H locs) (k n : Nat) (v : Fp) {x z : Int} (hv : x = (v.val : Int)) (hz : z = 17 * (k : Int) + (n : Int) ∧ k < 16 ∧ n < 17) (hd : decode cc pc = .ok (.iastore, 1)) (kk : ∀ (H1 : Heap) (locs1 : List Loc), va_P D vwCl (MW h qt qw qm qf d (T, w, setB M k n v, f)) H1 → va_D A (MW h qt qw qm qf d (T, w, setB M k n v, f)) → va_S A H0 H1 locs1 → W p l e R s m args below meth c H1 locs1 cells slots Q (F0 m (pc + 1) ls rest)) : W p l e R s m args below meth c H locs cells slots Q (F0 m pc ls (.int (iI x) :: .int (iI z) :: .ref qm :: rest)) := by
  subst hv
  obtain ⟨h1, h2⟩ := x_ix (w := 17) (N := 272) hz.1 (by omega) (by decide)
  refine va_iast (f := gr 17 M) hx hb hK hP hD hS 3 0 rfl rfl h1 hd ?_
  rw [h2, upd_gr M k n v hz.2.2]
  exact kk
theorem m_wld (hx : p.tables.exec = Jvm.exec) (hb : c.code = cc) (hK : va_K D vwCl [(d, .int)] s) (hP : va_P D vwCl (MW h qt qw qm qf d (T, w, M, f)) H) (n : Nat) {z : Int} (hz : z = (n : Int) ∧ n < 402) (hd : decode cc pc = .ok (.iaload, 1)) (kk : W p l e R s m args below meth c H locs cells slots Q (F0 m (pc + 1) ls (.int (iI ((w n).val : Int)) :: rest))) : W p l e R s m args below meth c H locs cells slots Q (F0 m pc ls (.int (iI z) :: .ref qw :: rest)) := by
  obtain ⟨h1, h2⟩ := x_ix1 (N := 402) hz.1 hz.2 (by decide)
  refine va_iald (f := sq w) hx hb hK hP 2 0 rfl rfl h1 hd ?_
  rw [h2]
  exact kk
theorem m_wst (hx : p.tables.exec = Jvm.exec) (hb : c.code = cc) (hK : va_K D vwCl [(d, .int)] s) (hP : va_P D vwCl (MW h qt qw qm qf d (T, w, M, f)) H) (hD : va_D A (MW h qt qw qm qf d (T, w, M, f))) (hS : va_S A H0 H locs) (n : Nat) (v : Fp) {x z : Int} (hv : x = (v.val : Int)) (hz : z = (n : Int) ∧ n < 402) (hd : decode cc pc = .ok (.iastore, 1)) (kk : ∀ (H1 : Heap) (locs1 : List Loc), va_P D vwCl (MW h qt qw qm qf d (T, setS w n v, M, f)) H1 → va_D A (MW h qt qw qm qf d (T, setS w n v, M, f)) → va_S A H0 H1 locs1 → W p l e R s m args below meth c H1 locs1 cells slots Q (F0 m (pc + 1) ls rest)) : W p l e R s m args below meth c H locs cells slots Q (F0 m pc ls (.int (iI x) :: .int (iI z) :: .ref qw :: rest)) := by
  subst hv
  obtain ⟨h1, h2⟩ := x_ix1 (N := 402) hz.1 hz.2 (by decide)
  refine va_iast (f := sq w) hx hb hK hP hD hS 2 0 rfl rfl h1 hd ?_
  rw [h2, upd_sq w n v]
  exact kk
theorem m_fld (hx : p.tables.exec = Jvm.exec) (hb : c.code = cc) (hK : va_K D vwCl [(d, .int)] s) (hP : va_P D vwCl (MW h qt qw qm qf d (T, w, M, f)) H) (n : Nat) {z : Int} (hz : z = (n : Int) ∧ n < 17) (hd : decode cc pc = .ok (.iaload, 1)) (kk : W p l e R s m args below meth c H locs cells slots Q (F0 m (pc + 1) ls (.int (iI ((f n).val : Int)) :: rest))) : W p l e R s m args below meth c H locs cells slots Q (F0 m pc ls (.int (iI z) :: .ref qf :: rest)) := by
  obtain ⟨h1, h2⟩ := x_ix1 (N := 17) hz.1 hz.2 (by decide)
  refine va_iald (f := sq f) hx hb hK hP 4 0 rfl rfl h1 hd ?_
  rw [h2]
  exact kk
theorem m_fst (hx : p.tables.exec = Jvm.exec) (hb : c.code = cc) (hK : va_K D vwCl [(d, .int)] s) (hP : va_P D vwCl (MW h qt qw qm qf d (T, w, M, f)) H) (hD : va_D A (MW h qt qw qm qf d (T, w, M, f))) (hS : va_S A H0 H locs) (n : Nat) (v : Fp) {x z : Int} (hv : x = (v.val : Int)) (hz : z = (n : Int) ∧ n < 17) (hd : decode cc pc = .ok (.iastore, 1)) (kk : ∀ (H1 : Heap) (locs1 : List Loc), va_P D vwCl (MW h qt qw qm qf d (T, w, M, setS f n v)) H1 → va_D A (MW h qt qw qm qf d (T, w, M, setS f n v)) → va_S A H0 H1 locs1 → W p l e R s m args below meth c H1 locs1 cells slots Q (F0 m (pc + 1) ls rest)) : W p l e R s m args below meth c H locs cells slots Q (F0 m pc ls (.int (iI x) :: .int (iI z) :: .ref qf :: rest)) := by
  subst hv
  obtain ⟨h1, h2⟩ := x_ix1 (N := 17) hz.1 hz.2 (by decide)
  refine va_iast (f := sq f) hx hb hK hP hD hS 4 0 rfl rfl h1 hd ?_
  rw [h2, upd_sq f n v]
  exact kk
end RW
end
section
/-! entries of methods, and calls -/
set_option maxRecDepth 100000
theorem g_A {ws : va_W} {A0 : Nat → Prop} {H0 H : Heap} {locs : List Loc} (hD : va_D A0 ws) (hS : va_S A0 H0 H locs) (hA : ∀ q, H0.size ≤ q → A0 q) : ∀ q, va_A ws H.size q → A0 q := by
  intro q h
  rcases h with ⟨k, x, h⟩ | h
  · exact hD.2 k (q, x) h
  · exact hA q (Nat.le_trans hS.1 h)
section EN
variable {σ : Type} {l : Launch} {y : MethodName} {rm : Room} {D : va_G} {d : ClassId} {wd : σ → va_W} {u0 : σ} {h nL : Nat} {As : List Value} {cc : ByteArray}
theorem g_entryv {post : σ → Prop} (hy : plainName y.cls = true) (hn : (lg_sl (.ref h :: As)).length ≤ nL)
    (body : ∀ (p : Program) (e : Env) (s : State) (m : MethodId) (args : Array Value) (below : List Frame) (meth : Method) (c : Code) (A : Nat → Prop) (Q : State → Prop), p.tables.exec = Jvm.exec → c.code = cc → c.maxLocals = nL → s.vm.findClass y.cls = some m.cls → (∀ w ∈ lw_all, w.before args s = true) → va_K D vwCl [(d, .int)] s → (∀ q, s.heap.size ≤ q → A q) →
      (∀ (u : σ) (H : Heap) (locs : List Loc) (pc : Nat) (ls : Array Slot), post u → va_P D vwCl (wd u) H → va_D A (wd u) → va_S A s.heap H locs → decode cc pc = .ok (.return_, 1) → W p l e rm s m args below meth c H locs 0 0 Q (F0 m pc ls [])) →
      ∀ (H : Heap) (locs : List Loc), va_P D vwCl (wd u0) H → va_D A (wd u0) → va_S A s.heap H locs → ∀ ls : Array Slot, lv_has ls nL (lv_args 0 (.ref h :: As)) → W p l e rm s m args below meth c H locs 0 0 Q (F0 m 0 ls [])) :
    gMv l y (ws_ y cc nL none) rm D d wd u0 h As post := by
  intro sz
  refine Met.ofW (cc := cc) (maxL := nL) (ret := none) hy rfl ?_
  intro p e s m args below meth c s₁ B hml hv
  obtain ⟨rfl, hsz, hP, hK, hD0⟩ := hv
  have hts := atoms_spec (ws := ws_ y cc nL none) B.pre
  have hts : ∀ w ∈ lw_all, w.before _ s = true := fun w h => hts w (List.mem_cons_of_mem _ h)
  subst hsz
  have hD := hD0.self (sz := s.heap.size)
  have hl := lv_entry (.ref h :: As) (n := nL) hn
  rw [lg_entry_eq]
  refine body p e s m _ below meth c _ _ B.exec B.bytes hml (findClass_of_methodNamed B.named) hts hK (fun q h => Or.inr h) ?_ s.heap [] hP hD va_S.rf _ hl
  intro u H locs pc ls hq hP hD hS hd
  have hlocks := B.notSynchronized
  exact W.vret B.exec B.bytes B.returns (fun t ht hW => ⟨⟨u, rfl, hq, by rw [ht]; exact hP, va_K.moved hW.alike hK, hD⟩, hS.F ht⟩) hS.2.2 hd
theorem g_entryi {post : Int32 → σ → Prop} (hy : plainName y.cls = true) (hn : (lg_sl (.ref h :: As)).length ≤ nL)
    (body : ∀ (p : Program) (e : Env) (s : State) (m : MethodId) (args : Array Value) (below : List Frame) (meth : Method) (c : Code) (A : Nat → Prop) (Q : State → Prop), p.tables.exec = Jvm.exec → c.code = cc → c.maxLocals = nL → s.vm.findClass y.cls = some m.cls → (∀ w ∈ lw_all, w.before args s = true) → va_K D vwCl [(d, .int)] s → (∀ q, s.heap.size ≤ q → A q) →
      (∀ (r : Int32) (u : σ) (H : Heap) (locs : List Loc) (pc : Nat) (ls : Array Slot), post r u → va_P D vwCl (wd u) H → va_D A (wd u) → va_S A s.heap H locs → decode cc pc = .ok (.ireturn, 1) → W p l e rm s m args below meth c H locs 0 0 Q (F0 m pc ls [.int r])) →
      ∀ (H : Heap) (locs : List Loc), va_P D vwCl (wd u0) H → va_D A (wd u0) → va_S A s.heap H locs → ∀ ls : Array Slot, lv_has ls nL (lv_args 0 (.ref h :: As)) → W p l e rm s m args below meth c H locs 0 0 Q (F0 m 0 ls [])) :
    gMi l y (ws_ y cc nL (some .int)) rm D d wd u0 h As post := by
  intro sz
  refine Met.ofW (cc := cc) (maxL := nL) (ret := some .int) hy rfl ?_
  intro p e s m args below meth c s₁ B hml hv
  obtain ⟨rfl, hsz, hP, hK, hD0⟩ := hv
  have hts := atoms_spec (ws := ws_ y cc nL (some .int)) B.pre
  have hts : ∀ w ∈ lw_all, w.before _ s = true := fun w h => hts w (List.mem_cons_of_mem _ h)
  subst hsz
  have hD := hD0.self (sz := s.heap.size)
  have hl := lv_entry (.ref h :: As) (n := nL) hn
  rw [lg_entry_eq]
  refine body p e s m _ below meth c _ _ B.exec B.bytes hml (findClass_of_methodNamed B.named) hts hK (fun q h => Or.inr h) ?_ s.heap [] hP hD va_S.rf _ hl
  intro r u H locs pc ls hq hP hD hS hd
  have hlocks := B.notSynchronized
  exact W.iret B.exec B.bytes B.returns (fun t ht hW => ⟨⟨r, u, rfl, hq, by rw [ht]; exact hP, va_K.moved hW.alike hK, hD⟩, hS.F ht⟩) hS.2.2 hd
/-- a method that answers a boolean -/
theorem g_entryz {post : Int32 → σ → Prop} (hy : plainName y.cls = true) (hn : (lg_sl (.ref h :: As)).length ≤ nL)
    (body : ∀ (p : Program) (e : Env) (s : State) (m : MethodId) (args : Array Value) (below : List Frame) (meth : Method) (c : Code) (A : Nat → Prop) (Q : State → Prop), p.tables.exec = Jvm.exec → c.code = cc → c.maxLocals = nL → s.vm.findClass y.cls = some m.cls → (∀ w ∈ lw_all, w.before args s = true) → va_K D vwCl [(d, .int)] s → (∀ q, s.heap.size ≤ q → A q) →
      (∀ (r : Int32) (u : σ) (H : Heap) (locs : List Loc) (pc : Nat) (ls : Array Slot), narrow .boolean (.int r) = .int r → post r u → va_P D vwCl (wd u) H → va_D A (wd u) → va_S A s.heap H locs → decode cc pc = .ok (.ireturn, 1) → W p l e rm s m args below meth c H locs 0 0 Q (F0 m pc ls [.int r])) →
      ∀ (H : Heap) (locs : List Loc), va_P D vwCl (wd u0) H → va_D A (wd u0) → va_S A s.heap H locs → ∀ ls : Array Slot, lv_has ls nL (lv_args 0 (.ref h :: As)) → W p l e rm s m args below meth c H locs 0 0 Q (F0 m 0 ls [])) :
    gMi l y (ws_ y cc nL (some .boolean)) rm D d wd u0 h As post := by
  intro sz
  refine Met.ofW (cc := cc) (maxL := nL) (ret := some .boolean) hy rfl ?_
  intro p e s m args below meth c s₁ B hml hv
  obtain ⟨rfl, hsz, hP, hK, hD0⟩ := hv
  have hts := atoms_spec (ws := ws_ y cc nL (some .boolean)) B.pre
  have hts : ∀ w ∈ lw_all, w.before _ s = true := fun w h => hts w (List.mem_cons_of_mem _ h)
  subst hsz
  have hD := hD0.self (sz := s.heap.size)
  have hl := lv_entry (.ref h :: As) (n := nL) hn
  rw [lg_entry_eq]
  refine body p e s m _ below meth c _ _ B.exec B.bytes hml (findClass_of_methodNamed B.named) hts hK (fun q h => Or.inr h) ?_ s.heap [] hP hD va_S.rf _ hl
  intro r u H locs pc ls hr0 hq hP hD hS hd
  have hlocks := B.notSynchronized
  exact W.zret B.exec B.bytes B.returns hr0 (fun t ht hW => ⟨⟨r, u, rfl, hq, by rw [ht]; exact hP, va_K.moved hW.alike hK, hD⟩, hS.F ht⟩) hS.2.2 hd
/-- a static method over ints -/
theorem s_entryi {post : Int32 → Prop} (hy : plainName y.cls = true) (hn : (lg_sl As).length ≤ nL)
    (body : ∀ (p : Program) (e : Env) (s : State) (m : MethodId) (args : Array Value) (below : List Frame) (meth : Method) (c : Code) (Q : State → Prop), p.tables.exec = Jvm.exec → c.code = cc → c.maxLocals = nL → s.vm.findClass y.cls = some m.cls → (∀ w ∈ lw_all, w.before args s = true) →
      (∀ (r : Int32) (pc : Nat) (ls : Array Slot), post r → decode cc pc = .ok (.ireturn, 1) → W p l e rm s m args below meth c s.heap [] 0 0 Q (F0 m pc ls [.int r])) →
      ∀ ls : Array Slot, lv_has ls nL (lv_args 0 As) → W p l e rm s m args below meth c s.heap [] 0 0 Q (F0 m 0 ls [])) :
    sMi l y (ws_ y cc nL (some .int)) rm As post := by
  intro sz
  refine Met.ofW (cc := cc) (maxL := nL) (ret := some .int) hy rfl ?_
  intro p e s m args below meth c s₁ B hml hv
  obtain ⟨rfl, hsz⟩ := hv
  have hts := atoms_spec (ws := ws_ y cc nL (some .int)) B.pre
  have hts : ∀ w ∈ lw_all, w.before _ s = true := fun w h => hts w (List.mem_cons_of_mem _ h)
  subst hsz
  have hl := lv_entry As (n := nL) hn
  rw [lg_entry_eq]
  refine body p e s m _ below meth c _ B.exec B.bytes hml (findClass_of_methodNamed B.named) hts ?_ _ hl
  intro r pc ls hq hd
  have hlocks := B.notSynchronized
  exact W.iret B.exec B.bytes B.returns (fun t ht hW => ⟨⟨r, (), rfl, hq, trivial⟩, va_S.rf.F ht⟩) (fun q hq => by cases hq) hd
theorem s_entryz {post : Int32 → Prop} (hy : plainName y.cls = true) (hn : (lg_sl As).length ≤ nL)
    (body : ∀ (p : Program) (e : Env) (s : State) (m : MethodId) (args : Array Value) (below : List Frame) (meth : Method) (c : Code) (Q : State → Prop), p.tables.exec = Jvm.exec → c.code = cc → c.maxLocals = nL → s.vm.findClass y.cls = some m.cls → (∀ w ∈ lw_all, w.before args s = true) →
      (∀ (r : Int32) (pc : Nat) (ls : Array Slot), narrow .boolean (.int r) = .int r → post r → decode cc pc = .ok (.ireturn, 1) → W p l e rm s m args below meth c s.heap [] 0 0 Q (F0 m pc ls [.int r])) →
      ∀ ls : Array Slot, lv_has ls nL (lv_args 0 As) → W p l e rm s m args below meth c s.heap [] 0 0 Q (F0 m 0 ls [])) :
    sMi l y (ws_ y cc nL (some .boolean)) rm As post := by
  intro sz
  refine Met.ofW (cc := cc) (maxL := nL) (ret := some .boolean) hy rfl ?_
  intro p e s m args below meth c s₁ B hml hv
  obtain ⟨rfl, hsz⟩ := hv
  have hts := atoms_spec (ws := ws_ y cc nL (some .boolean)) B.pre
  have hts : ∀ w ∈ lw_all, w.before _ s = true := fun w h => hts w (List.mem_cons_of_mem _ h)
  subst hsz
  have hl := lv_entry As (n := nL) hn
  rw [lg_entry_eq]
  refine body p e s m _ below meth c _ B.exec B.bytes hml (findClass_of_methodNamed B.named) hts ?_ _ hl
  intro r pc ls hr0 hq hd
  have hlocks := B.notSynchronized
  exact W.zret B.exec B.bytes B.returns hr0 (fun t ht hW => ⟨⟨r, (), rfl, hq, trivial⟩, va_S.rf.F ht⟩) (fun q hq => by cases hq) hd
end EN
section CA
variable {p : Program} {l : Launch} {e : Env} {R : Room} {s : State} {m : MethodId} {args : Array Value} {below : List Frame} {meth : Method} {c : Code} {H : Heap} {locs : List Loc} {cells slots : Nat} {Q : State → Prop} {cc : ByteArray} {pc : Nat} {ls : Array Slot} {rest st : List Value}
variable {σ : Type} {y : MethodName} {rm : Room} {D : va_G} {d : ClassId} {wd : σ → va_W} {u0 : σ} {h nL n maxL index : Nat} {As : List Value} {ws : List Cond} {bytes : ByteArray} {ret : Option FieldType} {own C : String} {A : Nat → Prop} {Ts : List Cond}
theorem g_blind {ws0 : va_W} {sz : Nat} {av : List Value} : FrameBlind (va_Pc av (gPre D d ws0 sz)) := by
  intro a U g mk q
  obtain ⟨q0, q1, qP, qK, qD⟩ := q
  exact ⟨q0, q1, qP, va_K.moved (u := U) (U := U.calling g mk a) (Vm.Alike.refl U.vm) qK, qD⟩
/-- a call through an object whose world is the caller's whole world -/
theorem g_callv {post : σ → Prop} (S : CallFix p m c cc nL s args Ts own) (hM : gMv l y ws rm D d wd u0 h As post) (cw : CallW R s args own C index y bytes maxL ret ws rm 0 0 n) (hrc : ∃ cell : Cell, H[h]? = some cell ∧ cell.vm.isStatics = false ∧ s.vm.findClass C = some cell.cls) (hK : va_K D vwCl [(d, .int)] s) (hA : ∀ q, s.heap.size ≤ q → A q) (hP : va_P D vwCl (wd u0) H) (hD : va_D A (wd u0)) (hS : va_S A s.heap H locs)
    (hn : As.length = n) (hsize : ls.size = nL) (hst : st = As.reverse ++ .ref h :: rest) (hW : (rest.map fun v => v.category).sum ≤ 8) (hdg : decode cc pc = .ok (.invokevirtual index, 3)) (hf : cells + 0 ≤ R.cells ∧ slots + 0 ≤ R.slots)
    (kk : ∀ (u : σ) (H1 : Heap) (locs1 : List Loc), post u → va_P D vwCl (wd u) H1 → va_D A (wd u) → va_S A s.heap H1 locs1 → W p l e R s m args below meth c H1 locs1 cells slots Q (F0 m (pc + 3) ls rest)) : W p l e R s m args below meth c H locs cells slots Q (F0 m pc ls st) := by
  have hF := g_A hD hS hA
  refine va_callv (va_runV (As := As) (rest := rest) S (hM H.size) cw ⟨g_blind, hrc, fun U hU hW => ⟨rfl, by rw [hU], by rw [hU]; exact hP, va_K.moved hW.alike hK, hD.weaken (fun _ _ _ _ => trivial)⟩⟩ rfl hn hsize hst (lv_room hW) hdg hf) hS (fun q _ h => hF q h) hF ?_
  intro u t H1 locs1 ht hvm hq hB hz hk hS1
  obtain ⟨hP1, hK1, hD1⟩ := hB
  rw [ht] at hP1
  exact kk u H1 locs1 hq hP1 (hD1.weaken (fun _ q _ h => hF q.1 h)) hS1
theorem g_calli {post : Int32 → σ → Prop} (S : CallFix p m c cc nL s args Ts own) (hM : gMi l y ws rm D d wd u0 h As post) (cw : CallW R s args own C index y bytes maxL ret ws rm 0 0 n) (hrc : ∃ cell : Cell, H[h]? = some cell ∧ cell.vm.isStatics = false ∧ s.vm.findClass C = some cell.cls) (hK : va_K D vwCl [(d, .int)] s) (hA : ∀ q, s.heap.size ≤ q → A q) (hP : va_P D vwCl (wd u0) H) (hD : va_D A (wd u0)) (hS : va_S A s.heap H locs)
    (hn : As.length = n) (hsize : ls.size = nL) (hst : st = As.reverse ++ .ref h :: rest) (hW : (rest.map fun v => v.category).sum ≤ 8) (hdg : decode cc pc = .ok (.invokevirtual index, 3)) (hf : cells + 0 ≤ R.cells ∧ slots + 0 ≤ R.slots)
    (kk : ∀ (r : Int32) (u : σ) (H1 : Heap) (locs1 : List Loc), post r u → va_P D vwCl (wd u) H1 → va_D A (wd u) → va_S A s.heap H1 locs1 → W p l e R s m args below meth c H1 locs1 cells slots Q (F0 m (pc + 3) ls (.int r :: rest))) : W p l e R s m args below meth c H locs cells slots Q (F0 m pc ls st) := by
  have hF := g_A hD hS hA
  refine va_calli (va_runV (As := As) (rest := rest) S (hM H.size) cw ⟨g_blind, hrc, fun U hU hW => ⟨rfl, by rw [hU], by rw [hU]; exact hP, va_K.moved hW.alike hK, hD.weaken (fun _ _ _ _ => trivial)⟩⟩ rfl hn hsize hst (lv_room hW) hdg hf) hS (fun q _ h => hF q h) hF ?_
  intro r u t H1 locs1 ht hvm hq hB hz hk hS1
  obtain ⟨hP1, hK1, hD1⟩ := hB
  rw [ht] at hP1
  exact kk r u H1 locs1 hq hP1 (hD1.weaken (fun _ q _ h => hF q.1 h)) hS1
/-- a static call over ints: the caller's world stays -/
theorem s_calli {ws0 : va_W} {post : Int32 → Prop} (S : CallFix p m c cc nL s args Ts own) (hM : sMi l y ws rm As post) (cw : CallB R s args own index y bytes maxL ret ws rm 0 0 n ∧ (Cond.static y).before args s = true) (hA : ∀ q, s.heap.size ≤ q → A q) (hP : va_P D vwCl ws0 H) (hS : va_S A s.heap H locs)
    (hn : As.length = n) (hsize : ls.size = nL) (hst : st = As.reverse ++ rest) (hW : (rest.map fun v => v.category).sum ≤ 8) (hdg : decode cc pc = .ok (.invokestatic index, 3)) (hf : cells + 0 ≤ R.cells ∧ slots + 0 ≤ R.slots)
    (kk : ∀ (r : Int32) (H1 : Heap) (locs1 : List Loc), post r → va_P D vwCl ws0 H1 → va_S A s.heap H1 locs1 → W p l e R s m args below meth c H1 locs1 cells slots Q (F0 m (pc + 3) ls (.int r :: rest))) : W p l e R s m args below meth c H locs cells slots Q (F0 m pc ls st) := by
  have hF : ∀ q, va_A [] H.size q → A q := by
    intro q h
    rcases h with ⟨k, x, h⟩ | h
    · simp at h
    · exact hA q (Nat.le_trans hS.1 h)
  refine va_calli (va_runS (As := As) (rest := rest) S (hM H.size) cw ⟨fun a U g mk q => q, fun U hU hW => ⟨rfl, by show U.heap.size = H.size; rw [hU]⟩⟩ rfl hn hsize hst (lv_room hW) hdg hf) hS (fun q _ h => hF q h) hF ?_
  intro r u t H1 locs1 ht hvm hq hB hz hk hS1
  refine kk r H1 locs1 hq (hP.kept (fun k q hq => hk q.1 ((hP k q hq).lt) ?_)) hS1
  intro h
  have hlt := (hP k q hq).lt
  rcases h with ⟨k, x, h⟩ | h
  · simp at h
  · omega
/-- the same in a static method, which has no world -/
theorem s_calls {post : Int32 → Prop} (S : CallFix p m c cc nL s args Ts own) (hM : sMi l y ws rm As post) (cw : CallB R s args own index y bytes maxL ret ws rm 0 0 n ∧ (Cond.static y).before args s = true) (hA : ∀ q, s.heap.size ≤ q → A q) (hS : va_S A s.heap H locs)
    (hn : As.length = n) (hsize : ls.size = nL) (hst : st = As.reverse ++ rest) (hW : (rest.map fun v => v.category).sum ≤ 8) (hdg : decode cc pc = .ok (.invokestatic index, 3)) (hf : cells + 0 ≤ R.cells ∧ slots + 0 ≤ R.slots)
    (kk : ∀ (r : Int32) (H1 : Heap) (locs1 : List Loc), post r → va_S A s.heap H1 locs1 → W p l e R s m args below meth c H1 locs1 cells slots Q (F0 m (pc + 3) ls (.int r :: rest))) : W p l e R s m args below meth c H locs cells slots Q (F0 m pc ls st) :=
  s_calli (D := (fun _ => 0, fun _ _ => 0)) (ws0 := []) S hM cw hA (fun k q hq => by simp at hq) hS hn hsize hst hW hdg hf (fun r H1 locs1 h1 _ h3 => kk r H1 locs1 h1 h3)
end CA
end
section
/-! words for the engine's methods -/
def setP (B : Nat → Sr) (k : Nat) (p : Sr) : Nat → Sr := fun k' n => if k' = k then p n else B k' n
theorem setP_eq (B : Nat → Sr) (k : Nat) (p : Sr) : setP B k p k = p := by funext n; simp [setP]
theorem setP_ne (B : Nat → Sr) {k k' : Nat} (p : Sr) (h : k' ≠ k) : setP B k p k' = B k' := by funext n; simp [setP, h]
theorem gr_congr {w : Nat} {B B' : Nat → Sr} (hw : 0 < w) (h : ∀ k n, n < w → B k n = B' k n) : gr w B = gr w B' := by
  funext j
  unfold gr
  rw [h _ _ (Nat.mod_lt _ hw)]
theorem EW_congr {h qb qr : Nat} {d : ClassId} {B : Nat → Sr} {g : Sr} (B' : Nat → Sr) (hh : ∀ k n, n < 24 → B k n = B' k n) : EW h qb qr d (B, g) = EW h qb qr d (B', g) := by
  unfold EW
  rw [gr_congr (B' := B') (by decide) hh]
def bd (z : Int) : Int := if z < 0 ∨ 3 < z then 1 else 0
theorem bd_bd (z : Int) : 0 ≤ bd z ∧ bd z ≤ 1 := by unfold bd; split <;> decide
theorem bd_1 {z : Int} (h : z < 0 ∨ 3 < z) : bd z = 1 := if_pos h
theorem bd_0 {z : Int} (h : 0 ≤ z ∧ z ≤ 3) : bd z = 0 := if_neg (by omega)
theorem bd_n {z : Int} (h : ¬ bd z = 0) : z < 0 ∨ 3 < z := by
  unfold bd at h
  split at h
  · assumption
  · exact absurd rfl h
theorem bd_y {z : Int} (h : bd z = 0) : 0 ≤ z ∧ z ≤ 3 := by
  unfold bd at h
  split at h
  · exact absurd h (by decide)
  · omega
/-- the length of a polynomial: from D on nought, below not -/
def Deg (p : Sr) (D : Nat) : Prop := D ≤ 24 ∧ (∀ n, D ≤ n → n < 24 → p n = 0) ∧ (D = 0 ∨ p (D - 1) ≠ 0)
theorem fpw_s (x : Fp) (n : Nat) : fpw x (n + 1) = fpw x n * x := rfl
theorem deg_step {p : Sr} {L : Nat} (hv : ∀ j, L ≤ j → j < 24 → p j = 0) (h : p (L - 1) = 0) : ∀ j, L - 1 ≤ j → j < 24 → p j = 0 := by
  intro j h1 h2
  by_cases e : j = L - 1
  · rw [e]; exact h
  · exact hv j (by omega) h2
/-- a row of a table that is being filled from lo on: so far below i -/
def Fill (w : Nat) (B0 : Nat → Sr) (k : Nat) (p : Sr) (lo i : Nat) (Bc : Nat → Sr) : Prop := ∀ k2 j, j < w → Bc k2 j = if k2 = k ∧ lo ≤ j ∧ j < i then p j else B0 k2 j
theorem fill_0 (w : Nat) (B0 : Nat → Sr) (k : Nat) (p : Sr) (lo : Nat) : Fill w B0 k p lo lo B0 := fun k2 j _ => by rw [if_neg (by omega)]
theorem fill_s {w : Nat} {B0 : Nat → Sr} {k : Nat} {p : Sr} {lo i : Nat} {Bc : Nat → Sr} (h : Fill w B0 k p lo i Bc) (hi : lo ≤ i) {v : Fp} (hv : v = p i) : Fill w B0 k p lo (i + 1) (setB Bc k i v) := by
  intro k2 j hj
  unfold setB
  by_cases e : k2 = k ∧ j = i
  · rw [if_pos e, if_pos (by omega), hv, e.2]
  · rw [if_neg e, h k2 j hj]
    by_cases e2 : k2 = k ∧ lo ≤ j ∧ j < i
    · rw [if_pos e2, if_pos (by omega)]
    · rw [if_neg e2, if_neg (by omega)]
theorem fill_at {w : Nat} {B0 : Nat → Sr} {k : Nat} {p : Sr} {lo i : Nat} {Bc : Nat → Sr} (h : Fill w B0 k p lo i Bc) {k2 j : Nat} (hj : j < w) (ho : k2 ≠ k ∨ i ≤ j ∨ j < lo) : Bc k2 j = B0 k2 j := by
  rw [h k2 j hj, if_neg (by omega)]
theorem fill_end {w : Nat} {B0 : Nat → Sr} {k : Nat} {p : Sr} {i : Nat} {Bc : Nat → Sr} (h : Fill w B0 k p 0 i Bc) (hi : w ≤ i) : ∀ k2 j, j < w → Bc k2 j = setP B0 k p k2 j := by
  intro k2 j hj
  rw [h k2 j hj]
  unfold setP
  by_cases e : k2 = k
  · rw [if_pos (by omega), if_pos e]
  · rw [if_neg (by omega), if_neg e]
theorem fill_endl {w : Nat} {B0 : Nat → Sr} {k : Nat} {p : Sr} {lo i : Nat} {Bc : Nat → Sr} (h : Fill w B0 k p lo i Bc) (hi : w ≤ i) : ∀ k2 j, j < w → Bc k2 j = setP B0 k (fun j => if lo ≤ j then p j else B0 k j) k2 j := by
  intro k2 j hj
  rw [h k2 j hj]
  unfold setP
  by_cases e : k2 = k
  · rw [if_pos e]
    show _ = if lo ≤ j then p j else B0 k j
    by_cases e2 : lo ≤ j
    · rw [if_pos (by omega), if_pos e2]
    · rw [if_neg (by omega), if_neg e2, e]
  · rw [if_neg (by omega), if_neg e]
/-- a row of numbers that is being filled -/
def FillS (g0 p : Sr) (i : Nat) (gc : Sr) : Prop := ∀ j, gc j = if j < i then p j else g0 j
theorem fillS_0 (g0 p : Sr) : FillS g0 p 0 g0 := fun j => by rw [if_neg (by omega)]
theorem fillS_s {g0 p : Sr} {i : Nat} {gc : Sr} (h : FillS g0 p i gc) {v : Fp} (hv : v = p i) : FillS g0 p (i + 1) (setS gc i v) := by
  intro j
  unfold setS
  by_cases e : j = i
  · rw [if_pos e, if_pos (by omega), hv, e]
  · rw [if_neg e, h j]
    by_cases e2 : j < i
    · rw [if_pos e2, if_pos (by omega)]
    · rw [if_neg e2, if_neg (by omega)]
theorem fillS_in {g0 p : Sr} {i : Nat} {gc : Sr} (h : FillS g0 p i gc) {j : Nat} (hj : j < i) : gc j = p j := by rw [h j, if_pos hj]
theorem fillS_out {g0 p : Sr} {i : Nat} {gc : Sr} (h : FillS g0 p i gc) {j : Nat} (hj : i ≤ j) : gc j = g0 j := by rw [h j, if_neg (by omega)]
end
section
/-! pure laws behind the engine's loops -/
def tr24 (f : Sr) : Sr := fun n => if n < 24 then f n else 0
theorem tr24_van (f : Sr) : van 24 (tr24 f) := fun n hn => by unfold tr24; rw [if_neg (by omega)]
theorem tr24_id {f : Sr} (h : van 24 f) : tr24 f = f := by
  funext n
  unfold tr24
  by_cases e : n < 24
  · rw [if_pos e]
  · rw [if_neg e, h n (by omega)]
def tru (i : Nat) (f : Sr) : Sr := fun n => if n < i then f n else 0
theorem tru_s (i : Nat) (f : Sr) : tru (i + 1) f = ad (tru i f) (mo i (f i)) := by
  funext n
  simp only [tru, ad, mo]
  by_cases e : n = i
  · rw [if_pos (by omega), if_neg (by omega), if_pos e, e]; grind
  · by_cases e2 : n < i
    · rw [if_pos (by omega), if_pos e2, if_neg e]; grind
    · rw [if_neg (by omega), if_neg e2, if_neg e]; rfl
def MulI (B : Nat → Sr) (a b i : Nat) (Bc : Nat → Sr) : Prop := (∀ k2, k2 ≠ 4 → Bc k2 = B k2) ∧ ∀ n, n < 24 → Bc 4 n = cv (tru i (B a)) (B b) n
theorem mul_0 (B : Nat → Sr) (a b : Nat) : MulI B a b 0 (setP B 4 z0) := by
  refine ⟨fun k2 h => setP_ne B z0 h, fun n _ => ?_⟩
  have e : tru 0 (B a) = z0 := by funext n; simp [tru, z0]
  rw [setP_eq, e, cv_z0]
  rfl
theorem mul_s {B Bc : Nat → Sr} {a b i : Nat} (h : MulI B a b i Bc) (ha : a ≠ 4) (hb : b ≠ 4) {x : Fp} (hx : x = Bc a i) : MulI B a b (i + 1) (setP Bc 4 (fun j => if i ≤ j then Bc 4 j + x * Bc b (j - i) else Bc 4 j)) := by
  refine ⟨fun k2 hk => by rw [setP_ne Bc _ hk, h.1 k2 hk], fun n hn => ?_⟩
  rw [setP_eq, tru_s, cv_addl, cv_mo, ← h.2 n hn, hx, h.1 a ha, h.1 b hb]
  by_cases e : i ≤ n
  · rw [if_pos e, if_pos e]
  · rw [if_neg e, if_neg e]; grind
theorem mul_end {B Bc : Nat → Sr} {a b L : Nat} (to : Nat) (h : MulI B a b L Bc) (hd : Deg (B a) L) : ∀ k2 n, n < 24 → setP Bc to (Bc 4) k2 n = setP (setP B 4 (tr24 (cv (B a) (B b)))) to (tr24 (cv (B a) (B b))) k2 n := by
  have key : ∀ n, n < 24 → Bc 4 n = tr24 (cv (B a) (B b)) n := by
    intro n hn
    unfold tr24
    rw [if_pos hn, h.2 n hn]
    refine cv_congr (fun k hk => ?_) (fun _ _ => rfl)
    unfold tru
    by_cases e : k < L
    · rw [if_pos e]
    · rw [if_neg e, hd.2.1 k (by omega) (by omega)]
  intro k2 n hn
  unfold setP
  by_cases e : k2 = to
  · rw [if_pos e, if_pos e, key n hn]
  · rw [if_neg e, if_neg e]
    by_cases e2 : k2 = 4
    · rw [if_pos e2, e2, key n hn]
    · rw [if_neg e2, h.1 k2 e2]
/-! division with rest -/
def DivI (B : Nat → Sr) (a b L E : Nat) (Bc : Nat → Sr) : Prop :=
  (∀ k2, k2 ≠ 4 → k2 ≠ a → Bc k2 = B k2) ∧ (∀ n, n < 24 → B a n = cv (tr24 (Bc 4)) (B b) n + Bc a n) ∧ (∀ n, E ≤ n → n < 24 → Bc a n = 0) ∧ (∀ n, n < 24 → n + L < E + 1 ∨ 24 < n + L → Bc 4 n = 0)
theorem div_0 {B : Nat → Sr} {a b L : Nat} (ha : a ≠ 4) : DivI B a b L 24 (setP B 4 z0) := by
  refine ⟨fun k2 h _ => setP_ne B z0 h, fun n _ => ?_, fun n h1 h2 => by omega, fun n _ _ => by rw [setP_eq]; rfl⟩
  have e : tr24 (setP B 4 z0 4) = z0 := by rw [setP_eq]; funext n; simp [tr24, z0]
  rw [e, cv_z0, setP_ne B z0 ha]
  grind
theorem div_s {B Bc : Nat → Sr} {a b L E : Nat} {y : Fp} (h : DivI B a b L E Bc) (ha : a ≠ 4) (hb : b ≠ 4) (hab : b ≠ a) (hL : 1 ≤ L) (hE : L ≤ E) (hE2 : E ≤ 24) (hd : Deg (B b) L) (hy : B b (L - 1) * y = 1) :
    DivI B a b L (E - 1) (setP (setB Bc 4 (E - L) (Bc a (E - 1) * y)) a (fun j => if E - L ≤ j then setB Bc 4 (E - L) (Bc a (E - 1) * y) a j + (-(Bc a (E - 1) * y)) * setB Bc 4 (E - L) (Bc a (E - 1) * y) b (j - (E - L)) else setB Bc 4 (E - L) (Bc a (E - 1) * y) a j)) := by
  obtain ⟨x, hx⟩ : ∃ x, x = Bc a (E - 1) * y := ⟨_, rfl⟩
  rw [← hx]
  have eo : ∀ k2, k2 ≠ 4 → setB Bc 4 (E - L) x k2 = Bc k2 := fun k2 hk => by funext n; simp [setB, hk]
  have e4 : ∀ n, setB Bc 4 (E - L) x 4 n = if n = E - L then x else Bc 4 n := fun n => by simp [setB]
  rw [eo a ha, eo b hb, h.1 b hb hab]
  refine ⟨fun k2 h1 h2 => by rw [setP_ne _ _ h2, eo k2 h1, h.1 k2 h1 h2], fun n hn => ?_, fun n h1 h2 => ?_, fun n h1 h2 => ?_⟩
  · have e : tr24 (setP (setB Bc 4 (E - L) x) a (fun j => if E - L ≤ j then Bc a j + -x * B b (j - (E - L)) else Bc a j) 4) = ad (tr24 (Bc 4)) (mo (E - L) x) := by
      rw [setP_ne _ _ (fun q => ha q.symm)]
      funext k
      simp only [tr24, ad, mo]
      rw [e4 k]
      by_cases q : k = E - L
      · rw [if_pos (by omega), if_pos q, if_pos (by omega), if_pos q, h.2.2.2 k (by omega) (by omega)]; grind
      · rw [if_neg q, if_neg q]; grind
    rw [e, cv_addl, cv_mo, setP_eq, h.2.1 n hn]
    by_cases q : E - L ≤ n
    · rw [if_pos q, if_pos q]; grind
    · rw [if_neg q, if_neg q]; grind
  · rw [setP_eq]
    by_cases q : n = E - 1
    · rw [if_pos (by omega), q, show E - 1 - (E - L) = L - 1 from by omega, hx]; grind
    · rw [h.2.2.1 n (by omega) h2]
      rw [hd.2.1 (n - (E - L)) (by omega) (by omega)]
      split <;> grind
  · rw [setP_ne _ _ (fun q => ha q.symm), e4, if_neg (by omega)]
    exact h.2.2.2 n h1 (by omega)
/-- a division's outcome: A = q b + r, b's top at D -/
def DivR (A b : Sr) (D : Nat) (q r : Sr) : Prop := D < 24 ∧ b D ≠ 0 ∧ (∀ n, D < n → n < 24 → b n = 0) ∧ (∀ n, n < 24 → A n = cv q b n + r n) ∧ van D r ∧ van (24 - D) q
theorem div_end {B Bc : Nat → Sr} {a b L : Nat} (ha : a ≠ 4) (hL : 1 ≤ L) (hd : Deg (B b) L) (h : DivI B a b L (L - 1) Bc) :
    (∀ k n, n < 24 → Bc k n = setP (setP B a (tr24 (Bc a))) 4 (tr24 (Bc 4)) k n) ∧ DivR (B a) (B b) (L - 1) (tr24 (Bc 4)) (tr24 (Bc a)) := by
  have h1 := hd.1
  refine ⟨fun k n hn => ?_, by omega, ?_, fun n q1 q2 => hd.2.1 n (by omega) q2, fun n hn => ?_, fun n hn => ?_, fun n hn => ?_⟩
  · unfold setP tr24
    by_cases e : k = 4
    · rw [if_pos e, if_pos hn, e]
    · rw [if_neg e]
      by_cases e2 : k = a
      · rw [if_pos e2, if_pos hn, e2]
      · rw [if_neg e2, h.1 k e e2]
  · rcases hd.2.2 with q | q
    · omega
    · exact q
  · rw [h.2.1 n hn]
    congr 1
    unfold tr24
    rw [if_pos hn]
  · unfold tr24
    by_cases e : n < 24
    · rw [if_pos e]; exact h.2.2.1 n hn e
    · rw [if_neg e]
  · unfold tr24
    by_cases e : n < 24
    · rw [if_pos e]; exact h.2.2.2 n e (by omega)
    · rw [if_neg e]
theorem divR_full {A b q r : Sr} {D : Nat} (h : DivR A b D q r) (hA : van 24 A) (hb : van 24 b) : A = ad (cv q b) r ∧ van (D + 1) b ∧ fin q := by
  obtain ⟨h1, h2, h3, h4, h5, h6⟩ := h
  have hbv : van (D + 1) b := fun n hn => by
    by_cases e : n < 24
    · exact h3 n (by omega) e
    · exact hb n (by omega)
  refine ⟨?_, hbv, ⟨_, h6⟩⟩
  funext n
  by_cases e : n < 24
  · exact h4 n e
  · rw [hA n (by omega)]
    simp only [ad]
    rw [van_cv (K := 24) h6 hbv (by omega) n (by omega), h5 n (by omega)]
    rfl
/-! the greatest common factor -/
def CF (B : Nat → Sr) (i : Nat) (Bc : Nat → Sr) : Prop :=
  (∀ k, k = 0 ∨ k = 1 ∨ 5 ≤ k → Bc k = B k) ∧ van 24 (Bc 2) ∧ van 24 (Bc 3) ∧ van (24 - i) (Bc 3) ∧ Idl (B 0) (B 1) (Bc 2) ∧ Idl (B 0) (B 1) (Bc 3) ∧ Idl (Bc 2) (Bc 3) (B 0) ∧ Idl (Bc 2) (Bc 3) (B 1)
theorem cf_0 {B B1 B2 : Nat → Sr} (h0 : van 24 (B 0)) (h1 : van 24 (B 1)) (e1 : B1 = setP B 2 (B 0)) (e2 : B2 = setP B1 3 (B1 1)) : CF B 0 B2 := by
  have k2 : B2 2 = B 0 := by rw [e2, setP_ne _ _ (by decide), e1, setP_eq]
  have k3 : B2 3 = B 1 := by rw [e2, setP_eq, e1, setP_ne _ _ (by decide)]
  refine ⟨fun k hk => by rw [e2, setP_ne _ _ (by omega), e1, setP_ne _ _ (by omega)], ?_, ?_, ?_, ?_, ?_, ?_, ?_⟩
  · rw [k2]; exact h0
  · rw [k3]; exact h1
  · rw [k3]; exact h1
  · rw [k2]; exact idl_l _ _
  · rw [k3]; exact idl_r _ _
  · rw [k2, k3]; exact idl_l _ _
  · rw [k2, k3]; exact idl_r _ _
theorem cf_s {B Bc B1 B2 B3 B4 : Nat → Sr} {i D : Nat} {q r : Sr} (h : CF B i Bc) (hd : DivR (Bc 2) (Bc 3) D q r) (e1 : B1 = setP (setP Bc 2 r) 4 q) (e2 : B2 = setP B1 4 (B1 2)) (e3 : B3 = setP B2 2 (B2 3)) (e4 : B4 = setP B3 3 (B3 4)) : CF B (i + 1) B4 := by
  obtain ⟨g0, g1, g2, g3, g4, g5, g6, g7⟩ := h
  have k2 : B4 2 = Bc 3 := by rw [e4, setP_ne _ _ (by decide), e3, setP_eq, e2, setP_ne _ _ (by decide), e1, setP_ne _ _ (by decide), setP_ne _ _ (by decide)]
  have k3 : B4 3 = r := by rw [e4, setP_eq, e3, setP_ne _ _ (by decide), e2, setP_eq, e1, setP_ne _ _ (by decide), setP_eq]
  obtain ⟨f1, f2, f3⟩ := divR_full hd g1 g2
  obtain ⟨s1, s2, s3⟩ := idl_step f3 f1 g4 g5 g6 g7
  have hD : D < 24 - i := by
    by_cases e : D < 24 - i
    · exact e
    · exact absurd (g3 D (by omega)) hd.2.1
  refine ⟨fun k hk => by rw [e4, setP_ne _ _ (by omega), e3, setP_ne _ _ (by omega), e2, setP_ne _ _ (by omega), e1, setP_ne _ _ (by omega), setP_ne _ _ (by omega)]; exact g0 k hk, ?_, ?_, ?_, ?_, ?_, ?_, ?_⟩
  · rw [k2]; exact g2
  · rw [k3]; exact van_mono hd.2.2.2.2.1 (by omega)
  · rw [k3]; exact van_mono hd.2.2.2.2.1 (by omega)
  · rw [k2]; exact g5
  · rw [k3]; exact s1
  · rw [k2, k3]; exact s2
  · rw [k2, k3]; exact s3
theorem cf_end {B Bc : Nat → Sr} {i : Nat} (h : CF B i Bc) (hq : B 1 0 ≠ 0) (hz : Bc 3 = z0) : (∀ k, k = 0 ∨ k = 1 ∨ 5 ≤ k → Bc k = B k) ∧ van 24 (Bc 2) ∧ Bc 2 0 ≠ 0 ∧ Gcd (B 0) (B 1) (Bc 2) := by
  obtain ⟨g0, g1, g2, g3, g4, g5, g6, g7⟩ := h
  rw [hz] at g6 g7
  obtain ⟨a, b⟩ := idl_end hq g4 g6 g7
  exact ⟨g0, g1, a, b⟩
theorem deg_z {p : Sr} {L : Nat} (h : Deg p L) (hv : van 24 p) (hL : L = 0) : p = z0 := by
  funext n
  by_cases e : n < 24
  · exact h.2.1 n (by omega) e
  · exact hv n (by omega)
/-- a quotient in lowest terms -/
def Red (p q a : Sr) (M : Nat) : Prop := q 0 = 1 ∧ cv q a = p ∧ van M p ∧ van (M + 1) q ∧ Bez p q
theorem red_of {P Q g x z a t t' r r' : Sr} {M D D' : Nat} {y : Fp} (hP : van M P) (hQ : van (M + 1) Q) (hM : M < 24) (ha : cv Q a = P) (hg : van 24 g) (hg0 : g 0 ≠ 0) (hQ0 : Q 0 ≠ 0) (hG : Gcd P Q g) (h1 : DivR P g D t r) (h2 : DivR Q g D' t' r') (hy : t' 0 ≠ 0 → t' 0 * y = 1) : t' 0 ≠ 0 ∧ Red (sc y t) (sc y t') a M := by
  obtain ⟨x, z, hx, hz, eP, eQ, hb⟩ := hG
  obtain ⟨f1, f2, f3⟩ := divR_full h1 (van_mono hP (by omega)) hg
  obtain ⟨f4, f5, f6⟩ := divR_full h2 (van_mono hQ (by omega)) hg
  obtain ⟨rfl, -⟩ := div_exact h1.2.1 f2 hx f3 eP h1.2.2.2.2.1 f1
  obtain ⟨rfl, -⟩ := div_exact h2.2.1 f5 hz f6 eQ h2.2.2.2.2.1 f4
  have hz0 : t' 0 ≠ 0 := by
    intro h
    rw [eQ, cv_0, h] at hQ0
    exact hQ0 (by grind)
  have hy := hy hz0
  refine ⟨hz0, ?_, ?_, ?_, ?_, bez_sc hy hb⟩
  · simp only [sc]; grind
  · rw [cvf_scl]
    congr 1
    refine cv_can hg0 ?_
    rw [cvf_assoc, cvf_comm a g, ← cvf_assoc, ← eQ, ha, eP]
  · exact van_sc _ (van_factor h1.2.1 f2 f3 (by rw [← eP]; exact hP))
  · exact van_sc _ (van_factor h2.2.1 f5 f6 (by rw [← eQ]; exact hQ))
def OrdOf (p q : Sr) (L : Nat) : Prop := L ≤ 24 ∧ (∀ n, L ≤ n → n < 24 → p n = 0) ∧ (∀ n, L < n → n < 24 → q n = 0) ∧ (L = 0 ∨ p (L - 1) ≠ 0 ∨ q L ≠ 0)
theorem ordOf_1 {p q : Sr} {Lp Lq : Nat} (hp : Deg p Lp) (hq : Deg q Lq) (h : (Lq : Int) - 1 < (Lp : Int)) : OrdOf p q Lp := by
  refine ⟨hp.1, hp.2.1, fun n h1 h2 => hq.2.1 n (by omega) h2, ?_⟩
  rcases hp.2.2 with e | e
  · exact Or.inl e
  · exact Or.inr (Or.inl e)
theorem ordOf_2 {p q : Sr} {Lp Lq : Nat} (hp : Deg p Lp) (hq : Deg q Lq) (h : (Lp : Int) ≤ (Lq : Int) - 1) : OrdOf p q (Lq - 1) := by
  have h1 := hq.1
  refine ⟨by omega, fun n h1 h2 => hp.2.1 n (by omega) h2, fun n h1 h2 => hq.2.1 n (by omega) h2, ?_⟩
  rcases hq.2.2 with e | e
  · omega
  · exact Or.inr (Or.inr e)
theorem ordOf_red {p q a : Sr} {M L : Nat} (hM : M < 24) (h : Red p q a M) (ho : OrdOf p q L) : L ≤ M ∧ Seq p q a L := by
  obtain ⟨h0, h1, h2, h3, h4⟩ := h
  obtain ⟨o0, o1, o2, o3⟩ := ho
  have hL : L ≤ M := by
    by_cases e : L ≤ M
    · exact e
    · rcases o3 with o | o | o
      · omega
      · exact absurd (h2 _ (by omega)) o
      · exact absurd (h3 _ (by omega)) o
  refine ⟨hL, h0, h1, fun n hn => ?_, fun n hn => ?_, h4, o3⟩
  · by_cases e : n < 24
    · exact o1 n hn e
    · exact h2 n (by omega)
  · by_cases e : n < 24
    · exact o2 n (by omega) e
    · exact h3 n (by omega)
theorem seq_ordOf {p q a : Sr} {L L' : Nat} (h : Seq p q a L) (hL : L ≤ 8) (ho : OrdOf p q L') : L' = L := by
  obtain ⟨h0, h1, h2, h3, h4, h5⟩ := h
  obtain ⟨o0, o1, o2, o3⟩ := ho
  have a1 : L' ≤ L := by
    by_cases e : L' ≤ L
    · exact e
    · rcases o3 with o | o | o
      · omega
      · exact absurd (h2 _ (by omega)) o
      · exact absurd (h3 _ (by omega)) o
  have a2 : L ≤ L' := by
    by_cases e : L ≤ L'
    · exact e
    · rcases h5 with o | o | o
      · omega
      · exact absurd (o1 _ (by omega) (by omega)) o
      · exact absurd (o2 _ (by omega) (by omega)) o
  omega
end
section
/-! the engine's calls, as laws of sequences -/
def upA {α : Type} (f : Nat → α) (k : Nat) (v : α) : Nat → α := fun j => if j = k then v else f j
theorem upA_eq {α : Type} (f : Nat → α) (k : Nat) (v : α) : upA f k v k = v := if_pos rfl
theorem upA_ne {α : Type} (f : Nat → α) {k j : Nat} (v : α) (h : j ≠ k) : upA f k v j = f j := if_neg h
def GInv (B : Nat → Sr) (a : Nat → Sr) (Ls : Nat → Nat) : Prop := ∀ s, s < 4 → Seq (B (5 + 2 * s)) (B (6 + 2 * s)) (a s) (Ls s) ∧ Ls s ≤ 8
def Kept (B : Nat → Sr) (a : Nat → Sr) (Ls : Nat → Nat) (to : Nat) (an : Sr) (r : Int32) : Prop :=
  ∃ L : Nat, L ≤ 16 ∧ Ord an L ∧ ((L ≤ 8 ∧ r = iI (L : Int) ∧ GInv B (upA a to an) (upA Ls to L)) ∨ (8 < L ∧ r = iI (-3) ∧ GInv B a Ls))
theorem ginv_same {B B1 : Nat → Sr} {a : Nat → Sr} {Ls : Nat → Nat} (hG : GInv B a Ls) (h5 : ∀ k, 5 ≤ k → B1 k = B k) : GInv B1 a Ls := by
  intro s hs
  rw [h5 _ (by omega), h5 _ (by omega)]
  exact hG s hs
theorem ginv_set {B B1 : Nat → Sr} {a : Nat → Sr} {Ls : Nat → Nat} {to L : Nat} {an : Sr} (hG : GInv B a Ls) (hL : L ≤ 8) (hS : Seq (B1 (5 + 2 * to)) (B1 (6 + 2 * to)) an L) (h5 : ∀ k, 5 ≤ k → k ≠ 5 + 2 * to → k ≠ 6 + 2 * to → B1 k = B k) : GInv B1 (upA a to an) (upA Ls to L) := by
  intro s hs
  by_cases e : s = to
  · subst e
    rw [upA_eq, upA_eq]
    exact ⟨hS, hL⟩
  · rw [upA_ne _ _ e, upA_ne _ _ e, h5 _ (by omega) (by omega) (by omega), h5 _ (by omega) (by omega) (by omega)]
    exact hG s hs
theorem kept_of {B B1 B2 : Nat → Sr} {a : Nat → Sr} {Ls : Nat → Nat} {to M L : Nat} {an : Sr} {r : Int32} (hG : GInv B a Ls) (hM : M ≤ 16) (h5 : ∀ k, 5 ≤ k → B1 k = B k) (hL : L ≤ M)
    (h : (L ≤ 8 ∧ r = iI (L : Int) ∧ Seq (B2 (5 + 2 * to)) (B2 (6 + 2 * to)) an L ∧ ∀ k, 5 ≤ k → k ≠ 5 + 2 * to → k ≠ 6 + 2 * to → B2 k = B1 k) ∨ (8 < L ∧ r = iI (-3) ∧ Ord an L ∧ ∀ k, 5 ≤ k → B2 k = B1 k)) : Kept B2 a Ls to an r := by
  rcases h with ⟨h1, h2, h3, h4⟩ | ⟨h1, h2, h3, h4⟩
  · exact ⟨L, by omega, seq_ord h3, Or.inl ⟨h1, h2, ginv_set hG h1 h3 (fun k q1 q2 q3 => by rw [h4 k q1 q2 q3, h5 k q1])⟩⟩
  · exact ⟨L, by omega, h3, Or.inr ⟨h1, h2, ginv_same hG (fun k q => by rw [h4 k q, h5 k q])⟩⟩
/-- what keep asks of the quotient at work -/
def Rdy (B Bk : Nat → Sr) (an : Sr) (M : Nat) : Prop := (∀ k, 5 ≤ k → Bk k = B k) ∧ van M (Bk 0) ∧ van (M + 1) (Bk 1) ∧ Bk 1 0 ≠ 0 ∧ cv (Bk 1) an = Bk 0
theorem fp_10 : (1 : Fp) ≠ 0 := by decide
theorem toF_1 : toF 1 = 1 := by decide
theorem rdy_load {B B1 : Nat → Sr} {a : Sr} {s L : Nat} (h : Seq (B (5 + 2 * s)) (B (6 + 2 * s)) a L) (hL : L ≤ 8) (e1 : B1 = setP (setP B 0 (B (5 + 2 * s))) 1 (B (6 + 2 * s))) : B1 0 = B (5 + 2 * s) ∧ B1 1 = B (6 + 2 * s) ∧ Rdy B B1 a 8 := by
  have k0 : B1 0 = B (5 + 2 * s) := by rw [e1, setP_ne _ _ (by decide), setP_eq]
  have k1 : B1 1 = B (6 + 2 * s) := by rw [e1, setP_eq]
  refine ⟨k0, k1, fun k hk => by rw [e1, setP_ne _ _ (by omega), setP_ne _ _ (by omega)], ?_, ?_, ?_, ?_⟩
  · rw [k0]; exact van_mono h.2.2.1 hL
  · rw [k1]; exact van_mono h.2.2.2.1 (by omega)
  · rw [k1, h.1]; exact fp_10
  · rw [k0, k1]; exact h.2.1
theorem rdy_add {B B1 B2 B3 B4 : Nat → Sr} {a1 a2 : Sr} {s t L1 L2 : Nat} (h1 : Seq (B (5 + 2 * s)) (B (6 + 2 * s)) a1 L1) (h2 : Seq (B (5 + 2 * t)) (B (6 + 2 * t)) a2 L2) (hL1 : L1 ≤ 8) (hL2 : L2 ≤ 8)
    (e1 : B1 = setP (setP B 4 (tr24 (cv (B (5 + 2 * s)) (B (6 + 2 * t))))) 0 (tr24 (cv (B (5 + 2 * s)) (B (6 + 2 * t)))))
    (e2 : B2 = setP (setP B1 4 (tr24 (cv (B1 (5 + 2 * t)) (B1 (6 + 2 * s))))) 2 (tr24 (cv (B1 (5 + 2 * t)) (B1 (6 + 2 * s)))))
    (e3 : B3 = setP B2 0 (fun j => if 0 ≤ j then B2 0 j + toF 1 * B2 2 (j - 0) else B2 0 j))
    (e4 : B4 = setP (setP B3 4 (tr24 (cv (B3 (6 + 2 * s)) (B3 (6 + 2 * t))))) 1 (tr24 (cv (B3 (6 + 2 * s)) (B3 (6 + 2 * t))))) : Rdy B B4 (ad a1 a2) 16 := by
  have f1 : ∀ k, 5 ≤ k → B1 k = B k := fun k hk => by rw [e1, setP_ne _ _ (by omega), setP_ne _ _ (by omega)]
  rw [f1 _ (by omega), f1 _ (by omega)] at e2
  have f2 : ∀ k, 5 ≤ k → B2 k = B k := fun k hk => by rw [e2, setP_ne _ _ (by omega), setP_ne _ _ (by omega), f1 k hk]
  have f3 : ∀ k, 5 ≤ k → B3 k = B k := fun k hk => by rw [e3, setP_ne _ _ (by omega), f2 k hk]
  rw [f3 _ (by omega), f3 _ (by omega)] at e4
  have v1 : van 16 (cv (B (5 + 2 * s)) (B (6 + 2 * t))) := van_cv h1.2.2.1 h2.2.2.2.1 (by omega)
  have v2 : van 16 (cv (B (5 + 2 * t)) (B (6 + 2 * s))) := van_cv h2.2.2.1 h1.2.2.2.1 (by omega)
  have v4 : van 17 (cv (B (6 + 2 * s)) (B (6 + 2 * t))) := van_cv h1.2.2.2.1 h2.2.2.2.1 (by omega)
  rw [tr24_id (van_mono v1 (by omega))] at e1
  rw [tr24_id (van_mono v2 (by omega))] at e2
  rw [tr24_id (van_mono v4 (by omega))] at e4
  have k0 : B4 0 = ad (cv (B (5 + 2 * s)) (B (6 + 2 * t))) (cv (B (5 + 2 * t)) (B (6 + 2 * s))) := by
    rw [e4, setP_ne _ _ (by decide), setP_ne _ _ (by decide), e3, setP_eq]
    have q0 : B2 0 = cv (B (5 + 2 * s)) (B (6 + 2 * t)) := by rw [e2, setP_ne _ _ (by decide), setP_ne _ _ (by decide), e1, setP_eq]
    have q2 : B2 2 = cv (B (5 + 2 * t)) (B (6 + 2 * s)) := by rw [e2, setP_eq]
    funext j
    rw [if_pos (Nat.zero_le _), toF_1, q0, q2]
    simp only [ad, Nat.sub_zero]
    grind
  have k1 : B4 1 = cv (B (6 + 2 * s)) (B (6 + 2 * t)) := by rw [e4, setP_eq]
  refine ⟨fun k hk => by rw [e4, setP_ne _ _ (by omega), setP_ne _ _ (by omega), f3 k hk], ?_, ?_, ?_, ?_⟩
  · rw [k0]; exact van_ad v1 v2
  · rw [k1]; exact v4
  · rw [k1, cv_0, h1.1, h2.1]; decide
  · rw [k0, k1]; exact op_add h1.2.1 h2.2.1
theorem rdy_scale {B B1 B2 : Nat → Sr} {a : Sr} {x : Fp} (h : Rdy B B1 a 8) (e2 : B2 = setP B1 0 (sc x (B1 0))) : Rdy B B2 (sc x a) 8 := by
  obtain ⟨h5, h0, h1, h2, h3⟩ := h
  have k0 : B2 0 = sc x (B1 0) := by rw [e2, setP_eq]
  have k1 : B2 1 = B1 1 := by rw [e2, setP_ne _ _ (by decide)]
  refine ⟨fun k hk => by rw [e2, setP_ne _ _ (by omega), h5 k hk], ?_, ?_, ?_, ?_⟩
  · rw [k0]; exact van_sc _ h0
  · rw [k1]; exact h1
  · rw [k1]; exact h2
  · rw [k0, k1, cvf_scr, h3]
theorem rdy_adv {B B1 B2 B3 : Nat → Sr} {a : Sr} {x : Fp} (h : Rdy B B1 a 8) (hq : B1 1 0 = 1) (hx : x = B1 0 0) (e2 : B2 = setP B1 0 (fun j => if 0 ≤ j then B1 0 j + toF (101 - (x.val : Int)) * B1 1 (j - 0) else B1 0 j)) (e3 : B3 = setP B2 0 (fun n => if n < 23 then B2 0 (n + 1) else 0)) : Rdy B B3 (tl a) 8 := by
  obtain ⟨h5, h0, h1, h2, h3⟩ := h
  obtain ⟨o1, o2⟩ := op_adv hq h3
  have k1 : B3 1 = B1 1 := by rw [e3, setP_ne _ _ (by decide), e2, setP_ne _ _ (by decide)]
  have k0 : B3 0 = cv (B1 1) (tl a) := by
    rw [e3, setP_eq, e2, setP_eq]
    funext n
    rw [o2 n]
    by_cases e : n < 23
    · rw [if_pos e, if_pos (Nat.zero_le _), toF_sub, toF_101, toF_of, hx, o1, Nat.sub_zero]; grind
    · rw [if_neg e, h0 _ (by omega), h1 _ (by omega)]; grind
  refine ⟨fun k hk => by rw [e3, setP_ne _ _ (by omega), e2, setP_ne _ _ (by omega), h5 k hk], ?_, ?_, ?_, ?_⟩
  · rw [k0]
    intro n hn
    rw [o2 n, h0 _ (by omega), h1 _ (by omega)]; grind
  · rw [k1]; exact h1
  · rw [k1]; exact h2
  · rw [k0, k1]
theorem rdy_pre {B B1 B2 B3 B4 B5 : Nat → Sr} {a : Sr} {x : Fp} (h : Rdy B B1 a 8) (e2 : B2 = setP B1 2 (B1 0)) (e3 : B3 = setP B2 0 z0) (e4 : B4 = setP B3 0 (fun j => if 1 ≤ j then B3 0 j + toF 1 * B3 2 (j - 1) else B3 0 j)) (e5 : B5 = setP B4 0 (fun j => if 0 ≤ j then B4 0 j + toF (x.val : Int) * B4 1 (j - 0) else B4 0 j)) : Rdy B B5 (pre1 x a) 9 := by
  obtain ⟨h5, h0, h1, h2, h3⟩ := h
  have k1 : B5 1 = B1 1 := by rw [e5, setP_ne _ _ (by decide), e4, setP_ne _ _ (by decide), e3, setP_ne _ _ (by decide), e2, setP_ne _ _ (by decide)]
  have q1 : B4 1 = B1 1 := by rw [e4, setP_ne _ _ (by decide), e3, setP_ne _ _ (by decide), e2, setP_ne _ _ (by decide)]
  have q2 : B3 2 = B1 0 := by rw [e3, setP_ne _ _ (by decide), e2, setP_eq]
  have q3 : B3 0 = z0 := by rw [e3, setP_eq]
  have k0 : B5 0 = cv (B1 1) (pre1 x a) := by
    rw [e5, setP_eq]
    funext n
    rw [op_pre x h3 n, if_pos (Nat.zero_le _), q1, e4, setP_eq, q2, q3, toF_of, toF_1, Nat.sub_zero]
    by_cases e : n = 0
    · subst e; simp [z0]
    · rw [if_pos (by omega), if_neg e]; simp only [z0]; grind
  refine ⟨fun k hk => by rw [e5, setP_ne _ _ (by omega), e4, setP_ne _ _ (by omega), e3, setP_ne _ _ (by omega), e2, setP_ne _ _ (by omega), h5 k hk], ?_, ?_, ?_, ?_⟩
  · rw [k0]
    intro n hn
    rw [op_pre x h3 n, if_neg (by omega), h0 _ (by omega), h1 _ (by omega)]; grind
  · rw [k1]; exact van_mono h1 (by omega)
  · rw [k1]; exact h2
  · rw [k0, k1]
theorem rdy_acc {B B1 B2 B3 : Nat → Sr} {a : Sr} (h : Rdy B B1 a 8) (e2 : B2 = setP B1 3 stp) (e3 : B3 = setP (setP B2 4 (tr24 (cv (B2 1) (B2 3)))) 1 (tr24 (cv (B2 1) (B2 3)))) : Rdy B B3 (acc a) 9 := by
  obtain ⟨h5, h0, h1, h2, h3⟩ := h
  have q1 : B2 1 = B1 1 := by rw [e2, setP_ne _ _ (by decide)]
  have q3 : B2 3 = stp := by rw [e2, setP_eq]
  have v : van 10 (cv (B1 1) stp) := van_cv h1 van_stp (by omega)
  rw [q1, q3, tr24_id (van_mono v (by omega))] at e3
  have k1 : B3 1 = cv (B1 1) stp := by rw [e3, setP_eq]
  have k0 : B3 0 = B1 0 := by rw [e3, setP_ne _ _ (by decide), setP_ne _ _ (by decide), e2, setP_ne _ _ (by decide)]
  refine ⟨fun k hk => by rw [e3, setP_ne _ _ (by omega), setP_ne _ _ (by omega), e2, setP_ne _ _ (by omega), h5 k hk], ?_, ?_, ?_, ?_⟩
  · rw [k0]; exact van_mono h0 (by omega)
  · rw [k1]; exact v
  · rw [k1, cv_0]
    intro q
    rcases fp_nz q with q | q
    · exact h2 q
    · exact absurd q (by decide)
  · rw [k0, k1]; exact op_acc h3
theorem rdy_dif {B B1 B2 B3 : Nat → Sr} {a : Sr} (h : Rdy B B1 a 8) (e2 : B2 = setP B1 3 stp) (e3 : B3 = setP (setP B2 4 (tr24 (cv (B2 0) (B2 3)))) 0 (tr24 (cv (B2 0) (B2 3)))) : Rdy B B3 (cv stp a) 9 := by
  obtain ⟨h5, h0, h1, h2, h3⟩ := h
  have q1 : B2 0 = B1 0 := by rw [e2, setP_ne _ _ (by decide)]
  have q3 : B2 3 = stp := by rw [e2, setP_eq]
  have v : van 9 (cv (B1 0) stp) := van_cv h0 van_stp (by omega)
  rw [q1, q3, tr24_id (van_mono v (by omega))] at e3
  have k0 : B3 0 = cv (B1 0) stp := by rw [e3, setP_eq]
  have k1 : B3 1 = B1 1 := by rw [e3, setP_ne _ _ (by decide), setP_ne _ _ (by decide), e2, setP_ne _ _ (by decide)]
  refine ⟨fun k hk => by rw [e3, setP_ne _ _ (by omega), setP_ne _ _ (by omega), e2, setP_ne _ _ (by omega), h5 k hk], ?_, ?_, ?_, ?_⟩
  · rw [k0]; exact v
  · rw [k1]; exact van_mono h1 (by omega)
  · rw [k1]; exact h2
  · rw [k0, k1]; exact op_dif h3
theorem rdy_mono {B Bk : Nat → Sr} {an : Sr} {M M' : Nat} (h : Rdy B Bk an M) (hM : M ≤ M') : Rdy B Bk an M' := ⟨h.1, van_mono h.2.1 hM, van_mono h.2.2.1 (by omega), h.2.2.2.1, h.2.2.2.2⟩
/-! a sequence from its recurrence -/
def dgq (x : Int) : Nat → Int
  | 0 => x
  | i + 1 => dgq x i / 101
def dg (x : Int) (i : Nat) : Fp := toF (dgq x i)
theorem dgq_s (x : Int) (i : Nat) : dgq x (i + 1) = dgq x i / 101 := rfl
theorem dgq_bd {x : Int} (h : 0 ≤ x ∧ x < 2147483648) (i : Nat) : 0 ≤ dgq x i ∧ dgq x i < 2147483648 := by
  induction i with
  | zero => exact h
  | succ i ih => rw [dgq_s]; omega
def DefS (k : Nat) (c b : Int) (an : Sr) : Prop := (∀ n, n < k → an n = dg b n) ∧ ∀ n, k ≤ n → an n = su (fun i => dg c i * an (n - 1 - i)) k
def dfQ (k : Nat) (c : Int) : Sr := fun n => if n = 0 then 1 else if n ≤ k then -dg c (n - 1) else 0
def dfU (k : Nat) (b : Int) : Sr := fun n => if n < k then dg b n else 0
theorem def_seq (k : Nat) (c b : Int) : ∃ an, cv (dfQ k c) an = tru k (cv (dfU k b) (dfQ k c)) ∧ DefS k c b an := by
  have h0 : dfQ k c 0 = 1 := by simp [dfQ]
  refine ⟨dv (tru k (cv (dfU k b) (dfQ k c))) (dfQ k c), dv_ok h0, ?_⟩
  obtain ⟨an, han⟩ : ∃ an, an = dv (tru k (cv (dfU k b) (dfQ k c))) (dfQ k c) := ⟨_, rfl⟩
  have hc : cv (dfQ k c) an = tru k (cv (dfU k b) (dfQ k c)) := by rw [han]; exact dv_ok h0
  rw [← han]
  have lo : ∀ N n, n < N → n < k → an n = dfU k b n := by
    intro N
    induction N with
    | zero => intro n hn; exact absurd hn (by omega)
    | succ N ih =>
      intro n hn hk
      have h1 : cv (dfQ k c) (sb an (dfU k b)) n = 0 := by
        rw [cvf_sbr, hc, cvf_comm (dfQ k c) (dfU k b)]
        simp only [sb, tru]
        rw [if_pos hk]
        grind
      rw [cv_low (fun j hj => by simp only [sb]; rw [ih j (by omega) (by omega)]; grind), h0] at h1
      simp only [sb] at h1
      grind
  refine ⟨fun n hn => ?_, fun n hn => ?_⟩
  · rw [lo (n + 1) n (by omega) hn]
    simp only [dfU]
    rw [if_pos hn]
  · have h1 : cv (dfQ k c) an n = 0 := by rw [hc]; simp only [tru]; rw [if_neg (by omega)]
    rw [cv_su, su_front, h0] at h1
    have e : su (tl (fun i => dfQ k c i * an (n - i))) n = -su (fun i => dg c i * an (n - 1 - i)) k := by
      obtain ⟨m, rfl⟩ : ∃ m, n = k + m := ⟨n - k, by omega⟩
      rw [su_split, su_nul (n := m) (fun j _ => by simp only [tl, dfQ]; rw [if_neg (by omega), if_neg (by omega)]; grind)]
      rw [show -su (fun i => dg c i * an (k + m - 1 - i)) k = (-1) * su (fun i => dg c i * an (k + m - 1 - i)) k from by grind, ← su_mul]
      rw [su_congr (f := tl (fun i => dfQ k c i * an (k + m - i))) (g := fun i => -1 * (dg c i * an (k + m - 1 - i))) (n := k) (fun i hi => by
        simp only [tl, dfQ]
        rw [if_neg (by omega), if_pos (by omega), show i + 1 - 1 = i from by omega, show k + m - (i + 1) = k + m - 1 - i from by omega]
        grind)]
      grind
    rw [e, Nat.sub_zero] at h1
    grind
theorem van_dfQ (k : Nat) (c : Int) : van (k + 1) (dfQ k c) := fun n hn => by simp only [dfQ]; rw [if_neg (by omega), if_neg (by omega)]
theorem van_dfU (k : Nat) (c : Int) : van k (dfU k c) := fun n hn => by simp only [dfU]; rw [if_neg (by omega)]
end
section
/-! masks, shifts, constants -/
set_option maxRecDepth 100000
section RX
variable {p : Program} {l : Launch} {e : Env} {R : Room} {s : State} {m : MethodId} {args : Array Value} {below : List Frame} {meth : Method} {c : Code} {H : Heap} {locs : List Loc} {cells slots : Nat} {Q : State → Prop} {cc : ByteArray} {pc : Nat} {ls : Array Slot} {rest : List Value}
theorem x_iand (hx : p.tables.exec = Jvm.exec) (hb : c.code = cc) {a mk : Int} (n k : Nat) (hm : (iI mk).toBitVec.toNat = 2 ^ k - 1) (ha : a = (n : Int) ∧ n < 2147483648) (hd : decode cc pc = .ok (.iand, 1)) (kk : W p l e R s m args below meth c H locs cells slots Q (F0 m (pc + 1) ls (.int (iI ((n % 2 ^ k : Nat) : Int)) :: rest))) : W p l e R s m args below meth c H locs cells slots Q (F0 m pc ls (.int (iI mk) :: .int (iI a) :: rest)) := by
  refine lv_iand hx hb hd ?_
  rw [ha.1, iI_nI, pk_andN (by omega) k hm, ← iI_nI]
  exact kk
theorem x_ishr1 (hx : p.tables.exec = Jvm.exec) (hb : c.code = cc) {a : Int} (n : Nat) (ha : a = (n : Int) ∧ n < 2147483648) (hd : decode cc pc = .ok (.ishr, 1)) (kk : W p l e R s m args below meth c H locs cells slots Q (F0 m (pc + 1) ls (.int (iI ((n / 2 : Nat) : Int)) :: rest))) : W p l e R s m args below meth c H locs cells slots Q (F0 m pc ls (.int (iI 1) :: .int (iI a) :: rest)) := by
  refine lv_ishr hx hb hd ?_
  rw [ha.1, iI_nI, pk_shrN (by omega) (iI 1 &&& 31) 1 (by decide), ← iI_nI]
  exact kk
theorem m31 (z : Int) (h : -2147483648 ≤ z ∧ z < 2147483648) : iI z &&& iI 2147483647 = iI (z % 2147483648) := by
  rw [pk_and (iI z) 31 (by decide), ← iI_nI]
  congr 1
  have h1 : ((iI z).toBitVec.toNat : Int) = z % 4294967296 := by
    have h2 : (iI z).toBitVec.toInt = z := iI_toInt h.1 h.2
    have h3 := BitVec.toInt_eq_toNat_cond (iI z).toBitVec
    have h4 := (iI z).toBitVec.isLt
    rw [h2] at h3
    split at h3 <;> omega
  omega
theorem x_iand31 (hx : p.tables.exec = Jvm.exec) (hb : c.code = cc) {a : Int} (ha : -2147483648 ≤ a ∧ a < 2147483648) (hd : decode cc pc = .ok (.iand, 1)) (kk : W p l e R s m args below meth c H locs cells slots Q (F0 m (pc + 1) ls (.int (iI (a % 2147483648)) :: rest))) : W p l e R s m args below meth c H locs cells slots Q (F0 m pc ls (.int (iI 2147483647) :: .int (iI a) :: rest)) := by
  refine lv_iand hx hb hd ?_
  rw [m31 a ha]
  exact kk
theorem x_ldc (hx : p.tables.exec = Jvm.exec) (hb : c.code = cc) {own : String} {index : Nat} {v : Int32} {z : Int} (hown : s.vm.findClass own = some m.cls) (hc : (Jvm.Cond.constant own index v).before args s = true) (hv : v = iI z) (hd : decode cc pc = .ok (.ldc index, 2)) (kk : W p l e R s m args below meth c H locs cells slots Q (F0 m (pc + 2) ls (.int (iI z) :: rest))) : W p l e R s m args below meth c H locs cells slots Q (F0 m pc ls rest) := lv_ldc hx hb hown hc hd (by rw [hv]; exact kk)
end RX
end
section
/-! pure laws: define, far terms, sums, equality, search -/
def DfI (B : Nat → Sr) (c b : Int) (j : Nat) (Bc : Nat → Sr) : Prop := (∀ k2, k2 ≠ 1 → k2 ≠ 2 → Bc k2 = B k2) ∧ (∀ n, n < 24 → Bc 1 n = dfQ j c n) ∧ (∀ n, n < 24 → Bc 2 n = dfU j b n)
theorem df_0 {B B1 B2 B3 : Nat → Sr} {c b : Int} (e1 : B1 = setP B 1 z0) (e2 : B2 = setP B1 2 z0) (e3 : B3 = setB B2 1 0 1) : DfI B c b 0 B3 := by
  refine ⟨fun k h1 h2 => ?_, fun n hn => ?_, fun n hn => ?_⟩
  · funext n
    rw [e3, e2, e1]
    simp [setB, setP, h1, h2]
  · rw [e3, e2, e1]
    simp only [setB, setP, dfQ, z0]
    by_cases h : n = 0
    · simp [h]
    · simp [h]
  · rw [e3, e2, e1]
    simp [setB, setP, dfU, z0]
theorem df_s {B Bc B4 B5 : Nat → Sr} {c b : Int} {j : Nat} (h : DfI B c b j Bc) (e4 : B4 = setB Bc 1 (j + 1) (-dg c j)) (e5 : B5 = setB B4 2 j (dg b j)) : DfI B c b (j + 1) B5 := by
  obtain ⟨h1, h2, h3⟩ := h
  refine ⟨fun k q1 q2 => ?_, fun n hn => ?_, fun n hn => ?_⟩
  · funext n
    rw [e5, e4]
    simp only [setB]
    rw [if_neg (by omega), if_neg (by omega), h1 k q1 q2]
  · rw [e5, e4]
    simp only [setB]
    rw [if_neg (by omega)]
    by_cases e : n = j + 1
    · rw [if_pos ⟨trivial, e⟩, e]
      simp only [dfQ]
      rw [if_neg (by omega), if_pos (by omega), show j + 1 - 1 = j from by omega]
    · rw [if_neg (by omega), h2 n hn]
      simp only [dfQ]
      by_cases e0 : n = 0
      · rw [if_pos e0, if_pos e0]
      · rw [if_neg e0, if_neg e0]
        by_cases e2 : n ≤ j
        · rw [if_pos e2, if_pos (by omega)]
        · rw [if_neg e2, if_neg (by omega)]
  · rw [e5, e4]
    simp only [setB]
    by_cases e : n = j
    · rw [if_pos ⟨trivial, e⟩, e]
      simp only [dfU]
      rw [if_pos (by omega)]
    · rw [if_neg (by omega), if_neg (by omega), h3 n hn]
      simp only [dfU]
      by_cases e2 : n < j
      · rw [if_pos e2, if_pos (by omega)]
      · rw [if_neg e2, if_neg (by omega)]
theorem df_end {B Bc : Nat → Sr} {c b : Int} {j : Nat} (h : DfI B c b j Bc) : ∀ k n, n < 24 → Bc k n = setP (setP B 1 (dfQ j c)) 2 (dfU j b) k n := by
  obtain ⟨h1, h2, h3⟩ := h
  intro k n hn
  simp only [setP]
  by_cases e2 : k = 2
  · rw [if_pos e2, e2, h3 n hn]
  · rw [if_neg e2]
    by_cases e1 : k = 1
    · rw [if_pos e1, e1, h2 n hn]
    · rw [if_neg e1, h1 k e1 e2]
theorem rdy_def {B B6 B7 B9 : Nat → Sr} {c b : Int} {k : Nat} {an : Sr} (hk : k ≤ 4) (e6 : B6 = setP (setP B 1 (dfQ k c)) 2 (dfU k b)) (e7 : B7 = setP (setP B6 4 (tr24 (cv (B6 2) (B6 1)))) 0 (tr24 (cv (B6 2) (B6 1)))) (e9 : B9 = setP B7 0 (fun j => if k ≤ j then z0 j else B7 0 j)) (ha : cv (dfQ k c) an = tru k (cv (dfU k b) (dfQ k c))) : Rdy B B9 an k := by
  have q2 : B6 2 = dfU k b := by rw [e6, setP_eq]
  have q1 : B6 1 = dfQ k c := by rw [e6, setP_ne _ _ (by decide), setP_eq]
  rw [q1, q2] at e7
  have k1 : B9 1 = dfQ k c := by rw [e9, setP_ne _ _ (by decide), e7, setP_ne _ _ (by decide), setP_ne _ _ (by decide), q1]
  have k0 : B9 0 = tru k (cv (dfU k b) (dfQ k c)) := by
    rw [e9, setP_eq, e7, setP_eq]
    funext j
    simp only [tru, tr24, z0]
    by_cases e : k ≤ j
    · rw [if_pos e, if_neg (by omega)]
    · rw [if_neg e, if_pos (by omega), if_pos (by omega)]
  refine ⟨fun j hj => by rw [e9, setP_ne _ _ (by omega), e7, setP_ne _ _ (by omega), setP_ne _ _ (by omega), e6, setP_ne _ _ (by omega), setP_ne _ _ (by omega)], ?_, ?_, ?_, ?_⟩
  · rw [k0]; exact fun n hn => by simp only [tru]; rw [if_neg (by omega)]
  · rw [k1]; exact van_dfQ k c
  · rw [k1]; show (if 0 = 0 then (1 : Fp) else _) ≠ 0; rw [if_pos rfl]; decide
  · rw [k0, k1]; exact ha
theorem mir_n {f : Sr} {i : Nat} (h : ¬ ((i % 2 ^ 1 : Nat) : Int) = 1) : f i = mir f i := by
  simp only [mir]
  rw [if_neg (by omega)]
theorem mir_y {f : Sr} {i : Nat} (h : ((i % 2 ^ 1 : Nat) : Int) = 1) : -f i = mir f i := by
  simp only [mir]
  rw [if_pos (by omega)]
def hlf (o : Nat) (f : Sr) : Sr := fun n => if 2 * n + o < 24 then f (2 * n + o) else 0
theorem far_walk {Bc B1 B2 B3 B4 B5 : Nat → Sr} {ac : Sr} {lf : Nat} {v : Fp} (h : FarI (Bc 0) (Bc 1) ac lf v) (e1 : B1 = setP Bc 2 (mir (Bc 1))) (e2 : B2 = setP (setP B1 4 (tr24 (cv (B1 0) (B1 2)))) 0 (tr24 (cv (B1 0) (B1 2)))) (e3 : B3 = setP (setP B2 4 (tr24 (cv (B2 1) (B2 2)))) 1 (tr24 (cv (B2 1) (B2 2)))) (e4 : B4 = setP B3 0 (hlf (lf % 2 ^ 1) (B3 0))) (e5 : B5 = setP B4 1 (hlf 0 (B4 1))) :
    FarI (B5 0) (B5 1) (fun m => ac (2 * m + lf % 2)) (lf / 2) v ∧ ∀ k, 5 ≤ k → B5 k = Bc k := by
  obtain ⟨hs, v1, v2⟩ := far_step h
  have a0 : B1 0 = Bc 0 := by rw [e1, setP_ne _ _ (by decide)]
  have a1 : B1 1 = Bc 1 := by rw [e1, setP_ne _ _ (by decide)]
  have a2 : B1 2 = mir (Bc 1) := by rw [e1, setP_eq]
  rw [a0, a2, tr24_id (van_mono v1 (by omega))] at e2
  have b1 : B2 1 = Bc 1 := by rw [e2, setP_ne _ _ (by decide), setP_ne _ _ (by decide), a1]
  have b2 : B2 2 = mir (Bc 1) := by rw [e2, setP_ne _ _ (by decide), setP_ne _ _ (by decide), a2]
  rw [b1, b2, tr24_id (van_mono v2 (by omega))] at e3
  have c0 : B3 0 = cv (Bc 0) (mir (Bc 1)) := by rw [e3, setP_ne _ _ (by decide), setP_ne _ _ (by decide), e2, setP_eq]
  have c1 : B3 1 = cv (Bc 1) (mir (Bc 1)) := by rw [e3, setP_eq]
  have d0 : B5 0 = fun i => cv (Bc 0) (mir (Bc 1)) (2 * i + lf % 2) := by
    rw [e5, setP_ne _ _ (by decide), e4, setP_eq, c0]
    funext i
    simp only [hlf]
    by_cases q : 2 * i + lf % 2 ^ 1 < 24
    · rw [if_pos q]
    · rw [if_neg q, v1 _ (by omega)]
  have d1 : B5 1 = fun i => cv (Bc 1) (mir (Bc 1)) (2 * i) := by
    rw [e5, setP_eq, e4, setP_ne _ _ (by decide), c1]
    funext i
    simp only [hlf]
    by_cases q : 2 * i + 0 < 24
    · rw [if_pos q, Nat.add_zero]
    · rw [if_neg q, v2 _ (by omega)]
  refine ⟨by rw [d0, d1]; exact hs, fun k hk => ?_⟩
  rw [e5, setP_ne _ _ (by omega), e4, setP_ne _ _ (by omega), e3, setP_ne _ _ (by omega), setP_ne _ _ (by omega), e2, setP_ne _ _ (by omega), setP_ne _ _ (by omega), e1, setP_ne _ _ (by omega)]
theorem pw_half {lf i : Nat} (h : lf < 2 ^ (10 - i)) (hi : i < 10) : lf / 2 < 2 ^ (10 - (i + 1)) := by
  have e : 2 ^ (10 - i) = 2 ^ (10 - (i + 1)) * 2 := by rw [show 10 - i = 10 - (i + 1) + 1 from by omega, Nat.pow_succ]
  omega
theorem far_load {B B1 : Nat → Sr} {a : Sr} {n : Nat} (h : Rdy B B1 a 8) (hq : B1 1 0 = 1) : FarI (B1 0) (B1 1) a n (a n) := ⟨hq, h.2.2.2.2, van_mono h.2.1 (by omega), van_mono h.2.2.1 (by omega), rfl⟩
theorem far_load9 {B B1 : Nat → Sr} {a : Sr} {n : Nat} (h : Rdy B B1 a 9) (hq : B1 1 0 = 1) : FarI (B1 0) (B1 1) a n (a n) := ⟨hq, h.2.2.2.2, h.2.1, h.2.2.1, rfl⟩
/-! equality -/
def EqS (x y : Sr) : Prop := ∀ n, n < 32 → x n = y n
def EqB (B : Nat → Sr) (s t i : Nat) : Prop := ∀ j, j < i → B (5 + 2 * s + j / 24) (j % 24) = B (5 + 2 * t + j / 24) (j % 24)
theorem eqB_s {B : Nat → Sr} {s t i : Nat} (h : EqB B s t i) (e : B (5 + 2 * s + i / 24) (i % 24) = B (5 + 2 * t + i / 24) (i % 24)) : EqB B s t (i + 1) := by
  intro j hj
  by_cases q : j = i
  · rw [q]; exact e
  · exact h j (by omega)
theorem eqB_yes {B a : Nat → Sr} {Ls : Nat → Nat} {s t : Nat} (hG : GInv B a Ls) (hs : s < 4) (ht : t < 4) (h : EqB B s t 48) : EqS (a s) (a t) := by
  have hp : B (5 + 2 * s) = B (5 + 2 * t) := by
    funext n
    by_cases q : n < 24
    · have := h n (by omega)
      rwa [Nat.div_eq_of_lt q, Nat.mod_eq_of_lt q, Nat.add_zero, Nat.add_zero] at this
    · have l1 := (hG s hs).2
      have l2 := (hG t ht).2
      rw [(hG s hs).1.2.2.1 n (by omega), (hG t ht).1.2.2.1 n (by omega)]
  have hq : B (6 + 2 * s) = B (6 + 2 * t) := by
    funext n
    by_cases q : n < 24
    · have := h (24 + n) (by omega)
      rwa [show (24 + n) / 24 = 1 from by omega, show (24 + n) % 24 = n from by omega, show 5 + 2 * s + 1 = 6 + 2 * s from by omega, show 5 + 2 * t + 1 = 6 + 2 * t from by omega] at this
    · have l1 := (hG s hs).2
      have l2 := (hG t ht).2
      rw [(hG s hs).1.2.2.2.1 n (by omega), (hG t ht).1.2.2.2.1 n (by omega)]
  have ha : a s = a t := seq_det (hG s hs).1.1 (hG s hs).1.2.1 (by rw [hq, hp]; exact (hG t ht).1.2.1)
  intro n _
  rw [ha]
theorem eqB_no {B a : Nat → Sr} {Ls : Nat → Nat} {s t i : Nat} (hG : GInv B a Ls) (hs : s < 4) (ht : t < 4) (hi : i < 48) (h : ¬ B (5 + 2 * s + i / 24) (i % 24) = B (5 + 2 * t + i / 24) (i % 24)) : ¬ EqS (a s) (a t) := by
  intro q
  obtain ⟨e1, e2⟩ := seq_same (hG s hs).1 (hG t ht).1 (hG s hs).2 (hG t ht).2 q
  refine h ?_
  by_cases c : i < 24
  · rw [Nat.div_eq_of_lt c, Nat.add_zero, Nat.add_zero, e1]
  · rw [show i / 24 = 1 from by omega, show 5 + 2 * s + 1 = 6 + 2 * s from by omega, show 5 + 2 * t + 1 = 6 + 2 * t from by omega, e2]
/-! the next term, and the search -/
def NT (p q a : Sr) (n i : Nat) : Fp := p n - su (fun j => q (j + 1) * a (n - (j + 1))) (i - 1)
theorem nt_s {p q a : Sr} {n i : Nat} {X : Int} {x y : Fp} (hi : 1 ≤ i) (h : toF X = NT p q a n i) (hx : x = q i) (hy : y = a (n - i)) : toF (X - (x.val : Int) * (y.val : Int)) = NT p q a n (i + 1) := by
  rw [toF_sub, toF_mulV, h, hx, hy]
  unfold NT
  rw [show i + 1 - 1 = (i - 1) + 1 from by omega, su_s, show i - 1 + 1 = i from by omega]
  grind
theorem nt_end {p q a : Sr} {n i : Nat} (h0 : q 0 = 1) (ha : cv q a = p) (hq : van 9 q) (hi : i = n + 1 ∨ (i = 9 ∧ i ≤ n + 1)) : NT p q a n i = a n := by
  have h1 : p n = a n + su (fun j => q (j + 1) * a (n - (j + 1))) n := by
    rw [← ha, cv_su, su_front, h0, Nat.sub_zero]
    have : su (tl fun i => q i * a (n - i)) n = su (fun j => q (j + 1) * a (n - (j + 1))) n := su_congr (fun k _ => rfl)
    rw [this]
    grind
  unfold NT
  rw [h1]
  rcases hi with e | ⟨e, e2⟩
  · rw [e, show n + 1 - 1 = n from by omega]; grind
  · rw [e, show 9 - 1 = 8 from rfl]
    obtain ⟨m, rfl⟩ : ∃ m, n = 8 + m := ⟨n - 8, by omega⟩
    rw [su_split (fun j => q (j + 1) * a (8 + m - (j + 1))) 8 m, su_nul (n := m) (fun k _ => by rw [hq _ (by omega)]; grind)]
    grind
def Rec (a : Sr) (n : Nat) (g : Sr) : Prop := ∀ i, 1 ≤ i → i ≤ 8 → i ≤ n → g ((n - i) % 2 ^ 3) = a (n - i)
theorem rec_0 (a g : Sr) : Rec a 0 g := fun i h1 _ h3 => by omega
theorem rec_s {a g : Sr} {n : Nat} (h : Rec a n g) : Rec a (n + 1) (setS g (n % 2 ^ 3) (a n)) := by
  intro i h1 h2 h3
  unfold setS
  by_cases e : i = 1
  · subst e
    rw [show n + 1 - 1 = n from by omega, if_pos rfl]
  · rw [if_neg (by omega), show n + 1 - i = n - (i - 1) from by omega]
    exact h (i - 1) (by omega) (by omega) (by omega)
def fnd (a : Sr) (w : Fp) : Nat → Nat → Int
  | 0, _ => -4
  | k + 1, n => if a n = w then (n : Int) else fnd a w k (n + 1)
theorem fnd_y {a : Sr} {w : Fp} {n N : Nat} (hn : n < N) (h : a n = w) : fnd a w (N - n) n = (n : Int) := by
  rw [show N - n = (N - n - 1) + 1 from by omega, fnd, if_pos h]
theorem fnd_n {a : Sr} {w : Fp} {n N : Nat} (hn : n < N) (h : ¬ a n = w) : fnd a w (N - n) n = fnd a w (N - (n + 1)) (n + 1) := by
  rw [show N - n = (N - n - 1) + 1 from by omega, fnd, if_neg h, show N - n - 1 = N - (n + 1) from by omega]
end
section
/-! pure laws behind the model's methods -/
set_option maxRecDepth 100000
theorem MW_congrT {h qt qw qm qf : Nat} {d : ClassId} {T M : Nat → Sr} {w f : Sr} (T' : Nat → Sr) (hh : ∀ k n, n < 32 → T k n = T' k n) : MW h qt qw qm qf d (T, w, M, f) = MW h qt qw qm qf d (T', w, M, f) := by
  unfold MW
  rw [gr_congr (B' := T') (by decide) hh]
theorem MW_congrM {h qt qw qm qf : Nat} {d : ClassId} {T M : Nat → Sr} {w f : Sr} (M' : Nat → Sr) (hh : ∀ k n, n < 17 → M k n = M' k n) : MW h qt qw qm qf d (T, w, M, f) = MW h qt qw qm qf d (T, w, M', f) := by
  unfold MW
  rw [gr_congr (B' := M') (by decide) hh]
theorem toF_0 : toF 0 = 0 := by decide
/-- inverse by trial -/
def InvI (x : Fp) (i : Nat) : Prop := ∀ j : Nat, 1 ≤ j → j < i → ¬ ((toF ((x.val : Int) * (j : Int))).val : Int) = 1
theorem inv_0 (x : Fp) : InvI x 1 := fun j h1 h2 => by omega
theorem inv_s {x : Fp} {i : Nat} (h : InvI x i) (hi : ¬ ((toF ((x.val : Int) * (i : Int))).val : Int) = 1) : InvI x (i + 1) := by
  intro j h1 h2
  by_cases e : j = i
  · rw [e]; exact hi
  · exact h j h1 (by omega)
theorem inv_end {x : Fp} {i : Nat} (hx : x ≠ 0) (hi : 101 ≤ i) (h : InvI x i) : False := by
  obtain ⟨y, hy⟩ := fp_inv x hx
  refine h y.val ?_ (by omega) ?_
  · by_cases e : y.val = 0
    · exfalso
      have e2 : y = 0 := fp_0.mp (by omega)
      rw [e2, show x * 0 = 0 from by grind] at hy
      exact absurd hy (by decide)
    · omega
  · rw [toF_mulV, hy]
    rfl
theorem inv_yes {x : Fp} {i : Nat} (hi : i < 101) (h : ((toF ((x.val : Int) * (i : Int))).val : Int) = 1) : ∃ y : Fp, iI (i : Int) = iI (y.val : Int) ∧ x * y = 1 := by
  refine ⟨toF (i : Int), ?_, ?_⟩
  · rw [toF_val]
    congr 1
    omega
  · apply fp_ext
    rw [toF_mul, toF_of] at h
    rw [h]
    rfl
theorem x_bi {x : Fp} {i : Nat} (h : i ≤ 101) : 0 ≤ (x.val : Int) * (i : Int) ∧ (x.val : Int) * (i : Int) < 2147483648 := by
  have h1 : x.val ≤ 100 := by omega
  have h2 : x.val * i ≤ 100 * 101 := Nat.mul_le_mul h1 h
  have h3 : ((x.val * i : Nat) : Int) = (x.val : Int) * (i : Int) := Int.natCast_mul _ _
  omega
theorem x_b3 (a b c : Fp) : -2147483648 ≤ (a.val : Int) - (b.val : Int) * (c.val : Int) ∧ (a.val : Int) - (b.val : Int) * (c.val : Int) < 2147483648 := by
  have := fp_mul_lt b c
  omega
/-- two rows changed -/
def XchI (M : Nat → Sr) (a b i : Nat) (Mc : Nat → Sr) : Prop := ∀ k j, j < 17 → Mc k j = if j < i then exch M a b k j else M k j
theorem xch_0 (M : Nat → Sr) (a b : Nat) : XchI M a b 0 M := fun k j _ => by rw [if_neg (by omega)]
theorem xch_s {M Mc M1 M2 : Nat → Sr} {a b i : Nat} (h : XchI M a b i Mc) (hi : i < 17) (e1 : M1 = setB Mc a i (Mc b i)) (e2 : M2 = setB M1 b i (Mc a i)) : XchI M a b (i + 1) M2 := by
  have ha := h a i hi
  have hb := h b i hi
  rw [if_neg (by omega)] at ha hb
  rw [ha] at e2
  rw [hb] at e1
  intro k j hj
  rw [e2, e1]
  simp only [setB]
  by_cases q : j = i
  · rw [if_pos (show j < i + 1 by omega)]
    by_cases kb : k = b
    · rw [if_pos ⟨kb, q⟩, kb, exch_2, q]
    · rw [if_neg (fun r => kb r.1)]
      by_cases ka : k = a
      · rw [if_pos ⟨ka, q⟩, ka, exch_1, q]
      · rw [if_neg (fun r => ka r.1), h k j hj, if_neg (by omega), exch_3 M ka kb]
  · rw [if_neg (fun r => q r.2), if_neg (fun r => q r.2), h k j hj]
    by_cases q2 : j < i
    · rw [if_pos q2, if_pos (by omega)]
    · rw [if_neg q2, if_neg (by omega)]
theorem xch_end {M Mc : Nat → Sr} {a b i : Nat} (h : XchI M a b i Mc) (hi : 17 ≤ i) : ∀ k n, n < 17 → Mc k n = exch M a b k n := fun k n hn => by rw [h k n hn, if_pos (by omega)]
/-- a column cleared -/
def ClrI (M : Nat → Sr) (r0 sz cl : Nat) (y : Fp) (o : Nat) (Mo : Nat → Sr) : Prop := ∀ k j, j < 17 → Mo k j = if k < o then clr M r0 sz cl y k j else setP M r0 (fun j => M r0 j * y) k j
theorem clr_0 (M : Nat → Sr) (r0 sz cl : Nat) (y : Fp) : ClrI M r0 sz cl y 0 (setP M r0 (fun j => M r0 j * y)) := fun k j _ => by rw [if_neg (by omega)]
def Cl2 (Mo : Nat → Sr) (r0 cl o i : Nat) (Mi : Nat → Sr) : Prop := ∀ k j, j < 17 → Mi k j = if k = o ∧ o ≠ r0 ∧ j < i then Mo o j - Mo o cl * Mo r0 j else Mo k j
theorem cl2_0 (Mo : Nat → Sr) (r0 cl o : Nat) : Cl2 Mo r0 cl o 0 Mo := fun k j _ => by rw [if_neg (by omega)]
theorem cl2_e {Mo Mi : Nat → Sr} {r0 cl o i : Nat} (h : Cl2 Mo r0 cl o i Mi) (e : o = r0) : Cl2 Mo r0 cl o (i + 1) Mi := by
  intro k j hj
  rw [h k j hj, if_neg (fun q => q.2.1 e), if_neg (fun q => q.2.1 e)]
theorem cl2_s {Mo Mi M3 : Nat → Sr} {r0 cl o i : Nat} (h : Cl2 Mo r0 cl o i Mi) (hi : i < 17) (e : o ≠ r0) (em : M3 = setB Mi o i (Mi o i - Mo o cl * Mi r0 i)) : Cl2 Mo r0 cl o (i + 1) M3 := by
  have h1 : Mi o i = Mo o i := by rw [h o i hi, if_neg (by omega)]
  have h2 : Mi r0 i = Mo r0 i := by rw [h r0 i hi, if_neg (by omega)]
  rw [h1, h2] at em
  intro k j hj
  rw [em]
  simp only [setB]
  by_cases q : k = o ∧ j = i
  · rw [if_pos q, if_pos (by omega), q.2]
  · rw [if_neg q, h k j hj]
    by_cases q2 : k = o ∧ o ≠ r0 ∧ j < i
    · rw [if_pos q2, if_pos (by omega)]
    · rw [if_neg q2, if_neg (by omega)]
theorem clr_s {M Mo Mi : Nat → Sr} {r0 sz cl o i : Nat} {y : Fp} (h : ClrI M r0 sz cl y o Mo) (h2 : Cl2 Mo r0 cl o i Mi) (hi : 17 ≤ i) (ho : o < sz) (hc : cl < 17) : ClrI M r0 sz cl y (o + 1) Mi := by
  intro k j hj
  rw [h2 k j hj]
  by_cases e : k = o
  · rw [if_pos (show k < o + 1 by omega)]
    by_cases e2 : o = r0
    · rw [if_neg (fun q => q.2.1 e2), h k j hj, if_neg (by omega), e, e2, setP_eq, clr_r]
    · have e3 : Mo r0 j = M r0 j * y := by
        rw [h r0 j hj]
        by_cases q : r0 < o
        · rw [if_pos q, clr_r]
        · rw [if_neg q, setP_eq]
      rw [if_pos ⟨e, e2, by omega⟩, e3, h o j hj, h o cl hc, if_neg (by omega), if_neg (by omega), setP_ne _ _ e2, e, clr_o M y e2 ho]
  · rw [if_neg (fun q => e q.1), h k j hj]
    by_cases e2 : k < o
    · rw [if_pos e2, if_pos (by omega)]
    · rw [if_neg e2, if_neg (by omega)]
theorem clr_end {M Mo : Nat → Sr} {r0 sz cl o : Nat} {y : Fp} (h : ClrI M r0 sz cl y o Mo) (ho : o = sz) (hr : r0 < sz) : ∀ k n, n < 17 → Mo k n = clr M r0 sz cl y k n := by
  intro k n hn
  rw [h k n hn]
  by_cases e : k < o
  · rw [if_pos e]
  · rw [if_neg e, setP_ne _ _ (by omega)]
    simp only [clr]
    rw [if_neg (by omega), if_neg (by omega)]
/-- elimination, column by column -/
def PivR (M : Nat → Sr) (fr sz cl : Nat) (pv : Int) : Prop := (∃ q : Nat, pv = (q : Int) ∧ fr ≤ q ∧ q < sz ∧ M q cl ≠ 0) ∨ (pv = -1 ∧ ∀ i, fr ≤ i → i < sz → M i cl = 0)
theorem piv_bd {M : Nat → Sr} {fr sz cl : Nat} {pv : Int} (h : PivR M fr sz cl pv) (hs : sz ≤ 16) : -1 ≤ pv ∧ pv ≤ 16 := by
  rcases h with ⟨q, h1, h2, h3, -⟩ | ⟨h1, -⟩ <;> omega
theorem piv_no {M : Nat → Sr} {fr sz cl : Nat} {pv : Int} (h : PivR M fr sz cl pv) (hp : pv < 0) : ∀ i, fr ≤ i → i < sz → M i cl = 0 := by
  rcases h with ⟨q, h1, -⟩ | ⟨-, h1⟩
  · omega
  · exact h1
theorem piv_yes {M : Nat → Sr} {fr sz cl : Nat} {pv : Int} (h : PivR M fr sz cl pv) (hp : 0 ≤ pv) : ∃ q : Nat, pv = (q : Int) ∧ fr ≤ q ∧ q < sz ∧ M q cl ≠ 0 := by
  rcases h with h1 | ⟨h1, -⟩
  · exact h1
  · omega
theorem el_skip {sz L cl rk : Nat} {M Mc : Nat → Sr} (hE : EInv sz M Mc cl rk) (hr : (cl ≤ L ∧ rk = cl) ∨ (L ≤ cl ∧ rk = L)) (hL : L ≤ sz) (hs : sz ≤ 16) (hI : IndH sz M L) (hz : ∀ i, rk ≤ i → i < sz → Mc i cl = 0) : EInv sz M Mc (cl + 1) rk ∧ L ≤ cl := by
  refine ⟨e_skip hE hz, ?_⟩
  rcases hr with ⟨h1, h2⟩ | ⟨h1, h2⟩
  · by_cases e : cl < L
    · rw [h2] at hE hz
      exact absurd hz (e_piv hE e hL hs hI)
    · omega
  · exact h1
theorem el_lt {sz L cl rk q : Nat} {M Mc : Nat → Sr} (hE : EInv sz M Mc cl rk) (hr : (cl ≤ L ∧ rk = cl) ∨ (L ≤ cl ∧ rk = L)) (hc : cl < sz) (hs : sz ≤ 16) (hD : DepH sz M L) (h1 : rk ≤ q) (h2 : q < sz) (h3 : Mc q cl ≠ 0) : cl < L ∧ rk = cl := by
  by_cases e : cl < L
  · exact ⟨e, by omega⟩
  · exfalso
    have e2 : rk = L := by omega
    rw [e2] at hE h1
    exact h3 (e_nopiv hE (by omega) hc hs hD q h1 h2)
theorem el_take {sz cl rk q : Nat} {M Mc M1 M2 : Nat → Sr} {y : Fp} (hE : EInv sz M Mc cl rk) (hrk : rk = cl) (h1 : rk ≤ q) (h2 : q < sz) (e1 : M1 = exch Mc rk q) (hy : M1 rk cl * y = 1) (e2 : M2 = clr M1 rk sz cl y) : EInv sz M M2 (cl + 1) (rk + 1) := by
  subst hrk
  rw [e2, e1]
  rw [e1] at hy
  exact e_take hE h1 h2 hy
/-- tables of terms -/
def W32 (w a : Sr) : Prop := ∀ n, n < 32 → w n = a n
def HkI (w : Sr) (i : Nat) (Mc : Nat → Sr) : Prop := ∀ k j, k < i → j < 17 → Mc k j = if j < 16 then w (k + j) else 0
def HkJ (w : Sr) (i j : Nat) (Mi : Nat → Sr) : Prop := HkI w i Mi ∧ ∀ n, n < j → Mi i n = w (i + n)
theorem hk_0 (w : Sr) (Mc : Nat → Sr) : HkI w 0 Mc := fun k j h1 _ => by omega
theorem hkj_0 {w : Sr} {i : Nat} {Mc : Nat → Sr} (h : HkI w i Mc) : HkJ w i 0 Mc := ⟨h, fun n hn => by omega⟩
theorem hkj_s {w : Sr} {i j : Nat} {Mi M1 : Nat → Sr} (h : HkJ w i j Mi) (e : M1 = setB Mi i j (w (i + j))) : HkJ w i (j + 1) M1 := by
  refine ⟨fun k n h1 h2 => ?_, fun n hn => ?_⟩
  · rw [e]
    simp only [setB]
    rw [if_neg (by omega)]
    exact h.1 k n h1 h2
  · rw [e]
    simp only [setB]
    by_cases q : n = j
    · rw [if_pos ⟨trivial, q⟩, q]
    · rw [if_neg (by omega)]
      exact h.2 n (by omega)
theorem hk_s {w : Sr} {i j : Nat} {Mi M1 : Nat → Sr} (h : HkJ w i j Mi) (hj : 16 ≤ j) (e : M1 = setB Mi i 16 0) : HkI w (i + 1) M1 := by
  intro k n h1 h2
  rw [e]
  simp only [setB]
  by_cases q : k = i
  · by_cases q2 : n = 16
    · rw [if_pos ⟨q, q2⟩, if_neg (by omega)]
    · rw [if_neg (by omega), q, h.2 n (by omega), if_pos (by omega)]
  · rw [if_neg (by omega)]
    exact h.1 k n (by omega) h2
def ExI (w : Sr) (L i : Nat) (Mc : Nat → Sr) : Prop := ∀ k, k < i → ∀ j, j < 17 → Mc k j = if j < L then w (k + j) else if j = 16 then w (k + L) else 0
def ExJ (w : Sr) (L i j : Nat) (Mi : Nat → Sr) : Prop := ExI w L i Mi ∧ ∀ n, n < j → Mi i n = if n < L then w (i + n) else 0
theorem ex_0 (w : Sr) (L : Nat) (Mc : Nat → Sr) : ExI w L 0 Mc := fun k h1 => by omega
theorem exj_0 {w : Sr} {L i : Nat} {Mc : Nat → Sr} (h : ExI w L i Mc) : ExJ w L i 0 Mc := ⟨h, fun n hn => by omega⟩
theorem exj_s {w : Sr} {L i j : Nat} {Mi M1 : Nat → Sr} {v : Fp} (h : ExJ w L i j Mi) (e : M1 = setB Mi i j v) (hv : v = if j < L then w (i + j) else 0) : ExJ w L i (j + 1) M1 := by
  refine ⟨fun k h1 n h2 => ?_, fun n hn => ?_⟩
  · rw [e]
    simp only [setB]
    rw [if_neg (by omega)]
    exact h.1 k h1 n h2
  · rw [e]
    simp only [setB]
    by_cases q : n = j
    · rw [if_pos ⟨trivial, q⟩, q, hv]
    · rw [if_neg (by omega)]
      exact h.2 n (by omega)
theorem ex_s {w : Sr} {L i j : Nat} {Mi M1 : Nat → Sr} (h : ExJ w L i j Mi) (hj : 17 ≤ j) (hL : L ≤ 8) (e : M1 = setB Mi i 16 (w (i + L))) : ExI w L (i + 1) M1 := by
  intro k h1 n h2
  rw [e]
  simp only [setB]
  by_cases q : k = i
  · by_cases q2 : n = 16
    · rw [if_pos ⟨q, q2⟩, if_neg (by omega), if_pos q2, q]
    · rw [if_neg (by omega), q, h.2 n (by omega), if_neg q2]
  · rw [if_neg (by omega)]
    exact h.1 k (by omega) n h2
/-- a row of numbers that has its first terms -/
def WI (wc a : Sr) (m : Nat) : Prop := ∀ j, j < m → wc j = a j
theorem wi_0 (wc a : Sr) : WI wc a 0 := fun j hj => by omega
theorem wi_s {wc a w2 : Sr} {m : Nat} {v : Fp} (h : WI wc a m) (e : w2 = setS wc m v) (hv : v = a m) : WI w2 a (m + 1) := by
  intro j hj
  rw [e]
  simp only [setS]
  by_cases q : j = m
  · rw [if_pos q, q, hv]
  · rw [if_neg q]
    exact h j (by omega)
theorem wi_32 {wc a : Sr} {m : Nat} (h : WI wc a m) (hm : 32 ≤ m) : W32 wc a := fun n hn => h n (by omega)
theorem ext_v {a ff fc wc : Sr} {L m : Nat} (hf : ∀ m, a (m + L) = su (fun j => ff j * a (m + j)) L) (hF : WI fc ff L) (hW : WI wc a m) (hm : L ≤ m) : su (fun j => fc j * wc (m - L + j)) L = a m := by
  have h := hf (m - L)
  rw [show m - L + L = m from by omega] at h
  rw [h]
  refine su_congr (fun k hk => ?_)
  rw [hF k hk, hW _ (by omega)]
/-- define's terms -/
def DfT (k0 : Nat) (c b : Int) (an : Sr) (m i : Nat) : Fp := if m < k0 then dg b m else su (fun j => dg c j * an (m - 1 - j)) (i - 1)
theorem dft_0y {k0 : Nat} {c b : Int} {an : Sr} {m : Nat} (h : m < k0) : toF ((dg b m).val : Int) = DfT k0 c b an m 1 := by
  rw [toF_of]
  unfold DfT
  rw [if_pos h]
theorem dft_0n {k0 : Nat} {c b : Int} {an : Sr} {m : Nat} (h : k0 ≤ m) : toF 0 = DfT k0 c b an m 1 := by
  unfold DfT
  rw [if_neg (by omega), toF_0]
  rfl
theorem dft_k {k0 : Nat} {c b : Int} {an : Sr} {m i : Nat} {X : Int} (h : m < k0) (hT : toF X = DfT k0 c b an m i) : toF X = DfT k0 c b an m (i + 1) := by
  rw [hT]
  unfold DfT
  rw [if_pos h, if_pos h]
theorem dft_s {k0 : Nat} {c b : Int} {an : Sr} {m i : Nat} {X : Int} {x y : Fp} (h : k0 ≤ m) (hi : 1 ≤ i) (hT : toF X = DfT k0 c b an m i) (hx : x = dg c (i - 1)) (hy : y = an (m - i)) : toF (X + (x.val : Int) * (y.val : Int)) = DfT k0 c b an m (i + 1) := by
  rw [toF_add, toF_mulV, hT, hx, hy]
  unfold DfT
  rw [if_neg (by omega), if_neg (by omega), show i + 1 - 1 = (i - 1) + 1 from by omega, su_s, show m - 1 - (i - 1) = m - i from by omega]
theorem dft_end {k0 : Nat} {c b : Int} {an : Sr} {m i : Nat} {X : Int} (hD : DefS k0 c b an) (hi : i = k0 + 1) (hT : toF X = DfT k0 c b an m i) : toF X = an m := by
  rw [hT, hi]
  unfold DfT
  by_cases h : m < k0
  · rw [if_pos h, hD.1 m h]
  · rw [if_neg h, hD.2 m (by omega)]
    rfl
/-- the model's terms -/
def MInv (T : Nat → Sr) (a : Nat → Sr) : Prop := ∀ s, s < 4 → ∀ n, n < 32 → T s n = a s n
theorem minv_set {T a : Nat → Sr} {w an : Sr} {s0 : Nat} (h : MInv T a) (hw : W32 w an) : MInv (setP T s0 w) (upA a s0 an) := by
  intro s hs n hn
  by_cases e : s = s0
  · rw [e, setP_eq, upA_eq]
    exact hw n hn
  · rw [setP_ne _ _ e, upA_ne _ _ e]
    exact h s hs n hn
def Stl (T1 : Nat → Sr) (a : Nat → Sr) (s0 : Nat) (an : Sr) (L : Nat) (r : Int32) : Prop := (L ≤ 8 ∧ r = iI (L : Int) ∧ MInv T1 (upA a s0 an)) ∨ (8 < L ∧ r = iI (-3) ∧ MInv T1 a)
def OLs (a : Nat → Sr) (Ls : Nat → Nat) : Prop := ∀ s, s < 4 → Ord (a s) (Ls s) ∧ Ls s ≤ 8
def bi (z : Int) : Int := if z < 0 ∨ 400 < z then 1 else 0
theorem bi_bd (z : Int) : 0 ≤ bi z ∧ bi z ≤ 1 := by unfold bi; split <;> decide
theorem bi_1 {z : Int} (h : z < 0 ∨ 400 < z) : bi z = 1 := if_pos h
theorem bi_0 {z : Int} (h : 0 ≤ z ∧ z ≤ 400) : bi z = 0 := if_neg (by omega)
theorem bi_n {z : Int} (h : ¬ bi z = 0) : z < 0 ∨ 400 < z := by
  unfold bi at h
  split at h
  · assumption
  · exact absurd rfl h
theorem bi_y {z : Int} (h : bi z = 0) : 0 ≤ z ∧ z ≤ 400 := by
  unfold bi at h
  split at h
  · exact absurd h (by decide)
  · omega
theorem pre1_s {x : Fp} {a : Sr} {m : Nat} (h : 1 ≤ m) : pre1 x a m = a (m - 1) := by
  unfold pre1
  rw [if_neg (by omega)]
def DifI (a : Sr) (m : Nat) (v : Fp) : Prop := v = if m = 0 then 0 else a (m - 1)
theorem difi_s {a : Sr} {m : Nat} {v : Fp} (h : v = a m) : DifI a (m + 1) v := by
  unfold DifI
  rw [if_neg (by omega), h, Nat.add_sub_cancel]
theorem difi_v {a : Sr} {m : Nat} {x v : Fp} (h : DifI a m v) (hx : x = a m) : x - v = cv stp a m := by
  rw [cv_stp, hx, h]
theorem eqS_s {x y : Sr} {m : Nat} (h : WI x y m) (e : x m = y m) : WI x y (m + 1) := by
  intro j hj
  by_cases q : j = m
  · rw [q]; exact e
  · exact h j (by omega)
end
section
/-! RecurrenceEngine: numbers and polynomials -/
set_option maxRecDepth 100000
theorem x_bx {x : Int} (h : 0 ≤ x ∧ x ≤ 101) (a b : Fp) : -2147483648 ≤ (a.val : Int) + x * (b.val : Int) ∧ (a.val : Int) + x * (b.val : Int) < 2147483648 := by
  have h1 : 0 ≤ x * (b.val : Int) := Int.mul_nonneg h.1 (by omega)
  have h2 : x * (b.val : Int) ≤ 101 * 100 := Int.mul_le_mul h.2 (by omega) (by omega) (by omega)
  omega
abbrev wsX0_bad : List Cond := ws_ yX0_bad cX0_bad 1 (some .boolean)
set_option maxHeartbeats 4000000 in
set_option maxRecDepth 100000 in
/-- bad(z) -/
theorem metX0_bad (l : Launch) (z : Int) (hz : -2147483648 ≤ z ∧ z < 2147483648) : sMi l yX0_bad wsX0_bad (rK 0 0) [.int (iI (z))] (fun r => r = iI (bd z)) := by
  refine s_entryz (by decide) (Nat.le_of_ble_eq_true rfl) ?_
  intro p e s m args below meth c Q hx hb hml hown hts hret ls hl
  have hl : lv_has ls 1 [(0, .int (iI (z)))] := hl
  refine lv_iload_n hx hb dX0_bad_0 rfl (lv_at hl 0 rfl) ?_
  refine x_if_lt (tgt := 9) hx hb (by omega) dX0_bad_1 (by decide) (fun c_1 => ?_) (fun c_1 => ?_)
  · -- t 9
    refine x_iconst hx hb dX0_bad_9 ?_
    refine lv_goto (tgt := 14) hx hb dX0_bad_10 (by decide) ?_
    exact hret _ _ _ rfl (by rw [bd_1 (by omega)]) dX0_bad_14
  · -- f 4
    refine lv_iload_n hx hb dX0_bad_4 rfl (lv_at hl 0 rfl) ?_
    refine x_iconst hx hb dX0_bad_5 ?_
    refine x_icmp_le (tgt := 13) hx hb (by omega) dX0_bad_6 (by decide) (fun c_6 => ?_) (fun c_6 => ?_)
    · -- t 13
      refine x_iconst hx hb dX0_bad_13 ?_
      exact hret _ _ _ rfl (by rw [bd_0 (by omega)]) dX0_bad_14
    · -- f 9
      refine x_iconst hx hb dX0_bad_9 ?_
      refine lv_goto (tgt := 14) hx hb dX0_bad_10 (by decide) ?_
      exact hret _ _ _ rfl (by rw [bd_1 (by omega)]) dX0_bad_14
abbrev wsX0_top : List Cond := ws_ yX0_top cX0_top 1 (some .int)
set_option maxHeartbeats 4000000 in
set_option maxRecDepth 100000 in
/-- top(s) -/
theorem metX0_top (l : Launch) (s0 : Nat) : sMi l yX0_top wsX0_top (rK 0 0) [.int (iI ((s0 : Int)))] (fun r => r = iI ((5 + 2 * s0 : Nat) : Int)) := by
  refine s_entryi (by decide) (Nat.le_of_ble_eq_true rfl) ?_
  intro p e s m args below meth c Q hx hb hml hown hts hret ls hl
  have hl : lv_has ls 1 [(0, .int (iI ((s0 : Int))))] := hl
  refine x_iconst hx hb dX0_top_0 ?_
  refine x_iconst hx hb dX0_top_1 ?_
  refine lv_iload_n hx hb dX0_top_2 rfl (lv_at hl 0 rfl) ?_
  refine x_imul hx hb dX0_top_3 ?_
  refine x_iadd hx hb dX0_top_4 ?_
  exact hret _ _ _ (by congr 1) dX0_top_5
abbrev wsX0_bottom : List Cond := ws_ yX0_bottom cX0_bottom 1 (some .int)
set_option maxHeartbeats 4000000 in
set_option maxRecDepth 100000 in
/-- bottom(s) -/
theorem metX0_bottom (l : Launch) (s0 : Nat) : sMi l yX0_bottom wsX0_bottom (rK 0 0) [.int (iI ((s0 : Int)))] (fun r => r = iI ((6 + 2 * s0 : Nat) : Int)) := by
  refine s_entryi (by decide) (Nat.le_of_ble_eq_true rfl) ?_
  intro p e s m args below meth c Q hx hb hml hown hts hret ls hl
  have hl : lv_has ls 1 [(0, .int (iI ((s0 : Int))))] := hl
  refine x_iconst hx hb dX0_bottom_0 ?_
  refine x_iconst hx hb dX0_bottom_1 ?_
  refine lv_iload_n hx hb dX0_bottom_2 rfl (lv_at hl 0 rfl) ?_
  refine x_imul hx hb dX0_bottom_3 ?_
  refine x_iadd hx hb dX0_bottom_4 ?_
  refine x_iconst hx hb dX0_bottom_5 ?_
  refine x_iadd hx hb dX0_bottom_6 ?_
  exact hret _ _ _ (by congr 1; omega) dX0_bottom_7
abbrev wsX0_mod : List Cond := ws_ yX0_mod cX0_mod 2 (some .int)
set_option maxHeartbeats 4000000 in
set_option maxRecDepth 100000 in
/-- mod(z) -/
theorem metX0_mod (l : Launch) (z : Int) (hz : -2147483648 ≤ z ∧ z < 2147483648) : sMi l yX0_mod wsX0_mod (rK 0 0) [.int (iI (z))] (fun r => r = iI ((toF z).val : Int)) := by
  refine s_entryi (by decide) (Nat.le_of_ble_eq_true rfl) ?_
  intro p e s m args below meth c Q hx hb hml hown hts hret ls hl
  have hl : lv_has ls 2 [(0, .int (iI (z)))] := hl
  have ht := tmod_101 z
  rw [← toF_val] at ht
  have hb1 : -101 < z.tmod 101 ∧ z.tmod 101 < 101 := ⟨Int.lt_tmod_of_pos z (by decide), Int.tmod_lt_of_pos z (by decide)⟩
  refine lv_iload_n hx hb dX0_mod_0 rfl (lv_at hl 0 rfl) ?_
  refine x_bipush hx hb dX0_mod_1 (by decide) ?_
  refine x_iremT hx hb (by omega) dX0_mod_3 ?_
  refine lv_istore_n (lv' := [(1, .int (iI ((Int.tmod z 101)))), (0, .int (iI (z)))]) hx hb dX0_mod_4 rfl hl (by decide) rfl (fun ls hl => ?_)
  refine lv_iload_n hx hb dX0_mod_5 rfl (lv_at hl 0 rfl) ?_
  refine x_if_ge (tgt := 16) hx hb (by omega) dX0_mod_6 (by decide) (fun c_6 => ?_) (fun c_6 => ?_)
  · -- t 16
    refine lv_iload_n hx hb dX0_mod_16 rfl (lv_at hl 0 rfl) ?_
    exact hret _ _ _ (by rw [← ht, if_neg (by omega)]) dX0_mod_17
  · -- f 9
    refine lv_iload_n hx hb dX0_mod_9 rfl (lv_at hl 0 rfl) ?_
    refine x_bipush hx hb dX0_mod_10 (by decide) ?_
    refine x_iadd hx hb dX0_mod_12 ?_
    refine lv_goto (tgt := 17) hx hb dX0_mod_13 (by decide) ?_
    exact hret _ _ _ (by rw [← ht, if_pos (by omega)]) dX0_mod_17
abbrev wsX0_inverse : List Cond := ws_ yX0_inverse cX0_inverse 3 (some .int)
set_option maxHeartbeats 4000000 in
set_option maxRecDepth 100000 in
/-- inverse(x): its power of 99 -/
theorem metX0_inverse (l : Launch) (x : Fp) : sMi l yX0_inverse wsX0_inverse (rK 0 0) [.int (iI ((x.val : Int)))] (fun r => r = iI ((fpw x 99).val : Int)) := by
  refine s_entryi (by decide) (Nat.le_of_ble_eq_true rfl) ?_
  intro p e s m args below meth c Q hx hb hml hown hts hret ls hl
  have hl : lv_has ls 3 [(0, .int (iI ((x.val : Int))))] := hl
  refine x_iconst hx hb dX0_inverse_0 ?_
  refine lv_istore_n (lv' := [(1, .int (iI (1))), (0, .int (iI ((x.val : Int))))]) hx hb dX0_inverse_1 rfl hl (by decide) rfl (fun ls hl => ?_)
  refine x_iconst hx hb dX0_inverse_2 ?_
  refine lv_istore_n (lv' := [(2, .int (iI (0))), (1, .int (iI (1))), (0, .int (iI ((x.val : Int))))]) hx hb dX0_inverse_3 rfl hl (by decide) rfl (fun ls hl => ?_)
  have lp_4 : ∀ (n : Nat) (i : Nat) (v : Fp) (hi : i ≤ 99) (hn : 99 < i + n) (hv : v = fpw x i) (ls : Array Slot), lv_has ls 3 [(0, .int (iI ((x.val : Int)))), (1, .int (iI ((v.val : Int)))), (2, .int (iI ((i : Int))))] → W p l e (rK 0 0) s m args below meth c s.heap [] 0 0 Q (F0 m 4 ls []) := by
    intro n
    induction n with
    | zero =>
      intro i v hi hn hv
      exfalso
      omega
    | succ n ih_4 =>
      intro i v hi hn hv ls hl
      refine lv_iload_n hx hb dX0_inverse_4 rfl (lv_at hl 2 rfl) ?_
      refine x_bipush hx hb dX0_inverse_5 (by decide) ?_
      refine x_icmp_ge (tgt := 23) hx hb (by omega) dX0_inverse_7 (by decide) (fun c_7 => ?_) (fun c_7 => ?_)
      · -- t 23
        refine lv_iload_n hx hb dX0_inverse_23 rfl (lv_at hl 1 rfl) ?_
        have : i = 99 := by omega
        subst this
        exact hret _ _ _ (by rw [hv]) dX0_inverse_24
      · -- f 10
        refine lv_iload_n hx hb dX0_inverse_10 rfl (lv_at hl 1 rfl) ?_
        refine lv_iload_n hx hb dX0_inverse_11 rfl (lv_at hl 0 rfl) ?_
        refine x_imul hx hb dX0_inverse_12 ?_
        refine x_bipush hx hb dX0_inverse_13 (by decide) ?_
        refine x_irem hx hb (v * x) (toF_mulV v x) (by have := fp_mul_lt v x; omega) dX0_inverse_15 ?_
        refine lv_istore_n (lv' := [(1, .int (iI (((v * x).val : Int)))), (0, .int (iI ((x.val : Int)))), (2, .int (iI ((i : Int))))]) hx hb dX0_inverse_16 rfl hl (by decide) rfl (fun ls hl => ?_)
        refine x_iinc (v := ((i + 1 : Nat) : Int)) (lv' := [(2, .int (iI (((i + 1 : Nat) : Int)))), (1, .int (iI (((v * x).val : Int)))), (0, .int (iI ((x.val : Int))))]) hx hb dX0_inverse_17 hl (k := 2) rfl (by omega) (by decide) rfl (fun ls hl => ?_)
        refine lv_goto (tgt := 4) hx hb dX0_inverse_20 (by decide) ?_
        exact ih_4 (i + 1) (v * x) (by omega) (by omega) (by rw [hv, fpw_s]) ls (lv_sub hl [2, 1, 0] rfl)
  exact lp_4 100 0 1 (by omega) (by omega) rfl ls (lv_sub hl [2, 1, 0] rfl)
abbrev wsX0_degree : List Cond := ws_ yX0_degree cX0_degree 3 (some .int)
set_option maxHeartbeats 4000000 in
set_option maxRecDepth 100000 in
/-- degree(k) -/
theorem metX0_degree (l : Launch) (D : va_G) (d : ClassId) (h qb qr : Nat) (B : Nat → Sr) (g : Sr) (k : Nat) (hk : k < 13) : gMi l yX0_degree wsX0_degree (rK 0 0) D d (EW h qb qr d) (B, g) h [.int (iI ((k : Int)))] (fun r u => ∃ L : Nat, r = iI ((L : Int) - 1) ∧ u = (B, g) ∧ Deg (B k) L) := by
  refine g_entryi (by decide) (Nat.le_of_ble_eq_true rfl) ?_
  intro p e s m args below meth c A Q hx hb hml hown hts hK hA hret H locs hP hD hS ls hl
  have hl : lv_has ls 3 [(0, .ref h), (1, .int (iI ((k : Int))))] := hl
  refine x_bipush hx hb dX0_degree_0 (by decide) ?_
  refine x_top (((24 : Nat) : Int) - 1) (by decide) ?_
  refine lv_istore_n (lv' := [(2, .int (iI (((24 : Nat) : Int) - 1))), (0, .ref h), (1, .int (iI ((k : Int))))]) hx hb dX0_degree_2 rfl hl (by decide) rfl (fun ls hl => ?_)
  have lp_3 : ∀ (n : Nat) (L : Nat) (hi : L ≤ 24) (hn : L < n) (hv : ∀ j, L ≤ j → j < 24 → B k j = 0) (H : Heap) (locs : List Loc), va_P D vwCl (EW h qb qr d (B, g)) H → va_D A (EW h qb qr d (B, g)) → va_S A s.heap H locs → ∀ ls : Array Slot, lv_has ls 3 [(0, .ref h), (1, .int (iI ((k : Int)))), (2, .int (iI ((L : Int) - 1)))] → W p l e (rK 0 0) s m args below meth c H locs 0 0 Q (F0 m 3 ls []) := by
    intro n
    induction n with
    | zero =>
      intro L hi hn hv
      exfalso
      omega
    | succ n ih_3 =>
      intro L hi hn hv H locs hP hD hS ls hl
      refine lv_iload_n hx hb dX0_degree_3 rfl (lv_at hl 2 rfl) ?_
      refine x_if_lt (tgt := 27) hx hb (by omega) dX0_degree_4 (by decide) (fun c_4 => ?_) (fun c_4 => ?_)
      · -- t 27
        refine lv_iload_n hx hb dX0_degree_27 rfl (lv_at hl 2 rfl) ?_
        exact hret _ _ H locs _ _ (⟨L, rfl, rfl, hi, hv, Or.inl (by omega)⟩) hP hD hS dX0_degree_28
      · -- f 7
        refine lv_aload_n hx hb dX0_degree_7 rfl (lv_at hl 0 rfl) ?_
        refine e_getb hx hb hts hown hK hP dX0_degree_8 ?_
        refine lv_iload_n hx hb dX0_degree_11 rfl (lv_at hl 1 rfl) ?_
        refine x_bipush hx hb dX0_degree_12 (by decide) ?_
        refine x_imul hx hb dX0_degree_14 ?_
        refine lv_iload_n hx hb dX0_degree_15 rfl (lv_at hl 2 rfl) ?_
        refine x_iadd hx hb dX0_degree_16 ?_
        refine e_bld hx hb hK hP (k) (L - 1) (by omega) dX0_degree_17 ?_
        refine x_if_ne (tgt := 27) hx hb (by omega) dX0_degree_18 (by decide) (fun c_18 => ?_) (fun c_18 => ?_)
        · -- t 27
          refine lv_iload_n hx hb dX0_degree_27 rfl (lv_at hl 2 rfl) ?_
          exact hret _ _ H locs _ _ (⟨L, rfl, rfl, hi, hv, Or.inr (fun q => c_18 (fp_0.mpr q))⟩) hP hD hS dX0_degree_28
        · -- f 21
          refine x_iinc (v := ((L - 1 : Nat) : Int) - 1) (lv' := [(2, .int (iI (((L - 1 : Nat) : Int) - 1))), (0, .ref h), (1, .int (iI ((k : Int))))]) hx hb dX0_degree_21 hl (k := 2) rfl (by omega) (by decide) rfl (fun ls hl => ?_)
          refine lv_goto (tgt := 3) hx hb dX0_degree_24 (by decide) ?_
          exact ih_3 (L - 1) (by omega) (by omega) (deg_step hv (fp_0.mp c_18)) H locs hP hD hS ls (lv_sub hl [1, 2, 0] rfl)
  exact lp_3 25 24 (by omega) (by omega) (fun j h1 h2 => by omega) H locs hP hD hS ls (lv_sub hl [1, 2, 0] rfl)
abbrev wsX0_clearPoly : List Cond := ws_ yX0_clearPoly cX0_clearPoly 3 none
set_option maxHeartbeats 4000000 in
set_option maxRecDepth 100000 in
/-- clearPoly(k) -/
theorem metX0_clearPoly (l : Launch) (D : va_G) (d : ClassId) (h qb qr : Nat) (B : Nat → Sr) (g : Sr) (k : Nat) (hk : k < 13) : gMv l yX0_clearPoly wsX0_clearPoly (rK 0 0) D d (EW h qb qr d) (B, g) h [.int (iI ((k : Int)))] (fun u => ∃ B1, u = (B1, g) ∧ B1 = setP B k z0) := by
  refine g_entryv (by decide) (Nat.le_of_ble_eq_true rfl) ?_
  intro p e s m args below meth c A Q hx hb hml hown hts hK hA hret H locs hP hD hS ls hl
  have hl : lv_has ls 3 [(0, .ref h), (1, .int (iI ((k : Int))))] := hl
  refine x_iconst hx hb dX0_clearPoly_0 ?_
  refine lv_istore_n (lv' := [(2, .int (iI (0))), (0, .ref h), (1, .int (iI ((k : Int))))]) hx hb dX0_clearPoly_1 rfl hl (by decide) rfl (fun ls hl => ?_)
  have lp_2 : ∀ (n : Nat) (i : Nat) (Bc : Nat → Sr) (hi : i ≤ 24) (hn : 24 < i + n) (hI : Fill 24 B k z0 0 i Bc) (H : Heap) (locs : List Loc), va_P D vwCl (EW h qb qr d (Bc, g)) H → va_D A (EW h qb qr d (Bc, g)) → va_S A s.heap H locs → ∀ ls : Array Slot, lv_has ls 3 [(0, .ref h), (1, .int (iI ((k : Int)))), (2, .int (iI ((i : Int))))] → W p l e (rK 0 0) s m args below meth c H locs 0 0 Q (F0 m 2 ls []) := by
    intro n
    induction n with
    | zero =>
      intro i Bc hi hn hI
      exfalso
      omega
    | succ n ih_2 =>
      intro i Bc hi hn hI H locs hP hD hS ls hl
      refine lv_iload_n hx hb dX0_clearPoly_2 rfl (lv_at hl 2 rfl) ?_
      refine x_bipush hx hb dX0_clearPoly_3 (by decide) ?_
      refine x_icmp_ge (tgt := 26) hx hb (by omega) dX0_clearPoly_5 (by decide) (fun c_5 => ?_) (fun c_5 => ?_)
      · -- t 26
        rw [EW_congr _ (fill_end hI (by omega))] at hP hD
        exact hret _ H locs _ _ (⟨_, rfl, rfl⟩) hP hD hS dX0_clearPoly_26
      · -- f 8
        refine lv_aload_n hx hb dX0_clearPoly_8 rfl (lv_at hl 0 rfl) ?_
        refine e_getb hx hb hts hown hK hP dX0_clearPoly_9 ?_
        refine lv_iload_n hx hb dX0_clearPoly_12 rfl (lv_at hl 1 rfl) ?_
        refine x_bipush hx hb dX0_clearPoly_13 (by decide) ?_
        refine x_imul hx hb dX0_clearPoly_15 ?_
        refine lv_iload_n hx hb dX0_clearPoly_16 rfl (lv_at hl 2 rfl) ?_
        refine x_iadd hx hb dX0_clearPoly_17 ?_
        refine x_iconst hx hb dX0_clearPoly_18 ?_
        refine e_bst hx hb hK hP hD hS (k) (i) (0) (rfl) (by omega) dX0_clearPoly_19 (fun H locs hP hD hS => ?_)
        obtain ⟨B1, eB1⟩ : ∃ z, z = setB Bc (k) (i) (0) := ⟨_, rfl⟩
        rw [← eB1] at hP hD
        refine x_iinc (v := ((i + 1 : Nat) : Int)) (lv' := [(2, .int (iI (((i + 1 : Nat) : Int)))), (0, .ref h), (1, .int (iI ((k : Int))))]) hx hb dX0_clearPoly_20 hl (k := 2) rfl (by omega) (by decide) rfl (fun ls hl => ?_)
        refine lv_goto (tgt := 2) hx hb dX0_clearPoly_23 (by decide) ?_
        exact ih_2 (i + 1) B1 (by omega) (by omega) (by rw [eB1]; exact fill_s hI (by omega) rfl) H locs hP hD hS ls (lv_sub hl [1, 2, 0] rfl)
  exact lp_2 25 0 B (by omega) (by omega) (fill_0 _ _ _ _ _) H locs hP hD hS ls (lv_sub hl [1, 2, 0] rfl)
abbrev wsX0_copyPoly : List Cond := ws_ yX0_copyPoly cX0_copyPoly 4 none
set_option maxHeartbeats 4000000 in
set_option maxRecDepth 100000 in
/-- copyPoly(to, from) -/
theorem metX0_copyPoly (l : Launch) (D : va_G) (d : ClassId) (h qb qr : Nat) (B : Nat → Sr) (g : Sr) (to fr : Nat) (h1 : to < 13) (h2 : fr < 13) : gMv l yX0_copyPoly wsX0_copyPoly (rK 0 0) D d (EW h qb qr d) (B, g) h [.int (iI ((to : Int))), .int (iI ((fr : Int)))] (fun u => ∃ B1, u = (B1, g) ∧ B1 = setP B to (B fr)) := by
  refine g_entryv (by decide) (Nat.le_of_ble_eq_true rfl) ?_
  intro p e s m args below meth c A Q hx hb hml hown hts hK hA hret H locs hP hD hS ls hl
  have hl : lv_has ls 4 [(0, .ref h), (1, .int (iI ((to : Int)))), (2, .int (iI ((fr : Int))))] := hl
  refine x_iconst hx hb dX0_copyPoly_0 ?_
  refine lv_istore_n (lv' := [(3, .int (iI (0))), (0, .ref h), (1, .int (iI ((to : Int)))), (2, .int (iI ((fr : Int))))]) hx hb dX0_copyPoly_1 rfl hl (by decide) rfl (fun ls hl => ?_)
  have lp_2 : ∀ (n : Nat) (i : Nat) (Bc : Nat → Sr) (hi : i ≤ 24) (hn : 24 < i + n) (hI : Fill 24 B to (B fr) 0 i Bc) (H : Heap) (locs : List Loc), va_P D vwCl (EW h qb qr d (Bc, g)) H → va_D A (EW h qb qr d (Bc, g)) → va_S A s.heap H locs → ∀ ls : Array Slot, lv_has ls 4 [(0, .ref h), (1, .int (iI ((to : Int)))), (2, .int (iI ((fr : Int)))), (3, .int (iI ((i : Int))))] → W p l e (rK 0 0) s m args below meth c H locs 0 0 Q (F0 m 2 ls []) := by
    intro n
    induction n with
    | zero =>
      intro i Bc hi hn hI
      exfalso
      omega
    | succ n ih_2 =>
      intro i Bc hi hn hI H locs hP hD hS ls hl
      refine lv_iload_n hx hb dX0_copyPoly_2 rfl (lv_at hl 3 rfl) ?_
      refine x_bipush hx hb dX0_copyPoly_3 (by decide) ?_
      refine x_icmp_ge (tgt := 36) hx hb (by omega) dX0_copyPoly_5 (by decide) (fun c_5 => ?_) (fun c_5 => ?_)
      · -- t 36
        rw [EW_congr _ (fill_end hI (by omega))] at hP hD
        exact hret _ H locs _ _ (⟨_, rfl, rfl⟩) hP hD hS dX0_copyPoly_36
      · -- f 8
        refine lv_aload_n hx hb dX0_copyPoly_8 rfl (lv_at hl 0 rfl) ?_
        refine e_getb hx hb hts hown hK hP dX0_copyPoly_9 ?_
        refine lv_iload_n hx hb dX0_copyPoly_12 rfl (lv_at hl 1 rfl) ?_
        refine x_bipush hx hb dX0_copyPoly_13 (by decide) ?_
        refine x_imul hx hb dX0_copyPoly_15 ?_
        refine lv_iload_n hx hb dX0_copyPoly_16 rfl (lv_at hl 3 rfl) ?_
        refine x_iadd hx hb dX0_copyPoly_17 ?_
        refine lv_aload_n hx hb dX0_copyPoly_18 rfl (lv_at hl 0 rfl) ?_
        refine e_getb hx hb hts hown hK hP dX0_copyPoly_19 ?_
        refine lv_iload_n hx hb dX0_copyPoly_22 rfl (lv_at hl 2 rfl) ?_
        refine x_bipush hx hb dX0_copyPoly_23 (by decide) ?_
        refine x_imul hx hb dX0_copyPoly_25 ?_
        refine lv_iload_n hx hb dX0_copyPoly_26 rfl (lv_at hl 3 rfl) ?_
        refine x_iadd hx hb dX0_copyPoly_27 ?_
        refine e_bld hx hb hK hP (fr) (i) (by omega) dX0_copyPoly_28 ?_
        refine e_bst hx hb hK hP hD hS (to) (i) (Bc fr i) (rfl) (by omega) dX0_copyPoly_29 (fun H locs hP hD hS => ?_)
        obtain ⟨B1, eB1⟩ : ∃ z, z = setB Bc (to) (i) (Bc fr i) := ⟨_, rfl⟩
        rw [← eB1] at hP hD
        refine x_iinc (v := ((i + 1 : Nat) : Int)) (lv' := [(3, .int (iI (((i + 1 : Nat) : Int)))), (0, .ref h), (1, .int (iI ((to : Int)))), (2, .int (iI ((fr : Int))))]) hx hb dX0_copyPoly_30 hl (k := 3) rfl (by omega) (by decide) rfl (fun ls hl => ?_)
        refine lv_goto (tgt := 2) hx hb dX0_copyPoly_33 (by decide) ?_
        exact ih_2 (i + 1) B1 (by omega) (by omega) (by rw [eB1]; exact fill_s hI (by omega) (fill_at hI (by omega) (by omega))) H locs hP hD hS ls (lv_sub hl [1, 2, 3, 0] rfl)
  exact lp_2 25 0 B (by omega) (by omega) (fill_0 _ _ _ _ _) H locs hP hD hS ls (lv_sub hl [1, 2, 3, 0] rfl)
abbrev wsX0_scalePoly : List Cond := ws_ yX0_scalePoly cX0_scalePoly 4 none
set_option maxHeartbeats 4000000 in
set_option maxRecDepth 100000 in
/-- scalePoly(k, x) -/
theorem metX0_scalePoly (l : Launch) (D : va_G) (d : ClassId) (h qb qr : Nat) (B : Nat → Sr) (g : Sr) (k : Nat) (x : Fp) (h1 : k < 13) : gMv l yX0_scalePoly wsX0_scalePoly (rK 0 0) D d (EW h qb qr d) (B, g) h [.int (iI ((k : Int))), .int (iI ((x.val : Int)))] (fun u => ∃ B1, u = (B1, g) ∧ B1 = setP B k (sc x (B k))) := by
  refine g_entryv (by decide) (Nat.le_of_ble_eq_true rfl) ?_
  intro p e s m args below meth c A Q hx hb hml hown hts hK hA hret H locs hP hD hS ls hl
  have hl : lv_has ls 4 [(0, .ref h), (1, .int (iI ((k : Int)))), (2, .int (iI ((x.val : Int))))] := hl
  refine x_iconst hx hb dX0_scalePoly_0 ?_
  refine lv_istore_n (lv' := [(3, .int (iI (0))), (0, .ref h), (1, .int (iI ((k : Int)))), (2, .int (iI ((x.val : Int))))]) hx hb dX0_scalePoly_1 rfl hl (by decide) rfl (fun ls hl => ?_)
  have lp_2 : ∀ (n : Nat) (i : Nat) (Bc : Nat → Sr) (hi : i ≤ 24) (hn : 24 < i + n) (hI : Fill 24 B k (sc x (B k)) 0 i Bc) (H : Heap) (locs : List Loc), va_P D vwCl (EW h qb qr d (Bc, g)) H → va_D A (EW h qb qr d (Bc, g)) → va_S A s.heap H locs → ∀ ls : Array Slot, lv_has ls 4 [(0, .ref h), (1, .int (iI ((k : Int)))), (2, .int (iI ((x.val : Int)))), (3, .int (iI ((i : Int))))] → W p l e (rK 0 0) s m args below meth c H locs 0 0 Q (F0 m 2 ls []) := by
    intro n
    induction n with
    | zero =>
      intro i Bc hi hn hI
      exfalso
      omega
    | succ n ih_2 =>
      intro i Bc hi hn hI H locs hP hD hS ls hl
      refine lv_iload_n hx hb dX0_scalePoly_2 rfl (lv_at hl 3 rfl) ?_
      refine x_bipush hx hb dX0_scalePoly_3 (by decide) ?_
      refine x_icmp_ge (tgt := 41) hx hb (by omega) dX0_scalePoly_5 (by decide) (fun c_5 => ?_) (fun c_5 => ?_)
      · -- t 41
        rw [EW_congr _ (fill_end hI (by omega))] at hP hD
        exact hret _ H locs _ _ (⟨_, rfl, rfl⟩) hP hD hS dX0_scalePoly_41
      · -- f 8
        refine lv_aload_n hx hb dX0_scalePoly_8 rfl (lv_at hl 0 rfl) ?_
        refine e_getb hx hb hts hown hK hP dX0_scalePoly_9 ?_
        refine lv_iload_n hx hb dX0_scalePoly_12 rfl (lv_at hl 1 rfl) ?_
        refine x_bipush hx hb dX0_scalePoly_13 (by decide) ?_
        refine x_imul hx hb dX0_scalePoly_15 ?_
        refine lv_iload_n hx hb dX0_scalePoly_16 rfl (lv_at hl 3 rfl) ?_
        refine x_iadd hx hb dX0_scalePoly_17 ?_
        refine lv_aload_n hx hb dX0_scalePoly_18 rfl (lv_at hl 0 rfl) ?_
        refine e_getb hx hb hts hown hK hP dX0_scalePoly_19 ?_
        refine lv_iload_n hx hb dX0_scalePoly_22 rfl (lv_at hl 1 rfl) ?_
        refine x_bipush hx hb dX0_scalePoly_23 (by decide) ?_
        refine x_imul hx hb dX0_scalePoly_25 ?_
        refine lv_iload_n hx hb dX0_scalePoly_26 rfl (lv_at hl 3 rfl) ?_
        refine x_iadd hx hb dX0_scalePoly_27 ?_
        refine e_bld hx hb hK hP (k) (i) (by omega) dX0_scalePoly_28 ?_
        refine lv_iload_n hx hb dX0_scalePoly_29 rfl (lv_at hl 2 rfl) ?_
        refine x_imul hx hb dX0_scalePoly_30 ?_
        refine x_bipush hx hb dX0_scalePoly_31 (by decide) ?_
        refine x_irem hx hb (Bc k i * x) (toF_mulV _ _) (by have := fp_mul_lt (Bc k i) x; omega) dX0_scalePoly_33 ?_
        refine e_bst hx hb hK hP hD hS (k) (i) (Bc k i * x) (rfl) (by omega) dX0_scalePoly_34 (fun H locs hP hD hS => ?_)
        obtain ⟨B1, eB1⟩ : ∃ z, z = setB Bc (k) (i) (Bc k i * x) := ⟨_, rfl⟩
        rw [← eB1] at hP hD
        refine x_iinc (v := ((i + 1 : Nat) : Int)) (lv' := [(3, .int (iI (((i + 1 : Nat) : Int)))), (0, .ref h), (1, .int (iI ((k : Int)))), (2, .int (iI ((x.val : Int))))]) hx hb dX0_scalePoly_35 hl (k := 3) rfl (by omega) (by decide) rfl (fun ls hl => ?_)
        refine lv_goto (tgt := 2) hx hb dX0_scalePoly_38 (by decide) ?_
        exact ih_2 (i + 1) B1 (by omega) (by omega) (by rw [eB1]; exact fill_s hI (by omega) (by rw [fill_at hI (by omega) (by omega)]; exact Fin.mul_comm _ _)) H locs hP hD hS ls (lv_sub hl [1, 2, 3, 0] rfl)
  exact lp_2 25 0 B (by omega) (by omega) (fill_0 _ _ _ _ _) H locs hP hD hS ls (lv_sub hl [1, 2, 3, 0] rfl)
abbrev wsX0_addTimes : List Cond := ws_ yX0_addTimes cX0_addTimes 6 none
set_option maxHeartbeats 4000000 in
set_option maxRecDepth 100000 in
/-- addTimes(k, a, x, places) -/
theorem metX0_addTimes (l : Launch) (D : va_G) (d : ClassId) (h qb qr : Nat) (B : Nat → Sr) (g : Sr) (k a : Nat) (x : Int) (pl : Nat) (h1 : k < 13) (h2 : a < 13) (h3 : a ≠ k) (h4 : 0 ≤ x ∧ x ≤ 101) (h5 : pl ≤ 24) : gMv l yX0_addTimes wsX0_addTimes (rK 1 21) D d (EW h qb qr d) (B, g) h [.int (iI ((k : Int))), .int (iI ((a : Int))), .int (iI (x)), .int (iI ((pl : Int)))] (fun u => ∃ B1, u = (B1, g) ∧ B1 = setP B k (fun j => if pl ≤ j then B k j + toF x * B a (j - pl) else B k j)) := by
  refine g_entryv (by decide) (Nat.le_of_ble_eq_true rfl) ?_
  intro p e s m args below meth c A Q hx hb hml hown hts hK hA hret H locs hP hD hS ls hl
  have hl : lv_has ls 6 [(0, .ref h), (1, .int (iI ((k : Int)))), (2, .int (iI ((a : Int)))), (3, .int (iI (x))), (4, .int (iI ((pl : Int))))] := hl
  refine lv_iload hx hb dX0_addTimes_0 (lv_at hl 4 rfl) ?_
  refine lv_istore (lv' := [(5, .int (iI ((pl : Int)))), (0, .ref h), (1, .int (iI ((k : Int)))), (2, .int (iI ((a : Int)))), (3, .int (iI (x))), (4, .int (iI ((pl : Int))))]) hx hb dX0_addTimes_2 hl (by decide) rfl (fun ls hl => ?_)
  have lp_4 : ∀ (n : Nat) (i : Nat) (Bc : Nat → Sr) (hi : pl ≤ i ∧ i ≤ 24) (hn : 24 < i + n) (hI : Fill 24 B k (fun j => B k j + toF x * B a (j - pl)) pl i Bc) (H : Heap) (locs : List Loc), va_P D vwCl (EW h qb qr d (Bc, g)) H → va_D A (EW h qb qr d (Bc, g)) → va_S A s.heap H locs → ∀ ls : Array Slot, lv_has ls 6 [(0, .ref h), (1, .int (iI ((k : Int)))), (2, .int (iI ((a : Int)))), (3, .int (iI (x))), (4, .int (iI ((pl : Int)))), (5, .int (iI ((i : Int))))] → W p l e (rK 1 21) s m args below meth c H locs 0 0 Q (F0 m 4 ls []) := by
    intro n
    induction n with
    | zero =>
      intro i Bc hi hn hI
      exfalso
      omega
    | succ n ih_4 =>
      intro i Bc hi hn hI H locs hP hD hS ls hl
      refine lv_iload hx hb dX0_addTimes_4 (lv_at hl 5 rfl) ?_
      refine x_bipush hx hb dX0_addTimes_6 (by decide) ?_
      refine x_icmp_ge (tgt := 62) hx hb (by omega) dX0_addTimes_8 (by decide) (fun c_8 => ?_) (fun c_8 => ?_)
      · -- t 62
        rw [EW_congr _ (fill_endl hI (by omega))] at hP hD
        exact hret _ H locs _ _ (⟨_, rfl, rfl⟩) hP hD hS dX0_addTimes_62
      · -- f 11
        refine lv_aload_n hx hb dX0_addTimes_11 rfl (lv_at hl 0 rfl) ?_
        refine e_getb hx hb hts hown hK hP dX0_addTimes_12 ?_
        refine lv_iload_n hx hb dX0_addTimes_15 rfl (lv_at hl 1 rfl) ?_
        refine x_bipush hx hb dX0_addTimes_16 (by decide) ?_
        refine x_imul hx hb dX0_addTimes_18 ?_
        refine lv_iload hx hb dX0_addTimes_19 (lv_at hl 5 rfl) ?_
        refine x_iadd hx hb dX0_addTimes_21 ?_
        refine lv_aload_n hx hb dX0_addTimes_22 rfl (lv_at hl 0 rfl) ?_
        refine e_getb hx hb hts hown hK hP dX0_addTimes_23 ?_
        refine lv_iload_n hx hb dX0_addTimes_26 rfl (lv_at hl 1 rfl) ?_
        refine x_bipush hx hb dX0_addTimes_27 (by decide) ?_
        refine x_imul hx hb dX0_addTimes_29 ?_
        refine lv_iload hx hb dX0_addTimes_30 (lv_at hl 5 rfl) ?_
        refine x_iadd hx hb dX0_addTimes_32 ?_
        refine e_bld hx hb hK hP (k) (i) (by omega) dX0_addTimes_33 ?_
        refine lv_iload_n hx hb dX0_addTimes_34 rfl (lv_at hl 3 rfl) ?_
        refine lv_aload_n hx hb dX0_addTimes_35 rfl (lv_at hl 0 rfl) ?_
        refine e_getb hx hb hts hown hK hP dX0_addTimes_36 ?_
        refine lv_iload_n hx hb dX0_addTimes_39 rfl (lv_at hl 2 rfl) ?_
        refine x_bipush hx hb dX0_addTimes_40 (by decide) ?_
        refine x_imul hx hb dX0_addTimes_42 ?_
        refine lv_iload hx hb dX0_addTimes_43 (lv_at hl 5 rfl) ?_
        refine x_iadd hx hb dX0_addTimes_45 ?_
        refine lv_iload hx hb dX0_addTimes_46 (lv_at hl 4 rfl) ?_
        refine x_isub hx hb dX0_addTimes_48 ?_
        refine e_bld hx hb hK hP (a) (i - pl) (by omega) dX0_addTimes_49 ?_
        refine x_imul hx hb dX0_addTimes_50 ?_
        refine x_iadd hx hb dX0_addTimes_51 ?_
        refine s_calli ⟨hx, hb, hml, hown, hts⟩ (metX0_mod l (((Bc k i).val : Int) + x * ((Bc a (i - pl)).val : Int)) (x_bx h4 _ _)) (va_cwS 1 hts (lw_S q63 q64 q33 q65) rfl rfl rfl (by decide +kernel) ⟨Nat.le_of_ble_eq_true rfl, Nat.le_of_ble_eq_true rfl⟩) hA hP hS rfl hl.1 rfl (Nat.le_of_ble_eq_true rfl) dX0_addTimes_52 ⟨Nat.zero_le _, Nat.zero_le _⟩ (fun r H locs hq hP hS => ?_)
        obtain rfl := hq
        have eF : toF (((Bc k i).val : Int) + x * ((Bc a (i - pl)).val : Int)) = Bc k i + toF x * Bc a (i - pl) := by rw [toF_add, toF_mul, toF_of, toF_of]
        rw [eF]
        refine e_bst hx hb hK hP hD hS (k) (i) (Bc k i + toF x * Bc a (i - pl)) (rfl) (by omega) dX0_addTimes_55 (fun H locs hP hD hS => ?_)
        obtain ⟨B1, eB1⟩ : ∃ z, z = setB Bc (k) (i) (Bc k i + toF x * Bc a (i - pl)) := ⟨_, rfl⟩
        rw [← eB1] at hP hD
        refine x_iinc (v := ((i + 1 : Nat) : Int)) (lv' := [(5, .int (iI (((i + 1 : Nat) : Int)))), (0, .ref h), (1, .int (iI ((k : Int)))), (2, .int (iI ((a : Int)))), (3, .int (iI (x))), (4, .int (iI ((pl : Int))))]) hx hb dX0_addTimes_56 hl (k := 5) rfl (by omega) (by decide) rfl (fun ls hl => ?_)
        refine lv_goto (tgt := 4) hx hb dX0_addTimes_59 (by decide) ?_
        exact ih_4 (i + 1) B1 (by omega) (by omega) (by rw [eB1]; exact fill_s hI (by omega) (by rw [fill_at hI (by omega) (by omega), fill_at hI (k2 := a) (by omega) (by omega)])) H locs hP hD hS ls (lv_sub hl [1, 2, 3, 4, 5, 0] rfl)
  exact lp_4 25 pl B (by omega) (by omega) (fill_0 _ _ _ _ _) H locs hP hD hS ls (lv_sub hl [1, 2, 3, 4, 5, 0] rfl)
end
section
/-! RecurrenceEngine: products, quotients, lowest terms -/
set_option maxRecDepth 100000
theorem deg_nz {p : Sr} {L : Nat} (h : Deg p L) (hL : 1 ≤ L) : p (L - 1) ≠ 0 := by
  rcases h.2.2 with q | q
  · omega
  · exact q
theorem step_eq {B B1 B2 B3 : Nat → Sr} (e1 : B1 = setP B 3 z0) (e2 : B2 = setB B1 3 0 1) (e3 : B3 = setB B2 3 1 (-1)) : ∀ k n, n < 24 → B3 k n = setP B 3 stp k n := by
  intro k n _
  rw [e3, e2, e1]
  simp only [setB, setP, stp, z0]
  by_cases h : k = 3
  · by_cases h1 : n = 1
    · subst h1; simp [h]
    · by_cases h2 : n = 0
      · subst h2; simp [h]
      · simp [h, h1, h2]
  · simp [h]
abbrev wsX0_multiply : List Cond := ws_ yX0_multiply cX0_multiply 6 none
set_option maxHeartbeats 4000000 in
set_option maxRecDepth 100000 in
/-- multiply(to, a, b) -/
theorem metX0_multiply (l : Launch) (D : va_G) (d : ClassId) (h qb qr : Nat) (B : Nat → Sr) (g : Sr) (to a b : Nat) (h1 : to < 13) (h2 : a < 13) (h3 : b < 13) (ha : a ≠ 4) (hb4 : b ≠ 4) : gMv l yX0_multiply wsX0_multiply (rK 2 46) D d (EW h qb qr d) (B, g) h [.int (iI ((to : Int))), .int (iI ((a : Int))), .int (iI ((b : Int)))] (fun u => ∃ B1, u = (B1, g) ∧ B1 = setP (setP B 4 (tr24 (cv (B a) (B b)))) to (tr24 (cv (B a) (B b)))) := by
  refine g_entryv (by decide) (Nat.le_of_ble_eq_true rfl) ?_
  intro p e s m args below meth c A Q hx hb hml hown hts hK hA hret H locs hP hD hS ls hl
  have hl : lv_has ls 6 [(0, .ref h), (1, .int (iI ((to : Int)))), (2, .int (iI ((a : Int)))), (3, .int (iI ((b : Int))))] := hl
  refine lv_aload_n hx hb dX0_multiply_0 rfl (lv_at hl 0 rfl) ?_
  refine x_iconst hx hb dX0_multiply_1 ?_
  refine g_callv ⟨hx, hb, hml, hown, hts⟩ (metX0_clearPoly l D d h qb qr B g 4 (by omega)) (cwV 1 hts (lw_V q59 q61 qs0 q33 q62) rfl rfl rfl (by decide +kernel) ⟨Nat.le_of_ble_eq_true rfl, Nat.le_of_ble_eq_true rfl⟩) (va_recv hK hP (ci := 0) (q0 := 0) rfl rfl) hK hA hP hD hS rfl hl.1 rfl (Nat.le_of_ble_eq_true rfl) dX0_multiply_2 ⟨Nat.zero_le _, Nat.zero_le _⟩ (fun u H locs hq hP hD hS => ?_)
  obtain ⟨B1, rfl, eB1⟩ := hq
  refine lv_aload_n hx hb dX0_multiply_5 rfl (lv_at hl 0 rfl) ?_
  refine lv_iload_n hx hb dX0_multiply_6 rfl (lv_at hl 2 rfl) ?_
  refine g_calli ⟨hx, hb, hml, hown, hts⟩ (metX0_degree l D d h qb qr B1 g a (by omega)) (cwV 1 hts (lw_V q70 q72 qs2 q33 q73) rfl rfl rfl (by decide +kernel) ⟨Nat.le_of_ble_eq_true rfl, Nat.le_of_ble_eq_true rfl⟩) (va_recv hK hP (ci := 0) (q0 := 0) rfl rfl) hK hA hP hD hS rfl hl.1 rfl (Nat.le_of_ble_eq_true rfl) dX0_multiply_7 ⟨Nat.zero_le _, Nat.zero_le _⟩ (fun r u H locs hq hP hD hS => ?_)
  obtain ⟨L, rfl, rfl, hL⟩ := hq
  have hL24 := hL.1
  rw [eB1, setP_ne B z0 ha] at hL
  refine lv_istore (lv' := [(4, .int (iI (((L : Int) - 1)))), (0, .ref h), (1, .int (iI ((to : Int)))), (2, .int (iI ((a : Int)))), (3, .int (iI ((b : Int))))]) hx hb dX0_multiply_10 hl (by decide) rfl (fun ls hl => ?_)
  refine x_iconst hx hb dX0_multiply_12 ?_
  refine lv_istore (lv' := [(5, .int (iI (0))), (4, .int (iI (((L : Int) - 1)))), (0, .ref h), (1, .int (iI ((to : Int)))), (2, .int (iI ((a : Int)))), (3, .int (iI ((b : Int))))]) hx hb dX0_multiply_13 hl (by decide) rfl (fun ls hl => ?_)
  have lp_15 : ∀ (n : Nat) (i : Nat) (Bc : Nat → Sr) (hi : i ≤ L) (hn : L < i + n) (hI : MulI B a b i Bc) (H : Heap) (locs : List Loc), va_P D vwCl (EW h qb qr d (Bc, g)) H → va_D A (EW h qb qr d (Bc, g)) → va_S A s.heap H locs → ∀ ls : Array Slot, lv_has ls 6 [(0, .ref h), (1, .int (iI ((to : Int)))), (2, .int (iI ((a : Int)))), (3, .int (iI ((b : Int)))), (4, .int (iI (((L : Int) - 1)))), (5, .int (iI ((i : Int))))] → W p l e (rK 2 46) s m args below meth c H locs 0 0 Q (F0 m 15 ls []) := by
    intro n
    induction n with
    | zero =>
      intro i Bc hi hn hI
      exfalso
      omega
    | succ n ih_15 =>
      intro i Bc hi hn hI H locs hP hD hS ls hl
      refine lv_iload hx hb dX0_multiply_15 (lv_at hl 5 rfl) ?_
      refine lv_iload hx hb dX0_multiply_17 (lv_at hl 4 rfl) ?_
      refine x_icmp_gt (tgt := 48) hx hb (by omega) dX0_multiply_19 (by decide) (fun c_19 => ?_) (fun c_19 => ?_)
      · -- t 48
        refine lv_aload_n hx hb dX0_multiply_48 rfl (lv_at hl 0 rfl) ?_
        refine lv_iload_n hx hb dX0_multiply_49 rfl (lv_at hl 1 rfl) ?_
        refine x_iconst hx hb dX0_multiply_50 ?_
        refine g_callv ⟨hx, hb, hml, hown, hts⟩ (metX0_copyPoly l D d h qb qr Bc g to 4 (by omega) (by omega)) (cwV 2 hts (lw_V q78 q80 qs4 q33 q81) rfl rfl rfl (by decide +kernel) ⟨Nat.le_of_ble_eq_true rfl, Nat.le_of_ble_eq_true rfl⟩) (va_recv hK hP (ci := 0) (q0 := 0) rfl rfl) hK hA hP hD hS rfl hl.1 rfl (Nat.le_of_ble_eq_true rfl) dX0_multiply_51 ⟨Nat.zero_le _, Nat.zero_le _⟩ (fun u H locs hq hP hD hS => ?_)
        obtain ⟨B3, rfl, eB3⟩ := hq
        have : i = L := by omega
        subst this
        rw [eB3, EW_congr _ (mul_end to hI hL)] at hP hD
        exact hret _ H locs _ _ (⟨_, rfl, rfl⟩) hP hD hS dX0_multiply_54
      · -- f 22
        refine lv_aload_n hx hb dX0_multiply_22 rfl (lv_at hl 0 rfl) ?_
        refine x_iconst hx hb dX0_multiply_23 ?_
        refine lv_iload_n hx hb dX0_multiply_24 rfl (lv_at hl 3 rfl) ?_
        refine lv_aload_n hx hb dX0_multiply_25 rfl (lv_at hl 0 rfl) ?_
        refine e_getb hx hb hts hown hK hP dX0_multiply_26 ?_
        refine lv_iload_n hx hb dX0_multiply_29 rfl (lv_at hl 2 rfl) ?_
        refine x_bipush hx hb dX0_multiply_30 (by decide) ?_
        refine x_imul hx hb dX0_multiply_32 ?_
        refine lv_iload hx hb dX0_multiply_33 (lv_at hl 5 rfl) ?_
        refine x_iadd hx hb dX0_multiply_35 ?_
        refine e_bld hx hb hK hP (a) (i) (by omega) dX0_multiply_36 ?_
        refine lv_iload hx hb dX0_multiply_37 (lv_at hl 5 rfl) ?_
        refine g_callv ⟨hx, hb, hml, hown, hts⟩ (metX0_addTimes l D d h qb qr Bc g 4 b ((Bc a i).val : Int) i (by omega) (by omega) hb4 (by omega) (by omega)) (cwV 4 hts (lw_V q74 q76 qs3 q33 q77) rfl rfl rfl (by decide +kernel) ⟨Nat.le_of_ble_eq_true rfl, Nat.le_of_ble_eq_true rfl⟩) (va_recv hK hP (ci := 0) (q0 := 0) rfl rfl) hK hA hP hD hS rfl hl.1 rfl (Nat.le_of_ble_eq_true rfl) dX0_multiply_39 ⟨Nat.zero_le _, Nat.zero_le _⟩ (fun u H locs hq hP hD hS => ?_)
        obtain ⟨B2, rfl, eB2⟩ := hq
        refine x_iinc (v := ((i + 1 : Nat) : Int)) (lv' := [(5, .int (iI (((i + 1 : Nat) : Int)))), (0, .ref h), (1, .int (iI ((to : Int)))), (2, .int (iI ((a : Int)))), (3, .int (iI ((b : Int)))), (4, .int (iI (((L : Int) - 1))))]) hx hb dX0_multiply_42 hl (k := 5) rfl (by omega) (by decide) rfl (fun ls hl => ?_)
        refine lv_goto (tgt := 15) hx hb dX0_multiply_45 (by decide) ?_
        exact ih_15 (i + 1) B2 (by omega) (by omega) (by rw [eB2, toF_of]; exact mul_s hI ha hb4 rfl) H locs hP hD hS ls (lv_sub hl [1, 2, 3, 4, 5, 0] rfl)
  exact lp_15 25 0 B1 (by omega) (by omega) (by rw [eB1]; exact mul_0 B a b) H locs hP hD hS ls (lv_sub hl [2, 3, 4, 5, 1, 0] rfl)
abbrev wsX0_divide : List Cond := ws_ yX0_divide cX0_divide 7 none
set_option maxHeartbeats 4000000 in
set_option maxRecDepth 100000 in
/-- divide(a, b): the rest in a, the quotient in T -/
theorem metX0_divide (l : Launch) (D : va_G) (d : ClassId) (h qb qr : Nat) (B : Nat → Sr) (g : Sr) (a b : Nat) (h1 : a < 13) (h2 : b < 13) (ha : a ≠ 4) (hb4 : b ≠ 4) (hab : b ≠ a) (hnz : ¬ ∀ n, n < 24 → B b n = 0) : gMv l yX0_divide wsX0_divide (rK 2 46) D d (EW h qb qr d) (B, g) h [.int (iI ((a : Int))), .int (iI ((b : Int)))] (fun u => ∃ B1, u = (B1, g) ∧ ∃ (qq rr : Sr) (DD : Nat), B1 = setP (setP B a rr) 4 qq ∧ DivR (B a) (B b) DD qq rr) := by
  refine g_entryv (by decide) (Nat.le_of_ble_eq_true rfl) ?_
  intro p e s m args below meth c A Q hx hb hml hown hts hK hA hret H locs hP hD hS ls hl
  have hl : lv_has ls 7 [(0, .ref h), (1, .int (iI ((a : Int)))), (2, .int (iI ((b : Int))))] := hl
  refine lv_aload_n hx hb dX0_divide_0 rfl (lv_at hl 0 rfl) ?_
  refine x_iconst hx hb dX0_divide_1 ?_
  refine g_callv ⟨hx, hb, hml, hown, hts⟩ (metX0_clearPoly l D d h qb qr B g 4 (by omega)) (cwV 1 hts (lw_V q59 q61 qs0 q33 q62) rfl rfl rfl (by decide +kernel) ⟨Nat.le_of_ble_eq_true rfl, Nat.le_of_ble_eq_true rfl⟩) (va_recv hK hP (ci := 0) (q0 := 0) rfl rfl) hK hA hP hD hS rfl hl.1 rfl (Nat.le_of_ble_eq_true rfl) dX0_divide_2 ⟨Nat.zero_le _, Nat.zero_le _⟩ (fun u H locs hq hP hD hS => ?_)
  obtain ⟨B1, rfl, eB1⟩ := hq
  refine lv_aload_n hx hb dX0_divide_5 rfl (lv_at hl 0 rfl) ?_
  refine lv_iload_n hx hb dX0_divide_6 rfl (lv_at hl 2 rfl) ?_
  refine g_calli ⟨hx, hb, hml, hown, hts⟩ (metX0_degree l D d h qb qr B1 g b (by omega)) (cwV 1 hts (lw_V q70 q72 qs2 q33 q73) rfl rfl rfl (by decide +kernel) ⟨Nat.le_of_ble_eq_true rfl, Nat.le_of_ble_eq_true rfl⟩) (va_recv hK hP (ci := 0) (q0 := 0) rfl rfl) hK hA hP hD hS rfl hl.1 rfl (Nat.le_of_ble_eq_true rfl) dX0_divide_7 ⟨Nat.zero_le _, Nat.zero_le _⟩ (fun r u H locs hq hP hD hS => ?_)
  obtain ⟨L, rfl, rfl, hL⟩ := hq
  have hL24 := hL.1
  rw [eB1, setP_ne B z0 hb4] at hL
  refine lv_istore_n (lv' := [(3, .int (iI (((L : Int) - 1)))), (0, .ref h), (1, .int (iI ((a : Int)))), (2, .int (iI ((b : Int))))]) hx hb dX0_divide_10 rfl hl (by decide) rfl (fun ls hl => ?_)
  refine lv_iload_n hx hb dX0_divide_11 rfl (lv_at hl 0 rfl) ?_
  refine x_if_ge (tgt := 16) hx hb (by omega) dX0_divide_12 (by decide) (fun c_12 => ?_) (fun c_12 => ?_)
  · -- t 16
    refine lv_aload_n hx hb dX0_divide_16 rfl (lv_at hl 1 rfl) ?_
    refine e_getb hx hb hts hown hK hP dX0_divide_17 ?_
    refine lv_iload_n hx hb dX0_divide_20 rfl (lv_at hl 3 rfl) ?_
    refine x_bipush hx hb dX0_divide_21 (by decide) ?_
    refine x_imul hx hb dX0_divide_23 ?_
    refine lv_iload_n hx hb dX0_divide_24 rfl (lv_at hl 0 rfl) ?_
    refine x_iadd hx hb dX0_divide_25 ?_
    refine e_bld hx hb hK hP (b) (L - 1) (by omega) dX0_divide_26 ?_
    refine s_calli ⟨hx, hb, hml, hown, hts⟩ (metX0_inverse l (B1 b (L - 1))) (va_cwS 1 hts (lw_S q98 q99 q33 q100) rfl rfl rfl (by decide +kernel) ⟨Nat.le_of_ble_eq_true rfl, Nat.le_of_ble_eq_true rfl⟩) hA hP hS rfl hl.1 rfl (Nat.le_of_ble_eq_true rfl) dX0_divide_27 ⟨Nat.zero_le _, Nat.zero_le _⟩ (fun r H locs hq hP hS => ?_)
    obtain rfl := hq
    rw [eB1, setP_ne B z0 hb4]
    have hy : B b (L - 1) * fpw (B b (L - 1)) 99 = 1 := fpw_inv _ (deg_nz hL (by omega))
    refine lv_istore (lv' := [(4, .int (iI (((fpw (B b (L - 1)) 99).val : Int)))), (3, .int (iI (((L : Int) - 1)))), (0, .ref h), (1, .int (iI ((a : Int)))), (2, .int (iI ((b : Int))))]) hx hb dX0_divide_30 hl (by decide) rfl (fun ls hl => ?_)
    refine x_bipush hx hb dX0_divide_32 (by decide) ?_
    refine x_top (((24 : Nat) : Int) - 1) (by decide) ?_
    refine lv_istore (lv' := [(5, .int (iI (((24 : Nat) : Int) - 1))), (4, .int (iI (((fpw (B b (L - 1)) 99).val : Int)))), (3, .int (iI (((L : Int) - 1)))), (0, .ref h), (1, .int (iI ((a : Int)))), (2, .int (iI ((b : Int))))]) hx hb dX0_divide_34 hl (by decide) rfl (fun ls hl => ?_)
    have lp_36 : ∀ (n : Nat) (E : Nat) (Bc : Nat → Sr) (hi : E ≤ 24 ∧ L ≤ E + 1) (hn : E + 1 < L + n) (hI : DivI B a b L E Bc) (H : Heap) (locs : List Loc), va_P D vwCl (EW h qb qr d (Bc, g)) H → va_D A (EW h qb qr d (Bc, g)) → va_S A s.heap H locs → ∀ ls : Array Slot, lv_has ls 7 [(0, .ref h), (1, .int (iI ((a : Int)))), (2, .int (iI ((b : Int)))), (3, .int (iI (((L : Int) - 1)))), (4, .int (iI (((fpw (B b (L - 1)) 99).val : Int)))), (5, .int (iI ((E : Int) - 1)))] → W p l e (rK 2 46) s m args below meth c H locs 0 0 Q (F0 m 36 ls []) := by
      intro n
      induction n with
      | zero =>
        intro E Bc hi hn hI
        exfalso
        omega
      | succ n ih_36 =>
        intro E Bc hi hn hI H locs hP hD hS ls hl
        refine lv_iload hx hb dX0_divide_36 (lv_at hl 5 rfl) ?_
        refine lv_iload_n hx hb dX0_divide_38 rfl (lv_at hl 3 rfl) ?_
        refine x_icmp_lt (tgt := 97) hx hb (by omega) dX0_divide_39 (by decide) (fun c_39 => ?_) (fun c_39 => ?_)
        · -- t 97
          have hE : E = L - 1 := by omega
          subst hE
          obtain ⟨hc, hr⟩ := div_end ha (by omega) hL hI
          rw [EW_congr _ hc] at hP hD
          exact hret _ H locs _ _ (⟨_, rfl, _, _, _, rfl, hr⟩) hP hD hS dX0_divide_97
        · -- f 42
          refine lv_aload_n hx hb dX0_divide_42 rfl (lv_at hl 0 rfl) ?_
          refine e_getb hx hb hts hown hK hP dX0_divide_43 ?_
          refine lv_iload_n hx hb dX0_divide_46 rfl (lv_at hl 1 rfl) ?_
          refine x_bipush hx hb dX0_divide_47 (by decide) ?_
          refine x_imul hx hb dX0_divide_49 ?_
          refine lv_iload hx hb dX0_divide_50 (lv_at hl 5 rfl) ?_
          refine x_iadd hx hb dX0_divide_52 ?_
          refine e_bld hx hb hK hP (a) (E - 1) (by omega) dX0_divide_53 ?_
          refine lv_iload hx hb dX0_divide_54 (lv_at hl 4 rfl) ?_
          refine x_imul hx hb dX0_divide_56 ?_
          refine x_bipush hx hb dX0_divide_57 (by decide) ?_
          refine x_irem hx hb (Bc a (E - 1) * fpw (B b (L - 1)) 99) (toF_mulV _ _) (by have := fp_mul_lt (Bc a (E - 1)) (fpw (B b (L - 1)) 99); omega) dX0_divide_59 ?_
          refine lv_istore (lv' := [(6, .int (iI (((Bc a (E - 1) * fpw (B b (L - 1)) 99).val : Int)))), (0, .ref h), (1, .int (iI ((a : Int)))), (2, .int (iI ((b : Int)))), (3, .int (iI (((L : Int) - 1)))), (4, .int (iI (((fpw (B b (L - 1)) 99).val : Int)))), (5, .int (iI ((E : Int) - 1)))]) hx hb dX0_divide_60 hl (by decide) rfl (fun ls hl => ?_)
          refine lv_aload_n hx hb dX0_divide_62 rfl (lv_at hl 1 rfl) ?_
          refine e_getb hx hb hts hown hK hP dX0_divide_63 ?_
          refine x_bipush hx hb dX0_divide_66 (by decide) ?_
          refine lv_iload hx hb dX0_divide_68 (lv_at hl 6 rfl) ?_
          refine x_iadd hx hb dX0_divide_70 ?_
          refine lv_iload_n hx hb dX0_divide_71 rfl (lv_at hl 4 rfl) ?_
          refine x_isub hx hb dX0_divide_72 ?_
          refine lv_iload hx hb dX0_divide_73 (lv_at hl 0 rfl) ?_
          refine e_bst hx hb hK hP hD hS (4) (E - L) (Bc a (E - 1) * fpw (B b (L - 1)) 99) (rfl) (by omega) dX0_divide_75 (fun H locs hP hD hS => ?_)
          obtain ⟨B2, eB2⟩ : ∃ z, z = setB Bc (4) (E - L) (Bc a (E - 1) * fpw (B b (L - 1)) 99) := ⟨_, rfl⟩
          rw [← eB2] at hP hD
          refine lv_aload_n hx hb dX0_divide_76 rfl (lv_at hl 1 rfl) ?_
          refine lv_iload_n hx hb dX0_divide_77 rfl (lv_at hl 2 rfl) ?_
          refine lv_iload_n hx hb dX0_divide_78 rfl (lv_at hl 3 rfl) ?_
          refine x_bipush hx hb dX0_divide_79 (by decide) ?_
          refine lv_iload hx hb dX0_divide_81 (lv_at hl 0 rfl) ?_
          refine x_isub hx hb dX0_divide_83 ?_
          refine lv_iload hx hb dX0_divide_84 (lv_at hl 6 rfl) ?_
          refine lv_iload_n hx hb dX0_divide_86 rfl (lv_at hl 4 rfl) ?_
          refine x_isub hx hb dX0_divide_87 ?_
          refine x_top (((E - L : Nat) : Int)) (by omega) ?_
          refine g_callv ⟨hx, hb, hml, hown, hts⟩ (metX0_addTimes l D d h qb qr B2 g a b (101 - ((Bc a (E - 1) * fpw (B b (L - 1)) 99).val : Int)) (E - L) (by omega) (by omega) hab (by omega) (by omega)) (cwV 4 hts (lw_V q74 q76 qs3 q33 q77) rfl rfl rfl (by decide +kernel) ⟨Nat.le_of_ble_eq_true rfl, Nat.le_of_ble_eq_true rfl⟩) (va_recv hK hP (ci := 0) (q0 := 0) rfl rfl) hK hA hP hD hS rfl hl.1 rfl (Nat.le_of_ble_eq_true rfl) dX0_divide_88 ⟨Nat.zero_le _, Nat.zero_le _⟩ (fun u H locs hq hP hD hS => ?_)
          obtain ⟨B3, rfl, eB3⟩ := hq
          have eF : toF (101 - ((Bc a (E - 1) * fpw (B b (L - 1)) 99).val : Int)) = -(Bc a (E - 1) * fpw (B b (L - 1)) 99) := by
            rw [toF_sub, toF_101, toF_of]; grind
          refine x_iinc (v := ((E - 1 : Nat) : Int) - 1) (lv' := [(5, .int (iI (((E - 1 : Nat) : Int) - 1))), (6, .int (iI (((Bc a (E - 1) * fpw (B b (L - 1)) 99).val : Int)))), (0, .ref h), (1, .int (iI ((a : Int)))), (2, .int (iI ((b : Int)))), (3, .int (iI (((L : Int) - 1)))), (4, .int (iI (((fpw (B b (L - 1)) 99).val : Int))))]) hx hb dX0_divide_91 hl (k := 6) rfl (by omega) (by decide) rfl (fun ls hl => ?_)
          refine lv_goto (tgt := 36) hx hb dX0_divide_94 (by decide) ?_
          exact ih_36 (E - 1) B3 (by omega) (by omega) (by rw [eB3, eF, eB2]; exact div_s hI ha hb4 hab (by omega) (by omega) (by omega) hL hy) H locs hP hD hS ls (lv_sub hl [2, 3, 4, 5, 6, 0] rfl)
    exact lp_36 25 24 B1 (by omega) (by omega) (by rw [eB1]; exact div_0 ha) H locs hP hD hS ls (lv_sub hl [3, 4, 5, 2, 1, 0] rfl)
  · -- f 15
    exact absurd (fun n hn => hL.2.1 n (by omega) hn) hnz
abbrev wsX0_commonFactor : List Cond := ws_ yX0_commonFactor cX0_commonFactor 3 none
set_option maxHeartbeats 4000000 in
set_option maxRecDepth 100000 in
/-- commonFactor() -/
theorem metX0_commonFactor (l : Launch) (D : va_G) (d : ClassId) (h qb qr : Nat) (B : Nat → Sr) (g : Sr) (h0 : van 24 (B 0)) (h1 : van 24 (B 1)) (hq0 : B 1 0 ≠ 0) : gMv l yX0_commonFactor wsX0_commonFactor (rK 3 72) D d (EW h qb qr d) (B, g) h [] (fun u => ∃ B1, u = (B1, g) ∧ (∀ k, k = 0 ∨ k = 1 ∨ 5 ≤ k → B1 k = B k) ∧ van 24 (B1 2) ∧ B1 2 0 ≠ 0 ∧ Gcd (B 0) (B 1) (B1 2)) := by
  refine g_entryv (by decide) (Nat.le_of_ble_eq_true rfl) ?_
  intro p e s m args below meth c A Q hx hb hml hown hts hK hA hret H locs hP hD hS ls hl
  have hl : lv_has ls 3 [(0, .ref h)] := hl
  refine lv_aload_n hx hb dX0_commonFactor_0 rfl (lv_at hl 0 rfl) ?_
  refine x_iconst hx hb dX0_commonFactor_1 ?_
  refine x_iconst hx hb dX0_commonFactor_2 ?_
  refine g_callv ⟨hx, hb, hml, hown, hts⟩ (metX0_copyPoly l D d h qb qr B g 2 0 (by omega) (by omega)) (cwV 2 hts (lw_V q78 q80 qs4 q33 q81) rfl rfl rfl (by decide +kernel) ⟨Nat.le_of_ble_eq_true rfl, Nat.le_of_ble_eq_true rfl⟩) (va_recv hK hP (ci := 0) (q0 := 0) rfl rfl) hK hA hP hD hS rfl hl.1 rfl (Nat.le_of_ble_eq_true rfl) dX0_commonFactor_3 ⟨Nat.zero_le _, Nat.zero_le _⟩ (fun u H locs hq hP hD hS => ?_)
  obtain ⟨B1, rfl, eB1⟩ := hq
  refine lv_aload_n hx hb dX0_commonFactor_6 rfl (lv_at hl 0 rfl) ?_
  refine x_iconst hx hb dX0_commonFactor_7 ?_
  refine x_iconst hx hb dX0_commonFactor_8 ?_
  refine g_callv ⟨hx, hb, hml, hown, hts⟩ (metX0_copyPoly l D d h qb qr B1 g 3 1 (by omega) (by omega)) (cwV 2 hts (lw_V q78 q80 qs4 q33 q81) rfl rfl rfl (by decide +kernel) ⟨Nat.le_of_ble_eq_true rfl, Nat.le_of_ble_eq_true rfl⟩) (va_recv hK hP (ci := 0) (q0 := 0) rfl rfl) hK hA hP hD hS rfl hl.1 rfl (Nat.le_of_ble_eq_true rfl) dX0_commonFactor_9 ⟨Nat.zero_le _, Nat.zero_le _⟩ (fun u H locs hq hP hD hS => ?_)
  obtain ⟨B2, rfl, eB2⟩ := hq
  refine lv_aload_n hx hb dX0_commonFactor_12 rfl (lv_at hl 0 rfl) ?_
  refine x_iconst hx hb dX0_commonFactor_13 ?_
  refine g_calli ⟨hx, hb, hml, hown, hts⟩ (metX0_degree l D d h qb qr B2 g 3 (by omega)) (cwV 1 hts (lw_V q70 q72 qs2 q33 q73) rfl rfl rfl (by decide +kernel) ⟨Nat.le_of_ble_eq_true rfl, Nat.le_of_ble_eq_true rfl⟩) (va_recv hK hP (ci := 0) (q0 := 0) rfl rfl) hK hA hP hD hS rfl hl.1 rfl (Nat.le_of_ble_eq_true rfl) dX0_commonFactor_14 ⟨Nat.zero_le _, Nat.zero_le _⟩ (fun r u H locs hq hP hD hS => ?_)
  obtain ⟨L, rfl, rfl, hL⟩ := hq
  have hL24 := hL.1
  refine lv_istore_n (lv' := [(1, .int (iI (((L : Int) - 1)))), (0, .ref h)]) hx hb dX0_commonFactor_17 rfl hl (by decide) rfl (fun ls hl => ?_)
  refine x_iconst hx hb dX0_commonFactor_18 ?_
  refine lv_istore_n (lv' := [(2, .int (iI (0))), (1, .int (iI (((L : Int) - 1)))), (0, .ref h)]) hx hb dX0_commonFactor_19 rfl hl (by decide) rfl (fun ls hl => ?_)
  have lp_20 : ∀ (n : Nat) (i L : Nat) (Bc : Nat → Sr) (hi : i ≤ 24 ∧ L ≤ 24) (hn : 24 < i + n) (hI : CF B i Bc) (hL : Deg (Bc 3) L) (H : Heap) (locs : List Loc), va_P D vwCl (EW h qb qr d (Bc, g)) H → va_D A (EW h qb qr d (Bc, g)) → va_S A s.heap H locs → ∀ ls : Array Slot, lv_has ls 3 [(0, .ref h), (1, .int (iI (((L : Int) - 1)))), (2, .int (iI ((i : Int))))] → W p l e (rK 3 72) s m args below meth c H locs 0 0 Q (F0 m 20 ls []) := by
    intro n
    induction n with
    | zero =>
      intro i L Bc hi hn hI hL
      exfalso
      omega
    | succ n ih_20 =>
      intro i L Bc hi hn hI hL H locs hP hD hS ls hl
      refine lv_iload_n hx hb dX0_commonFactor_20 rfl (lv_at hl 2 rfl) ?_
      refine x_bipush hx hb dX0_commonFactor_21 (by decide) ?_
      refine x_icmp_ge (tgt := 66) hx hb (by omega) dX0_commonFactor_23 (by decide) (fun c_23 => ?_) (fun c_23 => ?_)
      · -- t 66
        exact hret _ H locs _ _ (⟨Bc, rfl, cf_end hI hq0 (van_z0 (by have := hI.2.2.2.1; rwa [show 24 - i = 0 from by omega] at this))⟩) hP hD hS dX0_commonFactor_66
      · -- f 26
        refine lv_iload_n hx hb dX0_commonFactor_26 rfl (lv_at hl 1 rfl) ?_
        refine x_if_lt (tgt := 66) hx hb (by omega) dX0_commonFactor_27 (by decide) (fun c_27 => ?_) (fun c_27 => ?_)
        · -- t 66
          exact hret _ H locs _ _ (⟨Bc, rfl, cf_end hI hq0 (deg_z hL hI.2.2.1 (by omega))⟩) hP hD hS dX0_commonFactor_66
        · -- f 30
          refine lv_aload_n hx hb dX0_commonFactor_30 rfl (lv_at hl 0 rfl) ?_
          refine x_iconst hx hb dX0_commonFactor_31 ?_
          refine x_iconst hx hb dX0_commonFactor_32 ?_
          refine g_callv ⟨hx, hb, hml, hown, hts⟩ (metX0_divide l D d h qb qr Bc g 2 3 (by omega) (by omega) (by decide) (by decide) (by decide) (fun q => deg_nz hL (by omega) (q _ (by omega)))) (cwV 2 hts (lw_V q94 q96 qs8 q33 q97) rfl rfl rfl (by decide +kernel) ⟨Nat.le_of_ble_eq_true rfl, Nat.le_of_ble_eq_true rfl⟩) (va_recv hK hP (ci := 0) (q0 := 0) rfl rfl) hK hA hP hD hS rfl hl.1 rfl (Nat.le_of_ble_eq_true rfl) dX0_commonFactor_33 ⟨Nat.zero_le _, Nat.zero_le _⟩ (fun u H locs hq hP hD hS => ?_)
          obtain ⟨B3, rfl, qq, rr, DD, eB3, hdv⟩ := hq
          refine lv_aload_n hx hb dX0_commonFactor_36 rfl (lv_at hl 0 rfl) ?_
          refine x_iconst hx hb dX0_commonFactor_37 ?_
          refine x_iconst hx hb dX0_commonFactor_38 ?_
          refine g_callv ⟨hx, hb, hml, hown, hts⟩ (metX0_copyPoly l D d h qb qr B3 g 4 2 (by omega) (by omega)) (cwV 2 hts (lw_V q78 q80 qs4 q33 q81) rfl rfl rfl (by decide +kernel) ⟨Nat.le_of_ble_eq_true rfl, Nat.le_of_ble_eq_true rfl⟩) (va_recv hK hP (ci := 0) (q0 := 0) rfl rfl) hK hA hP hD hS rfl hl.1 rfl (Nat.le_of_ble_eq_true rfl) dX0_commonFactor_39 ⟨Nat.zero_le _, Nat.zero_le _⟩ (fun u H locs hq hP hD hS => ?_)
          obtain ⟨B4, rfl, eB4⟩ := hq
          refine lv_aload_n hx hb dX0_commonFactor_42 rfl (lv_at hl 0 rfl) ?_
          refine x_iconst hx hb dX0_commonFactor_43 ?_
          refine x_iconst hx hb dX0_commonFactor_44 ?_
          refine g_callv ⟨hx, hb, hml, hown, hts⟩ (metX0_copyPoly l D d h qb qr B4 g 2 3 (by omega) (by omega)) (cwV 2 hts (lw_V q78 q80 qs4 q33 q81) rfl rfl rfl (by decide +kernel) ⟨Nat.le_of_ble_eq_true rfl, Nat.le_of_ble_eq_true rfl⟩) (va_recv hK hP (ci := 0) (q0 := 0) rfl rfl) hK hA hP hD hS rfl hl.1 rfl (Nat.le_of_ble_eq_true rfl) dX0_commonFactor_45 ⟨Nat.zero_le _, Nat.zero_le _⟩ (fun u H locs hq hP hD hS => ?_)
          obtain ⟨B5, rfl, eB5⟩ := hq
          refine lv_aload_n hx hb dX0_commonFactor_48 rfl (lv_at hl 0 rfl) ?_
          refine x_iconst hx hb dX0_commonFactor_49 ?_
          refine x_iconst hx hb dX0_commonFactor_50 ?_
          refine g_callv ⟨hx, hb, hml, hown, hts⟩ (metX0_copyPoly l D d h qb qr B5 g 3 4 (by omega) (by omega)) (cwV 2 hts (lw_V q78 q80 qs4 q33 q81) rfl rfl rfl (by decide +kernel) ⟨Nat.le_of_ble_eq_true rfl, Nat.le_of_ble_eq_true rfl⟩) (va_recv hK hP (ci := 0) (q0 := 0) rfl rfl) hK hA hP hD hS rfl hl.1 rfl (Nat.le_of_ble_eq_true rfl) dX0_commonFactor_51 ⟨Nat.zero_le _, Nat.zero_le _⟩ (fun u H locs hq hP hD hS => ?_)
          obtain ⟨B6, rfl, eB6⟩ := hq
          refine lv_aload_n hx hb dX0_commonFactor_54 rfl (lv_at hl 0 rfl) ?_
          refine x_iconst hx hb dX0_commonFactor_55 ?_
          refine g_calli ⟨hx, hb, hml, hown, hts⟩ (metX0_degree l D d h qb qr B6 g 3 (by omega)) (cwV 1 hts (lw_V q70 q72 qs2 q33 q73) rfl rfl rfl (by decide +kernel) ⟨Nat.le_of_ble_eq_true rfl, Nat.le_of_ble_eq_true rfl⟩) (va_recv hK hP (ci := 0) (q0 := 0) rfl rfl) hK hA hP hD hS rfl hl.1 rfl (Nat.le_of_ble_eq_true rfl) dX0_commonFactor_56 ⟨Nat.zero_le _, Nat.zero_le _⟩ (fun r u H locs hq hP hD hS => ?_)
          obtain ⟨L2, rfl, rfl, hL2⟩ := hq
          refine lv_istore_n (lv' := [(1, .int (iI (((L2 : Int) - 1)))), (0, .ref h), (2, .int (iI ((i : Int))))]) hx hb dX0_commonFactor_59 rfl hl (by decide) rfl (fun ls hl => ?_)
          refine x_iinc (v := ((i + 1 : Nat) : Int)) (lv' := [(2, .int (iI (((i + 1 : Nat) : Int)))), (1, .int (iI (((L2 : Int) - 1)))), (0, .ref h)]) hx hb dX0_commonFactor_60 hl (k := 2) rfl (by omega) (by decide) rfl (fun ls hl => ?_)
          refine lv_goto (tgt := 20) hx hb dX0_commonFactor_63 (by decide) ?_
          exact ih_20 (i + 1) L2 B6 ⟨by omega, hL2.1⟩ (by omega) (cf_s hI hdv eB3 eB4 eB5 eB6) hL2 H locs hP hD hS ls (lv_sub hl [2, 1, 0] rfl)
  exact lp_20 25 0 L B2 ⟨by omega, hL.1⟩ (by omega) (cf_0 h0 h1 eB1 eB2) hL H locs hP hD hS ls (lv_sub hl [2, 1, 0] rfl)
abbrev wsX0_reduce : List Cond := ws_ yX0_reduce cX0_reduce 2 none
set_option maxHeartbeats 4000000 in
set_option maxRecDepth 100000 in
/-- reduce(): lowest terms -/
theorem metX0_reduce (l : Launch) (D : va_G) (d : ClassId) (h qb qr : Nat) (B : Nat → Sr) (g : Sr) (a : Sr) (M : Nat) (hM : M < 23) (h0 : van M (B 0)) (h1 : van (M + 1) (B 1)) (hq0 : B 1 0 ≠ 0) (ha : cv (B 1) a = B 0) : gMv l yX0_reduce wsX0_reduce (rK 4 94) D d (EW h qb qr d) (B, g) h [] (fun u => ∃ B1, u = (B1, g) ∧ (∀ k, 5 ≤ k → B1 k = B k) ∧ Red (B1 0) (B1 1) a M) := by
  refine g_entryv (by decide) (Nat.le_of_ble_eq_true rfl) ?_
  intro p e s m args below meth c A Q hx hb hml hown hts hK hA hret H locs hP hD hS ls hl
  have hl : lv_has ls 2 [(0, .ref h)] := hl
  refine lv_aload_n hx hb dX0_reduce_0 rfl (lv_at hl 0 rfl) ?_
  refine g_callv ⟨hx, hb, hml, hown, hts⟩ (metX0_commonFactor l D d h qb qr B g (van_mono h0 (by omega)) (van_mono h1 (by omega)) hq0) (cwV 0 hts (lw_V q90 q92 qs7 q33 q93) rfl rfl rfl (by decide +kernel) ⟨Nat.le_of_ble_eq_true rfl, Nat.le_of_ble_eq_true rfl⟩) (va_recv hK hP (ci := 0) (q0 := 0) rfl rfl) hK hA hP hD hS rfl hl.1 rfl (Nat.le_of_ble_eq_true rfl) dX0_reduce_1 ⟨Nat.zero_le _, Nat.zero_le _⟩ (fun u H locs hq hP hD hS => ?_)
  obtain ⟨B1, rfl, k1, v2, g0, hG⟩ := hq
  refine lv_aload_n hx hb dX0_reduce_4 rfl (lv_at hl 0 rfl) ?_
  refine x_iconst hx hb dX0_reduce_5 ?_
  refine x_iconst hx hb dX0_reduce_6 ?_
  refine g_callv ⟨hx, hb, hml, hown, hts⟩ (metX0_copyPoly l D d h qb qr B1 g 3 0 (by omega) (by omega)) (cwV 2 hts (lw_V q78 q80 qs4 q33 q81) rfl rfl rfl (by decide +kernel) ⟨Nat.le_of_ble_eq_true rfl, Nat.le_of_ble_eq_true rfl⟩) (va_recv hK hP (ci := 0) (q0 := 0) rfl rfl) hK hA hP hD hS rfl hl.1 rfl (Nat.le_of_ble_eq_true rfl) dX0_reduce_7 ⟨Nat.zero_le _, Nat.zero_le _⟩ (fun u H locs hq hP hD hS => ?_)
  obtain ⟨B2, rfl, eB2⟩ := hq
  refine lv_aload_n hx hb dX0_reduce_10 rfl (lv_at hl 0 rfl) ?_
  refine x_iconst hx hb dX0_reduce_11 ?_
  refine x_iconst hx hb dX0_reduce_12 ?_
  refine g_callv ⟨hx, hb, hml, hown, hts⟩ (metX0_divide l D d h qb qr B2 g 3 2 (by omega) (by omega) (by decide) (by decide) (by decide) (fun q => g0 (by rw [← setP_ne B1 (B1 0) (k := 3) (by decide), ← eB2]; exact q 0 (by omega)))) (cwV 2 hts (lw_V q94 q96 qs8 q33 q97) rfl rfl rfl (by decide +kernel) ⟨Nat.le_of_ble_eq_true rfl, Nat.le_of_ble_eq_true rfl⟩) (va_recv hK hP (ci := 0) (q0 := 0) rfl rfl) hK hA hP hD hS rfl hl.1 rfl (Nat.le_of_ble_eq_true rfl) dX0_reduce_13 ⟨Nat.zero_le _, Nat.zero_le _⟩ (fun u H locs hq hP hD hS => ?_)
  obtain ⟨B3, rfl, t1, r1, D1, eB3, hd1⟩ := hq
  refine lv_aload_n hx hb dX0_reduce_16 rfl (lv_at hl 0 rfl) ?_
  refine x_iconst hx hb dX0_reduce_17 ?_
  refine x_iconst hx hb dX0_reduce_18 ?_
  refine g_callv ⟨hx, hb, hml, hown, hts⟩ (metX0_copyPoly l D d h qb qr B3 g 0 4 (by omega) (by omega)) (cwV 2 hts (lw_V q78 q80 qs4 q33 q81) rfl rfl rfl (by decide +kernel) ⟨Nat.le_of_ble_eq_true rfl, Nat.le_of_ble_eq_true rfl⟩) (va_recv hK hP (ci := 0) (q0 := 0) rfl rfl) hK hA hP hD hS rfl hl.1 rfl (Nat.le_of_ble_eq_true rfl) dX0_reduce_19 ⟨Nat.zero_le _, Nat.zero_le _⟩ (fun u H locs hq hP hD hS => ?_)
  obtain ⟨B4, rfl, eB4⟩ := hq
  refine lv_aload_n hx hb dX0_reduce_22 rfl (lv_at hl 0 rfl) ?_
  refine x_iconst hx hb dX0_reduce_23 ?_
  refine x_iconst hx hb dX0_reduce_24 ?_
  refine g_callv ⟨hx, hb, hml, hown, hts⟩ (metX0_copyPoly l D d h qb qr B4 g 3 1 (by omega) (by omega)) (cwV 2 hts (lw_V q78 q80 qs4 q33 q81) rfl rfl rfl (by decide +kernel) ⟨Nat.le_of_ble_eq_true rfl, Nat.le_of_ble_eq_true rfl⟩) (va_recv hK hP (ci := 0) (q0 := 0) rfl rfl) hK hA hP hD hS rfl hl.1 rfl (Nat.le_of_ble_eq_true rfl) dX0_reduce_25 ⟨Nat.zero_le _, Nat.zero_le _⟩ (fun u H locs hq hP hD hS => ?_)
  obtain ⟨B5, rfl, eB5⟩ := hq
  have e52 : B5 2 = B1 2 := by rw [eB5, setP_ne _ _ (by decide), eB4, setP_ne _ _ (by decide), eB3, setP_ne _ _ (by decide), setP_ne _ _ (by decide), eB2, setP_ne _ _ (by decide)]
  refine lv_aload_n hx hb dX0_reduce_28 rfl (lv_at hl 0 rfl) ?_
  refine x_iconst hx hb dX0_reduce_29 ?_
  refine x_iconst hx hb dX0_reduce_30 ?_
  refine g_callv ⟨hx, hb, hml, hown, hts⟩ (metX0_divide l D d h qb qr B5 g 3 2 (by omega) (by omega) (by decide) (by decide) (by decide) (fun q => g0 (by have := q 0 (by omega); rw [e52] at this; exact this))) (cwV 2 hts (lw_V q94 q96 qs8 q33 q97) rfl rfl rfl (by decide +kernel) ⟨Nat.le_of_ble_eq_true rfl, Nat.le_of_ble_eq_true rfl⟩) (va_recv hK hP (ci := 0) (q0 := 0) rfl rfl) hK hA hP hD hS rfl hl.1 rfl (Nat.le_of_ble_eq_true rfl) dX0_reduce_31 ⟨Nat.zero_le _, Nat.zero_le _⟩ (fun u H locs hq hP hD hS => ?_)
  obtain ⟨B6, rfl, t2, r2, D2, eB6, hd2⟩ := hq
  refine lv_aload_n hx hb dX0_reduce_34 rfl (lv_at hl 0 rfl) ?_
  refine x_iconst hx hb dX0_reduce_35 ?_
  refine x_iconst hx hb dX0_reduce_36 ?_
  refine g_callv ⟨hx, hb, hml, hown, hts⟩ (metX0_copyPoly l D d h qb qr B6 g 1 4 (by omega) (by omega)) (cwV 2 hts (lw_V q78 q80 qs4 q33 q81) rfl rfl rfl (by decide +kernel) ⟨Nat.le_of_ble_eq_true rfl, Nat.le_of_ble_eq_true rfl⟩) (va_recv hK hP (ci := 0) (q0 := 0) rfl rfl) hK hA hP hD hS rfl hl.1 rfl (Nat.le_of_ble_eq_true rfl) dX0_reduce_37 ⟨Nat.zero_le _, Nat.zero_le _⟩ (fun u H locs hq hP hD hS => ?_)
  obtain ⟨B7, rfl, eB7⟩ := hq
  refine lv_aload_n hx hb dX0_reduce_40 rfl (lv_at hl 0 rfl) ?_
  refine e_getb hx hb hts hown hK hP dX0_reduce_41 ?_
  refine x_bipush hx hb dX0_reduce_44 (by decide) ?_
  refine e_bld hx hb hK hP (1) (0) (by omega) dX0_reduce_46 ?_
  refine s_calli ⟨hx, hb, hml, hown, hts⟩ (metX0_inverse l (B7 1 0)) (va_cwS 1 hts (lw_S q98 q99 q33 q100) rfl rfl rfl (by decide +kernel) ⟨Nat.le_of_ble_eq_true rfl, Nat.le_of_ble_eq_true rfl⟩) hA hP hS rfl hl.1 rfl (Nat.le_of_ble_eq_true rfl) dX0_reduce_47 ⟨Nat.zero_le _, Nat.zero_le _⟩ (fun r H locs hq hP hS => ?_)
  obtain rfl := hq
  refine lv_istore_n (lv' := [(1, .int (iI (((fpw (B7 1 0) 99).val : Int)))), (0, .ref h)]) hx hb dX0_reduce_50 rfl hl (by decide) rfl (fun ls hl => ?_)
  refine lv_aload_n hx hb dX0_reduce_51 rfl (lv_at hl 1 rfl) ?_
  refine x_iconst hx hb dX0_reduce_52 ?_
  refine lv_iload_n hx hb dX0_reduce_53 rfl (lv_at hl 0 rfl) ?_
  refine g_callv ⟨hx, hb, hml, hown, hts⟩ (metX0_scalePoly l D d h qb qr B7 g 0 (fpw (B7 1 0) 99) (by omega)) (cwV 2 hts (lw_V q101 q103 qs9 q33 q104) rfl rfl rfl (by decide +kernel) ⟨Nat.le_of_ble_eq_true rfl, Nat.le_of_ble_eq_true rfl⟩) (va_recv hK hP (ci := 0) (q0 := 0) rfl rfl) hK hA hP hD hS rfl hl.1 rfl (Nat.le_of_ble_eq_true rfl) dX0_reduce_54 ⟨Nat.zero_le _, Nat.zero_le _⟩ (fun u H locs hq hP hD hS => ?_)
  obtain ⟨B8, rfl, eB8⟩ := hq
  refine lv_aload_n hx hb dX0_reduce_57 rfl (lv_at hl 1 rfl) ?_
  refine x_iconst hx hb dX0_reduce_58 ?_
  refine lv_iload_n hx hb dX0_reduce_59 rfl (lv_at hl 0 rfl) ?_
  refine g_callv ⟨hx, hb, hml, hown, hts⟩ (metX0_scalePoly l D d h qb qr B8 g 1 (fpw (B7 1 0) 99) (by omega)) (cwV 2 hts (lw_V q101 q103 qs9 q33 q104) rfl rfl rfl (by decide +kernel) ⟨Nat.le_of_ble_eq_true rfl, Nat.le_of_ble_eq_true rfl⟩) (va_recv hK hP (ci := 0) (q0 := 0) rfl rfl) hK hA hP hD hS rfl hl.1 rfl (Nat.le_of_ble_eq_true rfl) dX0_reduce_60 ⟨Nat.zero_le _, Nat.zero_le _⟩ (fun u H locs hq hP hD hS => ?_)
  obtain ⟨B9, rfl, eB9⟩ := hq
  have e20 : B2 3 = B 0 := by rw [eB2, setP_eq, k1 0 (by omega)]
  have e22 : B2 2 = B1 2 := by rw [eB2, setP_ne _ _ (by decide)]
  have e53 : B5 3 = B 1 := by rw [eB5, setP_eq, eB4, setP_ne _ _ (by decide), eB3, setP_ne _ _ (by decide), setP_ne _ _ (by decide), eB2, setP_ne _ _ (by decide), k1 1 (by omega)]
  rw [e20, e22] at hd1
  rw [e53, e52] at hd2
  have e71 : B7 1 = t2 := by rw [eB7, setP_eq, eB6, setP_eq]
  have e70 : B7 0 = t1 := by rw [eB7, setP_ne _ _ (by decide), eB6, setP_ne _ _ (by decide), setP_ne _ _ (by decide), eB5, setP_ne _ _ (by decide), eB4, setP_eq, eB3, setP_eq]
  rw [e71] at eB8 eB9
  obtain ⟨-, hR⟩ := red_of (x := z0) (z := z0) h0 h1 (by omega) ha v2 g0 hq0 hG hd1 hd2 (fun q => fpw_inv (t2 0) q)
  have e90 : B9 0 = sc (fpw (t2 0) 99) t1 := by rw [eB9, setP_ne _ _ (by decide), eB8, setP_eq, e70]
  have e91 : B9 1 = sc (fpw (t2 0) 99) t2 := by rw [eB9, setP_eq, eB8, setP_ne _ _ (by decide), e71]
  exact hret _ H locs _ _ (⟨B9, rfl, fun k hk => by rw [eB9, setP_ne _ _ (by omega), eB8, setP_ne _ _ (by omega), eB7, setP_ne _ _ (by omega), eB6, setP_ne _ _ (by omega), setP_ne _ _ (by omega), eB5, setP_ne _ _ (by omega), eB4, setP_ne _ _ (by omega), eB3, setP_ne _ _ (by omega), setP_ne _ _ (by omega), eB2, setP_ne _ _ (by omega), k1 k (by omega)], by rw [e90, e91]; exact hR⟩) hP hD hS dX0_reduce_63
abbrev wsX0_orderOf : List Cond := ws_ yX0_orderOf cX0_orderOf 5 (some .int)
set_option maxHeartbeats 4000000 in
set_option maxRecDepth 100000 in
/-- orderOf(numerator, denominator) -/
theorem metX0_orderOf (l : Launch) (D : va_G) (d : ClassId) (h qb qr : Nat) (B : Nat → Sr) (g : Sr) (a b : Nat) (h1 : a < 13) (h2 : b < 13) : gMi l yX0_orderOf wsX0_orderOf (rK 1 22) D d (EW h qb qr d) (B, g) h [.int (iI ((a : Int))), .int (iI ((b : Int)))] (fun r u => ∃ L : Nat, r = iI (L : Int) ∧ u = (B, g) ∧ OrdOf (B a) (B b) L) := by
  refine g_entryi (by decide) (Nat.le_of_ble_eq_true rfl) ?_
  intro p e s m args below meth c A Q hx hb hml hown hts hK hA hret H locs hP hD hS ls hl
  have hl : lv_has ls 5 [(0, .ref h), (1, .int (iI ((a : Int)))), (2, .int (iI ((b : Int))))] := hl
  refine lv_aload_n hx hb dX0_orderOf_0 rfl (lv_at hl 0 rfl) ?_
  refine lv_iload_n hx hb dX0_orderOf_1 rfl (lv_at hl 1 rfl) ?_
  refine g_calli ⟨hx, hb, hml, hown, hts⟩ (metX0_degree l D d h qb qr B g a (by omega)) (cwV 1 hts (lw_V q70 q72 qs2 q33 q73) rfl rfl rfl (by decide +kernel) ⟨Nat.le_of_ble_eq_true rfl, Nat.le_of_ble_eq_true rfl⟩) (va_recv hK hP (ci := 0) (q0 := 0) rfl rfl) hK hA hP hD hS rfl hl.1 rfl (Nat.le_of_ble_eq_true rfl) dX0_orderOf_2 ⟨Nat.zero_le _, Nat.zero_le _⟩ (fun r u H locs hq hP hD hS => ?_)
  obtain ⟨Lp, rfl, rfl, hLp⟩ := hq
  refine x_iconst hx hb dX0_orderOf_5 ?_
  refine x_iadd hx hb dX0_orderOf_6 ?_
  refine x_top ((Lp : Int)) (by omega) ?_
  refine lv_istore_n (lv' := [(3, .int (iI ((Lp : Int)))), (0, .ref h), (1, .int (iI ((a : Int)))), (2, .int (iI ((b : Int))))]) hx hb dX0_orderOf_7 rfl hl (by decide) rfl (fun ls hl => ?_)
  refine lv_aload_n hx hb dX0_orderOf_8 rfl (lv_at hl 1 rfl) ?_
  refine lv_iload_n hx hb dX0_orderOf_9 rfl (lv_at hl 3 rfl) ?_
  refine g_calli ⟨hx, hb, hml, hown, hts⟩ (metX0_degree l D d h qb qr B g b (by omega)) (cwV 1 hts (lw_V q70 q72 qs2 q33 q73) rfl rfl rfl (by decide +kernel) ⟨Nat.le_of_ble_eq_true rfl, Nat.le_of_ble_eq_true rfl⟩) (va_recv hK hP (ci := 0) (q0 := 0) rfl rfl) hK hA hP hD hS rfl hl.1 rfl (Nat.le_of_ble_eq_true rfl) dX0_orderOf_10 ⟨Nat.zero_le _, Nat.zero_le _⟩ (fun r u H locs hq hP hD hS => ?_)
  obtain ⟨Lq, rfl, rfl, hLq⟩ := hq
  have b1 := hLp.1
  have b2 := hLq.1
  refine lv_istore (lv' := [(4, .int (iI (((Lq : Int) - 1)))), (3, .int (iI ((Lp : Int)))), (0, .ref h), (1, .int (iI ((a : Int)))), (2, .int (iI ((b : Int))))]) hx hb dX0_orderOf_13 hl (by decide) rfl (fun ls hl => ?_)
  refine lv_iload_n hx hb dX0_orderOf_15 rfl (lv_at hl 1 rfl) ?_
  refine lv_iload hx hb dX0_orderOf_16 (lv_at hl 0 rfl) ?_
  refine x_icmp_le (tgt := 25) hx hb (by omega) dX0_orderOf_18 (by decide) (fun c_18 => ?_) (fun c_18 => ?_)
  · -- t 25
    refine lv_iload hx hb dX0_orderOf_25 (lv_at hl 0 rfl) ?_
    exact hret _ _ H locs _ _ (⟨Lq - 1, by congr 1; omega, rfl, ordOf_2 hLp hLq (by omega)⟩) hP hD hS dX0_orderOf_27
  · -- f 21
    refine lv_iload_n hx hb dX0_orderOf_21 rfl (lv_at hl 1 rfl) ?_
    refine lv_goto (tgt := 27) hx hb dX0_orderOf_22 (by decide) ?_
    exact hret _ _ H locs _ _ (⟨Lp, rfl, rfl, ordOf_1 hLp hLq (by omega)⟩) hP hD hS dX0_orderOf_27
abbrev wsX0_keep : List Cond := ws_ yX0_keep cX0_keep 5 (some .int)
set_option maxHeartbeats 4000000 in
set_option maxRecDepth 100000 in
/-- keep(s) -/
theorem metX0_keep (l : Launch) (D : va_G) (d : ClassId) (h qb qr : Nat) (B : Nat → Sr) (g : Sr) (s0 : Nat) (a : Sr) (M : Nat) (hs0 : s0 < 4) (hM : M < 23) (h0 : van M (B 0)) (h1 : van (M + 1) (B 1)) (hq0 : B 1 0 ≠ 0) (ha : cv (B 1) a = B 0) : gMi l yX0_keep wsX0_keep (rK 5 115) D d (EW h qb qr d) (B, g) h [.int (iI ((s0 : Int)))] (fun r u => ∃ (L : Nat) (B1 : Nat → Sr), u = (B1, g) ∧ L ≤ M ∧ ((L ≤ 8 ∧ r = iI (L : Int) ∧ Seq (B1 (5 + 2 * s0)) (B1 (6 + 2 * s0)) a L ∧ ∀ k, 5 ≤ k → k ≠ 5 + 2 * s0 → k ≠ 6 + 2 * s0 → B1 k = B k) ∨ (8 < L ∧ r = iI (-3) ∧ Ord a L ∧ ∀ k, 5 ≤ k → B1 k = B k))) := by
  refine g_entryi (by decide) (Nat.le_of_ble_eq_true rfl) ?_
  intro p e s m args below meth c A Q hx hb hml hown hts hK hA hret H locs hP hD hS ls hl
  have hl : lv_has ls 5 [(0, .ref h), (1, .int (iI ((s0 : Int))))] := hl
  refine lv_aload_n hx hb dX0_keep_0 rfl (lv_at hl 0 rfl) ?_
  refine g_callv ⟨hx, hb, hml, hown, hts⟩ (metX0_reduce l D d h qb qr B g a M hM h0 h1 hq0 ha) (cwV 0 hts (lw_V q86 q88 qs6 q33 q89) rfl rfl rfl (by decide +kernel) ⟨Nat.le_of_ble_eq_true rfl, Nat.le_of_ble_eq_true rfl⟩) (va_recv hK hP (ci := 0) (q0 := 0) rfl rfl) hK hA hP hD hS rfl hl.1 rfl (Nat.le_of_ble_eq_true rfl) dX0_keep_1 ⟨Nat.zero_le _, Nat.zero_le _⟩ (fun u H locs hq hP hD hS => ?_)
  obtain ⟨B1, rfl, k1, hR⟩ := hq
  refine lv_aload_n hx hb dX0_keep_4 rfl (lv_at hl 0 rfl) ?_
  refine x_iconst hx hb dX0_keep_5 ?_
  refine x_iconst hx hb dX0_keep_6 ?_
  refine g_calli ⟨hx, hb, hml, hown, hts⟩ (metX0_orderOf l D d h qb qr B1 g 0 1 (by omega) (by omega)) (cwV 2 hts (lw_V q105 q107 qs10 q33 q108) rfl rfl rfl (by decide +kernel) ⟨Nat.le_of_ble_eq_true rfl, Nat.le_of_ble_eq_true rfl⟩) (va_recv hK hP (ci := 0) (q0 := 0) rfl rfl) hK hA hP hD hS rfl hl.1 rfl (Nat.le_of_ble_eq_true rfl) dX0_keep_7 ⟨Nat.zero_le _, Nat.zero_le _⟩ (fun r u H locs hq hP hD hS => ?_)
  obtain ⟨L, rfl, rfl, hO⟩ := hq
  obtain ⟨hLM, hSq⟩ := ordOf_red (by omega) hR hO
  refine lv_istore_n (lv' := [(2, .int (iI ((L : Int)))), (0, .ref h), (1, .int (iI ((s0 : Int))))]) hx hb dX0_keep_10 rfl hl (by decide) rfl (fun ls hl => ?_)
  refine lv_iload_n hx hb dX0_keep_11 rfl (lv_at hl 0 rfl) ?_
  refine x_bipush hx hb dX0_keep_12 (by decide) ?_
  refine x_icmp_le (tgt := 20) hx hb (by omega) dX0_keep_14 (by decide) (fun c_14 => ?_) (fun c_14 => ?_)
  · -- t 20
    refine lv_iload_n hx hb dX0_keep_20 rfl (lv_at hl 2 rfl) ?_
    refine s_calli ⟨hx, hb, hml, hown, hts⟩ (metX0_top l s0) (va_cwS 1 hts (lw_S q109 q110 q33 q111) rfl rfl rfl (by decide +kernel) ⟨Nat.le_of_ble_eq_true rfl, Nat.le_of_ble_eq_true rfl⟩) hA hP hS rfl hl.1 rfl (Nat.le_of_ble_eq_true rfl) dX0_keep_21 ⟨Nat.zero_le _, Nat.zero_le _⟩ (fun r H locs hq hP hS => ?_)
    obtain rfl := hq
    refine lv_istore_n (lv' := [(3, .int (iI (((5 + 2 * s0 : Nat) : Int)))), (2, .int (iI ((L : Int)))), (0, .ref h), (1, .int (iI ((s0 : Int))))]) hx hb dX0_keep_24 rfl hl (by decide) rfl (fun ls hl => ?_)
    refine lv_iload_n hx hb dX0_keep_25 rfl (lv_at hl 3 rfl) ?_
    refine s_calli ⟨hx, hb, hml, hown, hts⟩ (metX0_bottom l s0) (va_cwS 1 hts (lw_S q112 q113 q33 q114) rfl rfl rfl (by decide +kernel) ⟨Nat.le_of_ble_eq_true rfl, Nat.le_of_ble_eq_true rfl⟩) hA hP hS rfl hl.1 rfl (Nat.le_of_ble_eq_true rfl) dX0_keep_26 ⟨Nat.zero_le _, Nat.zero_le _⟩ (fun r H locs hq hP hS => ?_)
    obtain rfl := hq
    refine lv_istore (lv' := [(4, .int (iI (((6 + 2 * s0 : Nat) : Int)))), (3, .int (iI (((5 + 2 * s0 : Nat) : Int)))), (2, .int (iI ((L : Int)))), (0, .ref h), (1, .int (iI ((s0 : Int))))]) hx hb dX0_keep_29 hl (by decide) rfl (fun ls hl => ?_)
    refine lv_aload_n hx hb dX0_keep_31 rfl (lv_at hl 3 rfl) ?_
    refine lv_iload_n hx hb dX0_keep_32 rfl (lv_at hl 1 rfl) ?_
    refine x_iconst hx hb dX0_keep_33 ?_
    refine g_callv ⟨hx, hb, hml, hown, hts⟩ (metX0_copyPoly l D d h qb qr B1 g (5 + 2 * s0) 0 (by omega) (by omega)) (cwV 2 hts (lw_V q78 q80 qs4 q33 q81) rfl rfl rfl (by decide +kernel) ⟨Nat.le_of_ble_eq_true rfl, Nat.le_of_ble_eq_true rfl⟩) (va_recv hK hP (ci := 0) (q0 := 0) rfl rfl) hK hA hP hD hS rfl hl.1 rfl (Nat.le_of_ble_eq_true rfl) dX0_keep_34 ⟨Nat.zero_le _, Nat.zero_le _⟩ (fun u H locs hq hP hD hS => ?_)
    obtain ⟨B2, rfl, eB2⟩ := hq
    refine lv_aload_n hx hb dX0_keep_37 rfl (lv_at hl 3 rfl) ?_
    refine lv_iload hx hb dX0_keep_38 (lv_at hl 0 rfl) ?_
    refine x_iconst hx hb dX0_keep_40 ?_
    refine g_callv ⟨hx, hb, hml, hown, hts⟩ (metX0_copyPoly l D d h qb qr B2 g (6 + 2 * s0) 1 (by omega) (by omega)) (cwV 2 hts (lw_V q78 q80 qs4 q33 q81) rfl rfl rfl (by decide +kernel) ⟨Nat.le_of_ble_eq_true rfl, Nat.le_of_ble_eq_true rfl⟩) (va_recv hK hP (ci := 0) (q0 := 0) rfl rfl) hK hA hP hD hS rfl hl.1 rfl (Nat.le_of_ble_eq_true rfl) dX0_keep_41 ⟨Nat.zero_le _, Nat.zero_le _⟩ (fun u H locs hq hP hD hS => ?_)
    obtain ⟨B3, rfl, eB3⟩ := hq
    refine lv_iload_n hx hb dX0_keep_44 rfl (lv_at hl 2 rfl) ?_
    have f1 : B3 (5 + 2 * s0) = B1 0 := by rw [eB3, setP_ne _ _ (by omega), eB2, setP_eq]
    have f2 : B3 (6 + 2 * s0) = B1 1 := by rw [eB3, setP_eq, eB2, setP_ne _ _ (by omega)]
    exact hret _ _ H locs _ _ (⟨L, B3, rfl, hLM, Or.inl ⟨by omega, rfl, by rw [f1, f2]; exact hSq, fun k q1 q2 q3 => by rw [eB3, setP_ne _ _ q3, eB2, setP_ne _ _ q2, k1 k q1]⟩⟩) hP hD hS dX0_keep_45
  · -- f 17
    refine x_bipush hx hb dX0_keep_17 (by decide) ?_
    exact hret _ _ H locs _ _ (⟨L, B1, rfl, hLM, Or.inr ⟨by omega, rfl, seq_ord hSq, k1⟩⟩) hP hD hS dX0_keep_19
abbrev wsX0_load : List Cond := ws_ yX0_load cX0_load 4 none
set_option maxHeartbeats 4000000 in
set_option maxRecDepth 100000 in
/-- load(s) -/
theorem metX0_load (l : Launch) (D : va_G) (d : ClassId) (h qb qr : Nat) (B : Nat → Sr) (g : Sr) (s0 : Nat) (hs0 : s0 < 4) : gMv l yX0_load wsX0_load (rK 1 23) D d (EW h qb qr d) (B, g) h [.int (iI ((s0 : Int)))] (fun u => ∃ B1, u = (B1, g) ∧ B1 = setP (setP B 0 (B (5 + 2 * s0))) 1 (B (6 + 2 * s0))) := by
  refine g_entryv (by decide) (Nat.le_of_ble_eq_true rfl) ?_
  intro p e s m args below meth c A Q hx hb hml hown hts hK hA hret H locs hP hD hS ls hl
  have hl : lv_has ls 4 [(0, .ref h), (1, .int (iI ((s0 : Int))))] := hl
  refine lv_iload_n hx hb dX0_load_0 rfl (lv_at hl 1 rfl) ?_
  refine s_calli ⟨hx, hb, hml, hown, hts⟩ (metX0_top l s0) (va_cwS 1 hts (lw_S q109 q110 q33 q111) rfl rfl rfl (by decide +kernel) ⟨Nat.le_of_ble_eq_true rfl, Nat.le_of_ble_eq_true rfl⟩) hA hP hS rfl hl.1 rfl (Nat.le_of_ble_eq_true rfl) dX0_load_1 ⟨Nat.zero_le _, Nat.zero_le _⟩ (fun r H locs hq hP hS => ?_)
  obtain rfl := hq
  refine lv_istore_n (lv' := [(2, .int (iI (((5 + 2 * s0 : Nat) : Int)))), (0, .ref h), (1, .int (iI ((s0 : Int))))]) hx hb dX0_load_4 rfl hl (by decide) rfl (fun ls hl => ?_)
  refine lv_iload_n hx hb dX0_load_5 rfl (lv_at hl 2 rfl) ?_
  refine s_calli ⟨hx, hb, hml, hown, hts⟩ (metX0_bottom l s0) (va_cwS 1 hts (lw_S q112 q113 q33 q114) rfl rfl rfl (by decide +kernel) ⟨Nat.le_of_ble_eq_true rfl, Nat.le_of_ble_eq_true rfl⟩) hA hP hS rfl hl.1 rfl (Nat.le_of_ble_eq_true rfl) dX0_load_6 ⟨Nat.zero_le _, Nat.zero_le _⟩ (fun r H locs hq hP hS => ?_)
  obtain rfl := hq
  refine lv_istore_n (lv' := [(3, .int (iI (((6 + 2 * s0 : Nat) : Int)))), (2, .int (iI (((5 + 2 * s0 : Nat) : Int)))), (0, .ref h), (1, .int (iI ((s0 : Int))))]) hx hb dX0_load_9 rfl hl (by decide) rfl (fun ls hl => ?_)
  refine lv_aload_n hx hb dX0_load_10 rfl (lv_at hl 2 rfl) ?_
  refine x_iconst hx hb dX0_load_11 ?_
  refine lv_iload_n hx hb dX0_load_12 rfl (lv_at hl 1 rfl) ?_
  refine g_callv ⟨hx, hb, hml, hown, hts⟩ (metX0_copyPoly l D d h qb qr B g 0 (5 + 2 * s0) (by omega) (by omega)) (cwV 2 hts (lw_V q78 q80 qs4 q33 q81) rfl rfl rfl (by decide +kernel) ⟨Nat.le_of_ble_eq_true rfl, Nat.le_of_ble_eq_true rfl⟩) (va_recv hK hP (ci := 0) (q0 := 0) rfl rfl) hK hA hP hD hS rfl hl.1 rfl (Nat.le_of_ble_eq_true rfl) dX0_load_13 ⟨Nat.zero_le _, Nat.zero_le _⟩ (fun u H locs hq hP hD hS => ?_)
  obtain ⟨B1, rfl, eB1⟩ := hq
  refine lv_aload_n hx hb dX0_load_16 rfl (lv_at hl 2 rfl) ?_
  refine x_iconst hx hb dX0_load_17 ?_
  refine lv_iload_n hx hb dX0_load_18 rfl (lv_at hl 0 rfl) ?_
  refine g_callv ⟨hx, hb, hml, hown, hts⟩ (metX0_copyPoly l D d h qb qr B1 g 1 (6 + 2 * s0) (by omega) (by omega)) (cwV 2 hts (lw_V q78 q80 qs4 q33 q81) rfl rfl rfl (by decide +kernel) ⟨Nat.le_of_ble_eq_true rfl, Nat.le_of_ble_eq_true rfl⟩) (va_recv hK hP (ci := 0) (q0 := 0) rfl rfl) hK hA hP hD hS rfl hl.1 rfl (Nat.le_of_ble_eq_true rfl) dX0_load_19 ⟨Nat.zero_le _, Nat.zero_le _⟩ (fun u H locs hq hP hD hS => ?_)
  obtain ⟨B2, rfl, eB2⟩ := hq
  have f1 : B2 = setP (setP B 0 (B (5 + 2 * s0))) 1 (B (6 + 2 * s0)) := by rw [eB2, eB1, setP_ne _ _ (by omega)]
  exact hret _ H locs _ _ (⟨B2, rfl, f1⟩) hP hD hS dX0_load_22
abbrev wsX0_loadStep : List Cond := ws_ yX0_loadStep cX0_loadStep 1 none
set_option maxHeartbeats 4000000 in
set_option maxRecDepth 100000 in
/-- loadStep() -/
theorem metX0_loadStep (l : Launch) (D : va_G) (d : ClassId) (h qb qr : Nat) (B : Nat → Sr) (g : Sr)  : gMv l yX0_loadStep wsX0_loadStep (rK 1 22) D d (EW h qb qr d) (B, g) h [] (fun u => ∃ B1, u = (B1, g) ∧ B1 = setP B 3 stp) := by
  refine g_entryv (by decide) (Nat.le_of_ble_eq_true rfl) ?_
  intro p e s m args below meth c A Q hx hb hml hown hts hK hA hret H locs hP hD hS ls hl
  have hl : lv_has ls 1 [(0, .ref h)] := hl
  refine lv_aload_n hx hb dX0_loadStep_0 rfl (lv_at hl 0 rfl) ?_
  refine x_iconst hx hb dX0_loadStep_1 ?_
  refine g_callv ⟨hx, hb, hml, hown, hts⟩ (metX0_clearPoly l D d h qb qr B g 3 (by omega)) (cwV 1 hts (lw_V q59 q61 qs0 q33 q62) rfl rfl rfl (by decide +kernel) ⟨Nat.le_of_ble_eq_true rfl, Nat.le_of_ble_eq_true rfl⟩) (va_recv hK hP (ci := 0) (q0 := 0) rfl rfl) hK hA hP hD hS rfl hl.1 rfl (Nat.le_of_ble_eq_true rfl) dX0_loadStep_2 ⟨Nat.zero_le _, Nat.zero_le _⟩ (fun u H locs hq hP hD hS => ?_)
  obtain ⟨B1, rfl, eB1⟩ := hq
  refine lv_aload_n hx hb dX0_loadStep_5 rfl (lv_at hl 0 rfl) ?_
  refine e_getb hx hb hts hown hK hP dX0_loadStep_6 ?_
  refine x_bipush hx hb dX0_loadStep_9 (by decide) ?_
  refine x_iconst hx hb dX0_loadStep_11 ?_
  refine e_bst hx hb hK hP hD hS (3) (0) (1) (rfl) (by omega) dX0_loadStep_12 (fun H locs hP hD hS => ?_)
  obtain ⟨B2, eB2⟩ : ∃ z, z = setB B1 (3) (0) (1) := ⟨_, rfl⟩
  rw [← eB2] at hP hD
  refine lv_aload_n hx hb dX0_loadStep_13 rfl (lv_at hl 0 rfl) ?_
  refine e_getb hx hb hts hown hK hP dX0_loadStep_14 ?_
  refine x_bipush hx hb dX0_loadStep_17 (by decide) ?_
  refine x_bipush hx hb dX0_loadStep_19 (by decide) ?_
  refine e_bst hx hb hK hP hD hS (3) (1) (-1) (rfl) (by omega) dX0_loadStep_21 (fun H locs hP hD hS => ?_)
  obtain ⟨B3, eB3⟩ : ∃ z, z = setB B2 (3) (1) (-1) := ⟨_, rfl⟩
  rw [← eB3] at hP hD
  rw [EW_congr (setP B 3 stp) (step_eq eB1 eB2 eB3)] at hP hD
  exact hret _ H locs _ _ (⟨_, rfl, rfl⟩) hP hD hS dX0_loadStep_22
end
section
/-! RecurrenceEngine: the calls that make sequences -/
set_option maxRecDepth 100000
theorem adv_end {B2 Bc B4 : Nat → Sr} {i : Nat} (hI : Fill 24 B2 0 (fun n => B2 0 (n + 1)) 0 i Bc) (hi : i = 23) (e : B4 = setB Bc 0 23 0) : ∀ k n, n < 24 → B4 k n = setP B2 0 (fun n => if n < 23 then B2 0 (n + 1) else 0) k n := by
  intro k n hn
  rw [e]
  simp only [setB, setP]
  by_cases h : k = 0
  · by_cases h2 : n = 23
    · rw [if_pos ⟨h, h2⟩, if_pos h, if_neg (by omega)]
    · rw [if_neg (fun q => h2 q.2), if_pos h, if_pos (by omega), hI k n hn, if_pos (by omega)]
  · rw [if_neg (fun q => h q.1), if_neg h, hI k n hn, if_neg (fun q => h q.1)]
abbrev wsX0_scale : List Cond := ws_ yX0_scale cX0_scale 4 (some .int)
set_option maxHeartbeats 4000000 in
set_option maxRecDepth 100000 in
/-- scale(s, x) -/
theorem metX0_scale (l : Launch) (D : va_G) (d : ClassId) (h qb qr : Nat) (B : Nat → Sr) (g : Sr) (a : Nat → Sr) (Ls : Nat → Nat) (hG : GInv B a Ls) (z1 : Int) (hz1 : -2147483648 ≤ z1 ∧ z1 < 2147483648) (z2 : Int) (hz2 : -2147483648 ≤ z2 ∧ z2 < 2147483648) : gMi l yX0_scale wsX0_scale (rK 6 150) D d (EW h qb qr d) (B, g) h [.int (iI (z1)), .int (iI (z2))] (fun r u => ∃ B1, u = (B1, g) ∧ (((z1 < 0 ∨ 3 < z1) ∧ r = iI (-1) ∧ B1 = B) ∨ (∃ s0 : Nat, s0 < 4 ∧ z1 = (s0 : Int) ∧ Kept B1 a Ls s0 (sc (toF z2) (a s0)) r))) := by
  refine g_entryi (by decide) (Nat.le_of_ble_eq_true rfl) ?_
  intro p e s m args below meth c A Q hx hb hml hown hts hK hA hret H locs hP hD hS ls hl
  have hl : lv_has ls 4 [(0, .ref h), (1, .int (iI (z1))), (2, .int (iI (z2)))] := hl
  refine lv_iload_n hx hb dX0_scale_0 rfl (lv_at hl 1 rfl) ?_
  refine s_calli ⟨hx, hb, hml, hown, hts⟩ (metX0_bad l z1 hz1) (va_cwS 1 hts (lw_S q55 q56 q33 q57) rfl rfl rfl (by decide +kernel) ⟨Nat.le_of_ble_eq_true rfl, Nat.le_of_ble_eq_true rfl⟩) hA hP hS rfl hl.1 rfl (Nat.le_of_ble_eq_true rfl) dX0_scale_1 ⟨Nat.zero_le _, Nat.zero_le _⟩ (fun r H locs hq hP hS => ?_)
  obtain rfl := hq
  refine x_if_eq (tgt := 9) hx hb (by have := bd_bd z1; omega) dX0_scale_4 (by decide) (fun c_4 => ?_) (fun c_4 => ?_)
  · -- t 9
    obtain ⟨s0, rfl⟩ : ∃ q : Nat, z1 = (q : Int) := ⟨z1.toNat, by have := bd_y (by assumption : bd z1 = 0); omega⟩
    have hs04 : s0 < 4 := by have := bd_y (by assumption : bd (s0 : Int) = 0); omega
    refine lv_aload_n hx hb dX0_scale_9 rfl (lv_at hl 0 rfl) ?_
    refine lv_iload_n hx hb dX0_scale_10 rfl (lv_at hl 1 rfl) ?_
    refine g_callv ⟨hx, hb, hml, hown, hts⟩ (metX0_load l D d h qb qr B g s0 hs04) (cwV 1 hts (lw_V q123 q125 qs11 q33 q126) rfl rfl rfl (by decide +kernel) ⟨Nat.le_of_ble_eq_true rfl, Nat.le_of_ble_eq_true rfl⟩) (va_recv hK hP (ci := 0) (q0 := 0) rfl rfl) hK hA hP hD hS rfl hl.1 rfl (Nat.le_of_ble_eq_true rfl) dX0_scale_11 ⟨Nat.zero_le _, Nat.zero_le _⟩ (fun u H locs hq hP hD hS => ?_)
    obtain ⟨B1, rfl, eB1⟩ := hq
    obtain ⟨k0, k1, hR1⟩ := rdy_load (hG s0 hs04).1 (hG s0 hs04).2 eB1
    refine lv_iload_n hx hb dX0_scale_14 rfl (lv_at hl 2 rfl) ?_
    refine s_calli ⟨hx, hb, hml, hown, hts⟩ (metX0_mod l z2 hz2) (va_cwS 1 hts (lw_S q63 q64 q33 q65) rfl rfl rfl (by decide +kernel) ⟨Nat.le_of_ble_eq_true rfl, Nat.le_of_ble_eq_true rfl⟩) hA hP hS rfl hl.1 rfl (Nat.le_of_ble_eq_true rfl) dX0_scale_15 ⟨Nat.zero_le _, Nat.zero_le _⟩ (fun r H locs hq hP hS => ?_)
    obtain rfl := hq
    refine lv_istore_n (lv' := [(3, .int (iI (((toF z2).val : Int)))), (0, .ref h), (1, .int (iI ((s0 : Int)))), (2, .int (iI (z2)))]) hx hb dX0_scale_18 rfl hl (by decide) rfl (fun ls hl => ?_)
    refine lv_aload_n hx hb dX0_scale_19 rfl (lv_at hl 1 rfl) ?_
    refine x_iconst hx hb dX0_scale_20 ?_
    refine lv_iload_n hx hb dX0_scale_21 rfl (lv_at hl 0 rfl) ?_
    refine g_callv ⟨hx, hb, hml, hown, hts⟩ (metX0_scalePoly l D d h qb qr B1 g 0 (toF z2) (by omega)) (cwV 2 hts (lw_V q101 q103 qs9 q33 q104) rfl rfl rfl (by decide +kernel) ⟨Nat.le_of_ble_eq_true rfl, Nat.le_of_ble_eq_true rfl⟩) (va_recv hK hP (ci := 0) (q0 := 0) rfl rfl) hK hA hP hD hS rfl hl.1 rfl (Nat.le_of_ble_eq_true rfl) dX0_scale_22 ⟨Nat.zero_le _, Nat.zero_le _⟩ (fun u H locs hq hP hD hS => ?_)
    obtain ⟨B2, rfl, eB2⟩ := hq
    have hR2 := rdy_scale hR1 eB2
    refine lv_aload_n hx hb dX0_scale_25 rfl (lv_at hl 1 rfl) ?_
    refine lv_iload_n hx hb dX0_scale_26 rfl (lv_at hl 2 rfl) ?_
    refine g_calli ⟨hx, hb, hml, hown, hts⟩ (metX0_keep l D d h qb qr B2 g s0 (sc (toF z2) (a s0)) 8 hs04 (by omega) hR2.2.1 hR2.2.2.1 hR2.2.2.2.1 hR2.2.2.2.2) (cwV 1 hts (lw_V q82 q84 qs5 q33 q85) rfl rfl rfl (by decide +kernel) ⟨Nat.le_of_ble_eq_true rfl, Nat.le_of_ble_eq_true rfl⟩) (va_recv hK hP (ci := 0) (q0 := 0) rfl rfl) hK hA hP hD hS rfl hl.1 rfl (Nat.le_of_ble_eq_true rfl) dX0_scale_27 ⟨Nat.zero_le _, Nat.zero_le _⟩ (fun r u H locs hq hP hD hS => ?_)
    obtain ⟨L, Bz, rfl, hLM, hk⟩ := hq
    have hK9 := kept_of hG (by omega) hR2.1 hLM hk
    exact hret _ _ H locs _ _ (⟨Bz, rfl, Or.inr ⟨s0, hs04, rfl, hK9⟩⟩) hP hD hS dX0_scale_30
  · -- f 7
    have hbadz1 := bd_n (by assumption : ¬ bd z1 = 0)
    refine x_iconst hx hb dX0_scale_7 ?_
    exact hret _ _ H locs _ _ (⟨B, rfl, Or.inl ⟨hbadz1, rfl, rfl⟩⟩) hP hD hS dX0_scale_8
abbrev wsX0_advance : List Cond := ws_ yX0_advance cX0_advance 4 (some .int)
set_option maxHeartbeats 4000000 in
set_option maxRecDepth 100000 in
/-- advance(s) -/
theorem metX0_advance (l : Launch) (D : va_G) (d : ClassId) (h qb qr : Nat) (B : Nat → Sr) (g : Sr) (a : Nat → Sr) (Ls : Nat → Nat) (hG : GInv B a Ls) (z1 : Int) (hz1 : -2147483648 ≤ z1 ∧ z1 < 2147483648) : gMi l yX0_advance wsX0_advance (rK 6 150) D d (EW h qb qr d) (B, g) h [.int (iI (z1))] (fun r u => ∃ B1, u = (B1, g) ∧ (((z1 < 0 ∨ 3 < z1) ∧ r = iI (-1) ∧ B1 = B) ∨ (∃ s0 : Nat, s0 < 4 ∧ z1 = (s0 : Int) ∧ Kept B1 a Ls s0 (tl (a s0)) r))) := by
  refine g_entryi (by decide) (Nat.le_of_ble_eq_true rfl) ?_
  intro p e s m args below meth c A Q hx hb hml hown hts hK hA hret H locs hP hD hS ls hl
  have hl : lv_has ls 4 [(0, .ref h), (1, .int (iI (z1)))] := hl
  refine lv_iload_n hx hb dX0_advance_0 rfl (lv_at hl 1 rfl) ?_
  refine s_calli ⟨hx, hb, hml, hown, hts⟩ (metX0_bad l z1 hz1) (va_cwS 1 hts (lw_S q55 q56 q33 q57) rfl rfl rfl (by decide +kernel) ⟨Nat.le_of_ble_eq_true rfl, Nat.le_of_ble_eq_true rfl⟩) hA hP hS rfl hl.1 rfl (Nat.le_of_ble_eq_true rfl) dX0_advance_1 ⟨Nat.zero_le _, Nat.zero_le _⟩ (fun r H locs hq hP hS => ?_)
  obtain rfl := hq
  refine x_if_eq (tgt := 9) hx hb (by have := bd_bd z1; omega) dX0_advance_4 (by decide) (fun c_4 => ?_) (fun c_4 => ?_)
  · -- t 9
    obtain ⟨s0, rfl⟩ : ∃ q : Nat, z1 = (q : Int) := ⟨z1.toNat, by have := bd_y (by assumption : bd z1 = 0); omega⟩
    have hs04 : s0 < 4 := by have := bd_y (by assumption : bd (s0 : Int) = 0); omega
    refine lv_aload_n hx hb dX0_advance_9 rfl (lv_at hl 0 rfl) ?_
    refine lv_iload_n hx hb dX0_advance_10 rfl (lv_at hl 1 rfl) ?_
    refine g_callv ⟨hx, hb, hml, hown, hts⟩ (metX0_load l D d h qb qr B g s0 hs04) (cwV 1 hts (lw_V q123 q125 qs11 q33 q126) rfl rfl rfl (by decide +kernel) ⟨Nat.le_of_ble_eq_true rfl, Nat.le_of_ble_eq_true rfl⟩) (va_recv hK hP (ci := 0) (q0 := 0) rfl rfl) hK hA hP hD hS rfl hl.1 rfl (Nat.le_of_ble_eq_true rfl) dX0_advance_11 ⟨Nat.zero_le _, Nat.zero_le _⟩ (fun u H locs hq hP hD hS => ?_)
    obtain ⟨B1, rfl, eB1⟩ := hq
    obtain ⟨k0, k1, hR1⟩ := rdy_load (hG s0 hs04).1 (hG s0 hs04).2 eB1
    refine lv_aload_n hx hb dX0_advance_14 rfl (lv_at hl 0 rfl) ?_
    refine e_getb hx hb hts hown hK hP dX0_advance_15 ?_
    refine x_iconst hx hb dX0_advance_18 ?_
    refine e_bld hx hb hK hP (0) (0) (by omega) dX0_advance_19 ?_
    refine lv_istore_n (lv' := [(2, .int (iI (((B1 (0) (0)).val : Int)))), (0, .ref h), (1, .int (iI ((s0 : Int))))]) hx hb dX0_advance_20 rfl hl (by decide) rfl (fun ls hl => ?_)
    refine lv_aload_n hx hb dX0_advance_21 rfl (lv_at hl 1 rfl) ?_
    refine x_iconst hx hb dX0_advance_22 ?_
    refine x_iconst hx hb dX0_advance_23 ?_
    refine x_bipush hx hb dX0_advance_24 (by decide) ?_
    refine lv_iload_n hx hb dX0_advance_26 rfl (lv_at hl 0 rfl) ?_
    refine x_isub hx hb dX0_advance_27 ?_
    refine x_iconst hx hb dX0_advance_28 ?_
    refine g_callv ⟨hx, hb, hml, hown, hts⟩ (metX0_addTimes l D d h qb qr B1 g 0 1 (101 - ((B1 0 0).val : Int)) 0 (by omega) (by omega) (by decide) (by omega) (by omega)) (cwV 4 hts (lw_V q74 q76 qs3 q33 q77) rfl rfl rfl (by decide +kernel) ⟨Nat.le_of_ble_eq_true rfl, Nat.le_of_ble_eq_true rfl⟩) (va_recv hK hP (ci := 0) (q0 := 0) rfl rfl) hK hA hP hD hS rfl hl.1 rfl (Nat.le_of_ble_eq_true rfl) dX0_advance_29 ⟨Nat.zero_le _, Nat.zero_le _⟩ (fun u H locs hq hP hD hS => ?_)
    obtain ⟨B2, rfl, eB2⟩ := hq
    refine x_iconst hx hb dX0_advance_32 ?_
    refine lv_istore_n (lv' := [(3, .int (iI (0))), (2, .int (iI (((B1 (0) (0)).val : Int)))), (0, .ref h), (1, .int (iI ((s0 : Int))))]) hx hb dX0_advance_33 rfl hl (by decide) rfl (fun ls hl => ?_)
    have lp_34 : ∀ (n : Nat) (i : Nat) (Bc : Nat → Sr) (hi : i ≤ 23) (hn : 23 < i + n) (hI : Fill 24 B2 0 (fun n => B2 0 (n + 1)) 0 i Bc) (H : Heap) (locs : List Loc), va_P D vwCl (EW h qb qr d (Bc, g)) H → va_D A (EW h qb qr d (Bc, g)) → va_S A s.heap H locs → ∀ ls : Array Slot, lv_has ls 4 [(0, .ref h), (1, .int (iI ((s0 : Int)))), (2, .int (iI (((B1 0 0).val : Int)))), (3, .int (iI ((i : Int))))] → W p l e (rK 6 150) s m args below meth c H locs 0 0 Q (F0 m 34 ls []) := by
      intro n
      induction n with
      | zero =>
        intro i Bc hi hn hI
        exfalso
        omega
      | succ n ih_34 =>
        intro i Bc hi hn hI H locs hP hD hS ls hl
        refine lv_iload_n hx hb dX0_advance_34 rfl (lv_at hl 3 rfl) ?_
        refine x_iconst hx hb dX0_advance_35 ?_
        refine x_iadd hx hb dX0_advance_36 ?_
        refine x_bipush hx hb dX0_advance_37 (by decide) ?_
        refine x_icmp_ge (tgt := 66) hx hb (by omega) dX0_advance_39 (by decide) (fun c_39 => ?_) (fun c_39 => ?_)
        · -- t 66
          refine lv_aload_n hx hb dX0_advance_66 rfl (lv_at hl 0 rfl) ?_
          refine e_getb hx hb hts hown hK hP dX0_advance_67 ?_
          refine x_bipush hx hb dX0_advance_70 (by decide) ?_
          refine x_iconst hx hb dX0_advance_72 ?_
          refine e_bst hx hb hK hP hD hS (0) (23) (0) (rfl) (by omega) dX0_advance_73 (fun H locs hP hD hS => ?_)
          obtain ⟨B4, eB4⟩ : ∃ z, z = setB Bc (0) (23) (0) := ⟨_, rfl⟩
          rw [← eB4] at hP hD
          obtain ⟨B5, eB5⟩ : ∃ z, z = setP B2 0 (fun n => if n < 23 then B2 0 (n + 1) else 0) := ⟨_, rfl⟩
          rw [EW_congr B5 (by rw [eB5]; exact adv_end hI (by omega) eB4)] at hP hD
          have hR2 := rdy_adv hR1 (by rw [k1]; exact (hG s0 hs04).1.1) rfl eB2 eB5
          refine lv_aload_n hx hb dX0_advance_74 rfl (lv_at hl 0 rfl) ?_
          refine lv_iload_n hx hb dX0_advance_75 rfl (lv_at hl 1 rfl) ?_
          refine g_calli ⟨hx, hb, hml, hown, hts⟩ (metX0_keep l D d h qb qr B5 g s0 (tl (a s0)) 8 hs04 (by omega) hR2.2.1 hR2.2.2.1 hR2.2.2.2.1 hR2.2.2.2.2) (cwV 1 hts (lw_V q82 q84 qs5 q33 q85) rfl rfl rfl (by decide +kernel) ⟨Nat.le_of_ble_eq_true rfl, Nat.le_of_ble_eq_true rfl⟩) (va_recv hK hP (ci := 0) (q0 := 0) rfl rfl) hK hA hP hD hS rfl hl.1 rfl (Nat.le_of_ble_eq_true rfl) dX0_advance_76 ⟨Nat.zero_le _, Nat.zero_le _⟩ (fun r u H locs hq hP hD hS => ?_)
          obtain ⟨L, Bz, rfl, hLM, hk⟩ := hq
          have hK9 := kept_of hG (by omega) hR2.1 hLM hk
          exact hret _ _ H locs _ _ (⟨Bz, rfl, Or.inr ⟨s0, hs04, rfl, hK9⟩⟩) hP hD hS dX0_advance_79
        · -- f 42
          refine lv_aload_n hx hb dX0_advance_42 rfl (lv_at hl 0 rfl) ?_
          refine e_getb hx hb hts hown hK hP dX0_advance_43 ?_
          refine x_iconst hx hb dX0_advance_46 ?_
          refine lv_iload_n hx hb dX0_advance_47 rfl (lv_at hl 3 rfl) ?_
          refine x_iadd hx hb dX0_advance_48 ?_
          refine lv_aload_n hx hb dX0_advance_49 rfl (lv_at hl 0 rfl) ?_
          refine e_getb hx hb hts hown hK hP dX0_advance_50 ?_
          refine x_iconst hx hb dX0_advance_53 ?_
          refine lv_iload_n hx hb dX0_advance_54 rfl (lv_at hl 3 rfl) ?_
          refine x_iadd hx hb dX0_advance_55 ?_
          refine x_iconst hx hb dX0_advance_56 ?_
          refine x_iadd hx hb dX0_advance_57 ?_
          refine e_bld hx hb hK hP (0) (i + 1) (by omega) dX0_advance_58 ?_
          refine e_bst hx hb hK hP hD hS (0) (i) (Bc 0 (i + 1)) (rfl) (by omega) dX0_advance_59 (fun H locs hP hD hS => ?_)
          obtain ⟨B3, eB3⟩ : ∃ z, z = setB Bc (0) (i) (Bc 0 (i + 1)) := ⟨_, rfl⟩
          rw [← eB3] at hP hD
          refine x_iinc (v := ((i + 1 : Nat) : Int)) (lv' := [(3, .int (iI (((i + 1 : Nat) : Int)))), (0, .ref h), (1, .int (iI ((s0 : Int)))), (2, .int (iI (((B1 0 0).val : Int))))]) hx hb dX0_advance_60 hl (k := 3) rfl (by omega) (by decide) rfl (fun ls hl => ?_)
          refine lv_goto (tgt := 34) hx hb dX0_advance_63 (by decide) ?_
          exact ih_34 (i + 1) B3 (by omega) (by omega) (by rw [eB3]; exact fill_s hI (by omega) (fill_at hI (by omega) (by omega))) H locs hP hD hS ls (lv_sub hl [1, 2, 3, 0] rfl)
    exact lp_34 24 0 B2 (by omega) (by omega) (fill_0 _ _ _ _ _) H locs hP hD hS ls (lv_sub hl [2, 3, 1, 0] rfl)
  · -- f 7
    have hbadz1 := bd_n (by assumption : ¬ bd z1 = 0)
    refine x_iconst hx hb dX0_advance_7 ?_
    exact hret _ _ H locs _ _ (⟨B, rfl, Or.inl ⟨hbadz1, rfl, rfl⟩⟩) hP hD hS dX0_advance_8
abbrev wsX0_prepend : List Cond := ws_ yX0_prepend cX0_prepend 4 (some .int)
set_option maxHeartbeats 4000000 in
set_option maxRecDepth 100000 in
/-- prepend(s, x) -/
theorem metX0_prepend (l : Launch) (D : va_G) (d : ClassId) (h qb qr : Nat) (B : Nat → Sr) (g : Sr) (a : Nat → Sr) (Ls : Nat → Nat) (hG : GInv B a Ls) (z1 : Int) (hz1 : -2147483648 ≤ z1 ∧ z1 < 2147483648) (z2 : Int) (hz2 : -2147483648 ≤ z2 ∧ z2 < 2147483648) : gMi l yX0_prepend wsX0_prepend (rK 6 150) D d (EW h qb qr d) (B, g) h [.int (iI (z1)), .int (iI (z2))] (fun r u => ∃ B1, u = (B1, g) ∧ (((z1 < 0 ∨ 3 < z1) ∧ r = iI (-1) ∧ B1 = B) ∨ (∃ s0 : Nat, s0 < 4 ∧ z1 = (s0 : Int) ∧ Kept B1 a Ls s0 (pre1 (toF z2) (a s0)) r))) := by
  refine g_entryi (by decide) (Nat.le_of_ble_eq_true rfl) ?_
  intro p e s m args below meth c A Q hx hb hml hown hts hK hA hret H locs hP hD hS ls hl
  have hl : lv_has ls 4 [(0, .ref h), (1, .int (iI (z1))), (2, .int (iI (z2)))] := hl
  refine lv_iload_n hx hb dX0_prepend_0 rfl (lv_at hl 1 rfl) ?_
  refine s_calli ⟨hx, hb, hml, hown, hts⟩ (metX0_bad l z1 hz1) (va_cwS 1 hts (lw_S q55 q56 q33 q57) rfl rfl rfl (by decide +kernel) ⟨Nat.le_of_ble_eq_true rfl, Nat.le_of_ble_eq_true rfl⟩) hA hP hS rfl hl.1 rfl (Nat.le_of_ble_eq_true rfl) dX0_prepend_1 ⟨Nat.zero_le _, Nat.zero_le _⟩ (fun r H locs hq hP hS => ?_)
  obtain rfl := hq
  refine x_if_eq (tgt := 9) hx hb (by have := bd_bd z1; omega) dX0_prepend_4 (by decide) (fun c_4 => ?_) (fun c_4 => ?_)
  · -- t 9
    obtain ⟨s0, rfl⟩ : ∃ q : Nat, z1 = (q : Int) := ⟨z1.toNat, by have := bd_y (by assumption : bd z1 = 0); omega⟩
    have hs04 : s0 < 4 := by have := bd_y (by assumption : bd (s0 : Int) = 0); omega
    refine lv_aload_n hx hb dX0_prepend_9 rfl (lv_at hl 0 rfl) ?_
    refine lv_iload_n hx hb dX0_prepend_10 rfl (lv_at hl 1 rfl) ?_
    refine g_callv ⟨hx, hb, hml, hown, hts⟩ (metX0_load l D d h qb qr B g s0 hs04) (cwV 1 hts (lw_V q123 q125 qs11 q33 q126) rfl rfl rfl (by decide +kernel) ⟨Nat.le_of_ble_eq_true rfl, Nat.le_of_ble_eq_true rfl⟩) (va_recv hK hP (ci := 0) (q0 := 0) rfl rfl) hK hA hP hD hS rfl hl.1 rfl (Nat.le_of_ble_eq_true rfl) dX0_prepend_11 ⟨Nat.zero_le _, Nat.zero_le _⟩ (fun u H locs hq hP hD hS => ?_)
    obtain ⟨B1, rfl, eB1⟩ := hq
    obtain ⟨k0, k1, hR1⟩ := rdy_load (hG s0 hs04).1 (hG s0 hs04).2 eB1
    refine lv_aload_n hx hb dX0_prepend_14 rfl (lv_at hl 0 rfl) ?_
    refine x_iconst hx hb dX0_prepend_15 ?_
    refine x_iconst hx hb dX0_prepend_16 ?_
    refine g_callv ⟨hx, hb, hml, hown, hts⟩ (metX0_copyPoly l D d h qb qr B1 g 2 0 (by omega) (by omega)) (cwV 2 hts (lw_V q78 q80 qs4 q33 q81) rfl rfl rfl (by decide +kernel) ⟨Nat.le_of_ble_eq_true rfl, Nat.le_of_ble_eq_true rfl⟩) (va_recv hK hP (ci := 0) (q0 := 0) rfl rfl) hK hA hP hD hS rfl hl.1 rfl (Nat.le_of_ble_eq_true rfl) dX0_prepend_17 ⟨Nat.zero_le _, Nat.zero_le _⟩ (fun u H locs hq hP hD hS => ?_)
    obtain ⟨B2, rfl, eB2⟩ := hq
    refine lv_aload_n hx hb dX0_prepend_20 rfl (lv_at hl 0 rfl) ?_
    refine x_iconst hx hb dX0_prepend_21 ?_
    refine g_callv ⟨hx, hb, hml, hown, hts⟩ (metX0_clearPoly l D d h qb qr B2 g 0 (by omega)) (cwV 1 hts (lw_V q59 q61 qs0 q33 q62) rfl rfl rfl (by decide +kernel) ⟨Nat.le_of_ble_eq_true rfl, Nat.le_of_ble_eq_true rfl⟩) (va_recv hK hP (ci := 0) (q0 := 0) rfl rfl) hK hA hP hD hS rfl hl.1 rfl (Nat.le_of_ble_eq_true rfl) dX0_prepend_22 ⟨Nat.zero_le _, Nat.zero_le _⟩ (fun u H locs hq hP hD hS => ?_)
    obtain ⟨B3, rfl, eB3⟩ := hq
    refine lv_aload_n hx hb dX0_prepend_25 rfl (lv_at hl 0 rfl) ?_
    refine x_iconst hx hb dX0_prepend_26 ?_
    refine x_iconst hx hb dX0_prepend_27 ?_
    refine x_iconst hx hb dX0_prepend_28 ?_
    refine x_iconst hx hb dX0_prepend_29 ?_
    refine g_callv ⟨hx, hb, hml, hown, hts⟩ (metX0_addTimes l D d h qb qr B3 g 0 2 1 1 (by omega) (by omega) (by decide) (by omega) (by omega)) (cwV 4 hts (lw_V q74 q76 qs3 q33 q77) rfl rfl rfl (by decide +kernel) ⟨Nat.le_of_ble_eq_true rfl, Nat.le_of_ble_eq_true rfl⟩) (va_recv hK hP (ci := 0) (q0 := 0) rfl rfl) hK hA hP hD hS rfl hl.1 rfl (Nat.le_of_ble_eq_true rfl) dX0_prepend_30 ⟨Nat.zero_le _, Nat.zero_le _⟩ (fun u H locs hq hP hD hS => ?_)
    obtain ⟨B4, rfl, eB4⟩ := hq
    refine lv_iload_n hx hb dX0_prepend_33 rfl (lv_at hl 2 rfl) ?_
    refine s_calli ⟨hx, hb, hml, hown, hts⟩ (metX0_mod l z2 hz2) (va_cwS 1 hts (lw_S q63 q64 q33 q65) rfl rfl rfl (by decide +kernel) ⟨Nat.le_of_ble_eq_true rfl, Nat.le_of_ble_eq_true rfl⟩) hA hP hS rfl hl.1 rfl (Nat.le_of_ble_eq_true rfl) dX0_prepend_34 ⟨Nat.zero_le _, Nat.zero_le _⟩ (fun r H locs hq hP hS => ?_)
    obtain rfl := hq
    refine lv_istore_n (lv' := [(3, .int (iI (((toF z2).val : Int)))), (0, .ref h), (1, .int (iI ((s0 : Int)))), (2, .int (iI (z2)))]) hx hb dX0_prepend_37 rfl hl (by decide) rfl (fun ls hl => ?_)
    refine lv_aload_n hx hb dX0_prepend_38 rfl (lv_at hl 1 rfl) ?_
    refine x_iconst hx hb dX0_prepend_39 ?_
    refine x_iconst hx hb dX0_prepend_40 ?_
    refine lv_iload_n hx hb dX0_prepend_41 rfl (lv_at hl 0 rfl) ?_
    refine x_iconst hx hb dX0_prepend_42 ?_
    refine g_callv ⟨hx, hb, hml, hown, hts⟩ (metX0_addTimes l D d h qb qr B4 g 0 1 ((toF z2).val : Int) 0 (by omega) (by omega) (by decide) (by omega) (by omega)) (cwV 4 hts (lw_V q74 q76 qs3 q33 q77) rfl rfl rfl (by decide +kernel) ⟨Nat.le_of_ble_eq_true rfl, Nat.le_of_ble_eq_true rfl⟩) (va_recv hK hP (ci := 0) (q0 := 0) rfl rfl) hK hA hP hD hS rfl hl.1 rfl (Nat.le_of_ble_eq_true rfl) dX0_prepend_43 ⟨Nat.zero_le _, Nat.zero_le _⟩ (fun u H locs hq hP hD hS => ?_)
    obtain ⟨B5, rfl, eB5⟩ := hq
    have hR2 := rdy_pre hR1 eB2 eB3 eB4 eB5
    refine lv_aload_n hx hb dX0_prepend_46 rfl (lv_at hl 1 rfl) ?_
    refine lv_iload_n hx hb dX0_prepend_47 rfl (lv_at hl 2 rfl) ?_
    refine g_calli ⟨hx, hb, hml, hown, hts⟩ (metX0_keep l D d h qb qr B5 g s0 (pre1 (toF z2) (a s0)) 9 hs04 (by omega) hR2.2.1 hR2.2.2.1 hR2.2.2.2.1 hR2.2.2.2.2) (cwV 1 hts (lw_V q82 q84 qs5 q33 q85) rfl rfl rfl (by decide +kernel) ⟨Nat.le_of_ble_eq_true rfl, Nat.le_of_ble_eq_true rfl⟩) (va_recv hK hP (ci := 0) (q0 := 0) rfl rfl) hK hA hP hD hS rfl hl.1 rfl (Nat.le_of_ble_eq_true rfl) dX0_prepend_48 ⟨Nat.zero_le _, Nat.zero_le _⟩ (fun r u H locs hq hP hD hS => ?_)
    obtain ⟨L, Bz, rfl, hLM, hk⟩ := hq
    have hK9 := kept_of hG (by omega) hR2.1 hLM hk
    exact hret _ _ H locs _ _ (⟨Bz, rfl, Or.inr ⟨s0, hs04, rfl, hK9⟩⟩) hP hD hS dX0_prepend_51
  · -- f 7
    have hbadz1 := bd_n (by assumption : ¬ bd z1 = 0)
    refine x_iconst hx hb dX0_prepend_7 ?_
    exact hret _ _ H locs _ _ (⟨B, rfl, Or.inl ⟨hbadz1, rfl, rfl⟩⟩) hP hD hS dX0_prepend_8
abbrev wsX0_accumulate : List Cond := ws_ yX0_accumulate cX0_accumulate 2 (some .int)
set_option maxHeartbeats 4000000 in
set_option maxRecDepth 100000 in
/-- accumulate(s) -/
theorem metX0_accumulate (l : Launch) (D : va_G) (d : ClassId) (h qb qr : Nat) (B : Nat → Sr) (g : Sr) (a : Nat → Sr) (Ls : Nat → Nat) (hG : GInv B a Ls) (z1 : Int) (hz1 : -2147483648 ≤ z1 ∧ z1 < 2147483648) : gMi l yX0_accumulate wsX0_accumulate (rK 6 150) D d (EW h qb qr d) (B, g) h [.int (iI (z1))] (fun r u => ∃ B1, u = (B1, g) ∧ (((z1 < 0 ∨ 3 < z1) ∧ r = iI (-1) ∧ B1 = B) ∨ (∃ s0 : Nat, s0 < 4 ∧ z1 = (s0 : Int) ∧ Kept B1 a Ls s0 (acc (a s0)) r))) := by
  refine g_entryi (by decide) (Nat.le_of_ble_eq_true rfl) ?_
  intro p e s m args below meth c A Q hx hb hml hown hts hK hA hret H locs hP hD hS ls hl
  have hl : lv_has ls 2 [(0, .ref h), (1, .int (iI (z1)))] := hl
  refine lv_iload_n hx hb dX0_accumulate_0 rfl (lv_at hl 1 rfl) ?_
  refine s_calli ⟨hx, hb, hml, hown, hts⟩ (metX0_bad l z1 hz1) (va_cwS 1 hts (lw_S q55 q56 q33 q57) rfl rfl rfl (by decide +kernel) ⟨Nat.le_of_ble_eq_true rfl, Nat.le_of_ble_eq_true rfl⟩) hA hP hS rfl hl.1 rfl (Nat.le_of_ble_eq_true rfl) dX0_accumulate_1 ⟨Nat.zero_le _, Nat.zero_le _⟩ (fun r H locs hq hP hS => ?_)
  obtain rfl := hq
  refine x_if_eq (tgt := 9) hx hb (by have := bd_bd z1; omega) dX0_accumulate_4 (by decide) (fun c_4 => ?_) (fun c_4 => ?_)
  · -- t 9
    obtain ⟨s0, rfl⟩ : ∃ q : Nat, z1 = (q : Int) := ⟨z1.toNat, by have := bd_y (by assumption : bd z1 = 0); omega⟩
    have hs04 : s0 < 4 := by have := bd_y (by assumption : bd (s0 : Int) = 0); omega
    refine lv_aload_n hx hb dX0_accumulate_9 rfl (lv_at hl 0 rfl) ?_
    refine lv_iload_n hx hb dX0_accumulate_10 rfl (lv_at hl 1 rfl) ?_
    refine g_callv ⟨hx, hb, hml, hown, hts⟩ (metX0_load l D d h qb qr B g s0 hs04) (cwV 1 hts (lw_V q123 q125 qs11 q33 q126) rfl rfl rfl (by decide +kernel) ⟨Nat.le_of_ble_eq_true rfl, Nat.le_of_ble_eq_true rfl⟩) (va_recv hK hP (ci := 0) (q0 := 0) rfl rfl) hK hA hP hD hS rfl hl.1 rfl (Nat.le_of_ble_eq_true rfl) dX0_accumulate_11 ⟨Nat.zero_le _, Nat.zero_le _⟩ (fun u H locs hq hP hD hS => ?_)
    obtain ⟨B1, rfl, eB1⟩ := hq
    obtain ⟨k0, k1, hR1⟩ := rdy_load (hG s0 hs04).1 (hG s0 hs04).2 eB1
    refine lv_aload_n hx hb dX0_accumulate_14 rfl (lv_at hl 0 rfl) ?_
    refine g_callv ⟨hx, hb, hml, hown, hts⟩ (metX0_loadStep l D d h qb qr B1 g ) (cwV 0 hts (lw_V q139 q141 qs12 q33 q142) rfl rfl rfl (by decide +kernel) ⟨Nat.le_of_ble_eq_true rfl, Nat.le_of_ble_eq_true rfl⟩) (va_recv hK hP (ci := 0) (q0 := 0) rfl rfl) hK hA hP hD hS rfl hl.1 rfl (Nat.le_of_ble_eq_true rfl) dX0_accumulate_15 ⟨Nat.zero_le _, Nat.zero_le _⟩ (fun u H locs hq hP hD hS => ?_)
    obtain ⟨B2, rfl, eB2⟩ := hq
    refine lv_aload_n hx hb dX0_accumulate_18 rfl (lv_at hl 0 rfl) ?_
    refine x_iconst hx hb dX0_accumulate_19 ?_
    refine x_iconst hx hb dX0_accumulate_20 ?_
    refine x_iconst hx hb dX0_accumulate_21 ?_
    refine g_callv ⟨hx, hb, hml, hown, hts⟩ (metX0_multiply l D d h qb qr B2 g 1 1 3 (by omega) (by omega) (by omega) (by decide) (by decide)) (cwV 3 hts (lw_V q66 q68 qs1 q33 q69) rfl rfl rfl (by decide +kernel) ⟨Nat.le_of_ble_eq_true rfl, Nat.le_of_ble_eq_true rfl⟩) (va_recv hK hP (ci := 0) (q0 := 0) rfl rfl) hK hA hP hD hS rfl hl.1 rfl (Nat.le_of_ble_eq_true rfl) dX0_accumulate_22 ⟨Nat.zero_le _, Nat.zero_le _⟩ (fun u H locs hq hP hD hS => ?_)
    obtain ⟨B3, rfl, eB3⟩ := hq
    have hR2 := rdy_acc hR1 eB2 eB3
    refine lv_aload_n hx hb dX0_accumulate_25 rfl (lv_at hl 0 rfl) ?_
    refine lv_iload_n hx hb dX0_accumulate_26 rfl (lv_at hl 1 rfl) ?_
    refine g_calli ⟨hx, hb, hml, hown, hts⟩ (metX0_keep l D d h qb qr B3 g s0 (acc (a s0)) 9 hs04 (by omega) hR2.2.1 hR2.2.2.1 hR2.2.2.2.1 hR2.2.2.2.2) (cwV 1 hts (lw_V q82 q84 qs5 q33 q85) rfl rfl rfl (by decide +kernel) ⟨Nat.le_of_ble_eq_true rfl, Nat.le_of_ble_eq_true rfl⟩) (va_recv hK hP (ci := 0) (q0 := 0) rfl rfl) hK hA hP hD hS rfl hl.1 rfl (Nat.le_of_ble_eq_true rfl) dX0_accumulate_27 ⟨Nat.zero_le _, Nat.zero_le _⟩ (fun r u H locs hq hP hD hS => ?_)
    obtain ⟨L, Bz, rfl, hLM, hk⟩ := hq
    have hK9 := kept_of hG (by omega) hR2.1 hLM hk
    exact hret _ _ H locs _ _ (⟨Bz, rfl, Or.inr ⟨s0, hs04, rfl, hK9⟩⟩) hP hD hS dX0_accumulate_30
  · -- f 7
    have hbadz1 := bd_n (by assumption : ¬ bd z1 = 0)
    refine x_iconst hx hb dX0_accumulate_7 ?_
    exact hret _ _ H locs _ _ (⟨B, rfl, Or.inl ⟨hbadz1, rfl, rfl⟩⟩) hP hD hS dX0_accumulate_8
abbrev wsX0_difference : List Cond := ws_ yX0_difference cX0_difference 2 (some .int)
set_option maxHeartbeats 4000000 in
set_option maxRecDepth 100000 in
/-- difference(s) -/
theorem metX0_difference (l : Launch) (D : va_G) (d : ClassId) (h qb qr : Nat) (B : Nat → Sr) (g : Sr) (a : Nat → Sr) (Ls : Nat → Nat) (hG : GInv B a Ls) (z1 : Int) (hz1 : -2147483648 ≤ z1 ∧ z1 < 2147483648) : gMi l yX0_difference wsX0_difference (rK 6 150) D d (EW h qb qr d) (B, g) h [.int (iI (z1))] (fun r u => ∃ B1, u = (B1, g) ∧ (((z1 < 0 ∨ 3 < z1) ∧ r = iI (-1) ∧ B1 = B) ∨ (∃ s0 : Nat, s0 < 4 ∧ z1 = (s0 : Int) ∧ Kept B1 a Ls s0 (cv stp (a s0)) r))) := by
  refine g_entryi (by decide) (Nat.le_of_ble_eq_true rfl) ?_
  intro p e s m args below meth c A Q hx hb hml hown hts hK hA hret H locs hP hD hS ls hl
  have hl : lv_has ls 2 [(0, .ref h), (1, .int (iI (z1)))] := hl
  refine lv_iload_n hx hb dX0_difference_0 rfl (lv_at hl 1 rfl) ?_
  refine s_calli ⟨hx, hb, hml, hown, hts⟩ (metX0_bad l z1 hz1) (va_cwS 1 hts (lw_S q55 q56 q33 q57) rfl rfl rfl (by decide +kernel) ⟨Nat.le_of_ble_eq_true rfl, Nat.le_of_ble_eq_true rfl⟩) hA hP hS rfl hl.1 rfl (Nat.le_of_ble_eq_true rfl) dX0_difference_1 ⟨Nat.zero_le _, Nat.zero_le _⟩ (fun r H locs hq hP hS => ?_)
  obtain rfl := hq
  refine x_if_eq (tgt := 9) hx hb (by have := bd_bd z1; omega) dX0_difference_4 (by decide) (fun c_4 => ?_) (fun c_4 => ?_)
  · -- t 9
    obtain ⟨s0, rfl⟩ : ∃ q : Nat, z1 = (q : Int) := ⟨z1.toNat, by have := bd_y (by assumption : bd z1 = 0); omega⟩
    have hs04 : s0 < 4 := by have := bd_y (by assumption : bd (s0 : Int) = 0); omega
    refine lv_aload_n hx hb dX0_difference_9 rfl (lv_at hl 0 rfl) ?_
    refine lv_iload_n hx hb dX0_difference_10 rfl (lv_at hl 1 rfl) ?_
    refine g_callv ⟨hx, hb, hml, hown, hts⟩ (metX0_load l D d h qb qr B g s0 hs04) (cwV 1 hts (lw_V q123 q125 qs11 q33 q126) rfl rfl rfl (by decide +kernel) ⟨Nat.le_of_ble_eq_true rfl, Nat.le_of_ble_eq_true rfl⟩) (va_recv hK hP (ci := 0) (q0 := 0) rfl rfl) hK hA hP hD hS rfl hl.1 rfl (Nat.le_of_ble_eq_true rfl) dX0_difference_11 ⟨Nat.zero_le _, Nat.zero_le _⟩ (fun u H locs hq hP hD hS => ?_)
    obtain ⟨B1, rfl, eB1⟩ := hq
    obtain ⟨k0, k1, hR1⟩ := rdy_load (hG s0 hs04).1 (hG s0 hs04).2 eB1
    refine lv_aload_n hx hb dX0_difference_14 rfl (lv_at hl 0 rfl) ?_
    refine g_callv ⟨hx, hb, hml, hown, hts⟩ (metX0_loadStep l D d h qb qr B1 g ) (cwV 0 hts (lw_V q139 q141 qs12 q33 q142) rfl rfl rfl (by decide +kernel) ⟨Nat.le_of_ble_eq_true rfl, Nat.le_of_ble_eq_true rfl⟩) (va_recv hK hP (ci := 0) (q0 := 0) rfl rfl) hK hA hP hD hS rfl hl.1 rfl (Nat.le_of_ble_eq_true rfl) dX0_difference_15 ⟨Nat.zero_le _, Nat.zero_le _⟩ (fun u H locs hq hP hD hS => ?_)
    obtain ⟨B2, rfl, eB2⟩ := hq
    refine lv_aload_n hx hb dX0_difference_18 rfl (lv_at hl 0 rfl) ?_
    refine x_iconst hx hb dX0_difference_19 ?_
    refine x_iconst hx hb dX0_difference_20 ?_
    refine x_iconst hx hb dX0_difference_21 ?_
    refine g_callv ⟨hx, hb, hml, hown, hts⟩ (metX0_multiply l D d h qb qr B2 g 0 0 3 (by omega) (by omega) (by omega) (by decide) (by decide)) (cwV 3 hts (lw_V q66 q68 qs1 q33 q69) rfl rfl rfl (by decide +kernel) ⟨Nat.le_of_ble_eq_true rfl, Nat.le_of_ble_eq_true rfl⟩) (va_recv hK hP (ci := 0) (q0 := 0) rfl rfl) hK hA hP hD hS rfl hl.1 rfl (Nat.le_of_ble_eq_true rfl) dX0_difference_22 ⟨Nat.zero_le _, Nat.zero_le _⟩ (fun u H locs hq hP hD hS => ?_)
    obtain ⟨B3, rfl, eB3⟩ := hq
    have hR2 := rdy_dif hR1 eB2 eB3
    refine lv_aload_n hx hb dX0_difference_25 rfl (lv_at hl 0 rfl) ?_
    refine lv_iload_n hx hb dX0_difference_26 rfl (lv_at hl 1 rfl) ?_
    refine g_calli ⟨hx, hb, hml, hown, hts⟩ (metX0_keep l D d h qb qr B3 g s0 (cv stp (a s0)) 9 hs04 (by omega) hR2.2.1 hR2.2.2.1 hR2.2.2.2.1 hR2.2.2.2.2) (cwV 1 hts (lw_V q82 q84 qs5 q33 q85) rfl rfl rfl (by decide +kernel) ⟨Nat.le_of_ble_eq_true rfl, Nat.le_of_ble_eq_true rfl⟩) (va_recv hK hP (ci := 0) (q0 := 0) rfl rfl) hK hA hP hD hS rfl hl.1 rfl (Nat.le_of_ble_eq_true rfl) dX0_difference_27 ⟨Nat.zero_le _, Nat.zero_le _⟩ (fun r u H locs hq hP hD hS => ?_)
    obtain ⟨L, Bz, rfl, hLM, hk⟩ := hq
    have hK9 := kept_of hG (by omega) hR2.1 hLM hk
    exact hret _ _ H locs _ _ (⟨Bz, rfl, Or.inr ⟨s0, hs04, rfl, hK9⟩⟩) hP hD hS dX0_difference_30
  · -- f 7
    have hbadz1 := bd_n (by assumption : ¬ bd z1 = 0)
    refine x_iconst hx hb dX0_difference_7 ?_
    exact hret _ _ H locs _ _ (⟨B, rfl, Or.inl ⟨hbadz1, rfl, rfl⟩⟩) hP hD hS dX0_difference_8
abbrev wsX0_copy : List Cond := ws_ yX0_copy cX0_copy 3 (some .int)
set_option maxHeartbeats 4000000 in
set_option maxRecDepth 100000 in
/-- copy(to, s) -/
theorem metX0_copy (l : Launch) (D : va_G) (d : ClassId) (h qb qr : Nat) (B : Nat → Sr) (g : Sr) (a : Nat → Sr) (Ls : Nat → Nat) (hG : GInv B a Ls) (z1 : Int) (hz1 : -2147483648 ≤ z1 ∧ z1 < 2147483648) (z2 : Int) (hz2 : -2147483648 ≤ z2 ∧ z2 < 2147483648) : gMi l yX0_copy wsX0_copy (rK 6 150) D d (EW h qb qr d) (B, g) h [.int (iI (z1)), .int (iI (z2))] (fun r u => ∃ B1, u = (B1, g) ∧ ((((z1 < 0 ∨ 3 < z1) ∨ (z2 < 0 ∨ 3 < z2)) ∧ r = iI (-1) ∧ B1 = B) ∨ (∃ t0 s0 : Nat, t0 < 4 ∧ s0 < 4 ∧ z1 = (t0 : Int) ∧ z2 = (s0 : Int) ∧ Kept B1 a Ls t0 (a s0) r))) := by
  refine g_entryi (by decide) (Nat.le_of_ble_eq_true rfl) ?_
  intro p e s m args below meth c A Q hx hb hml hown hts hK hA hret H locs hP hD hS ls hl
  have hl : lv_has ls 3 [(0, .ref h), (1, .int (iI (z1))), (2, .int (iI (z2)))] := hl
  refine lv_iload_n hx hb dX0_copy_0 rfl (lv_at hl 1 rfl) ?_
  refine s_calli ⟨hx, hb, hml, hown, hts⟩ (metX0_bad l z1 hz1) (va_cwS 1 hts (lw_S q55 q56 q33 q57) rfl rfl rfl (by decide +kernel) ⟨Nat.le_of_ble_eq_true rfl, Nat.le_of_ble_eq_true rfl⟩) hA hP hS rfl hl.1 rfl (Nat.le_of_ble_eq_true rfl) dX0_copy_1 ⟨Nat.zero_le _, Nat.zero_le _⟩ (fun r H locs hq hP hS => ?_)
  obtain rfl := hq
  refine x_if_ne (tgt := 14) hx hb (by have := bd_bd z1; omega) dX0_copy_4 (by decide) (fun c_4 => ?_) (fun c_4 => ?_)
  · -- t 14
    have hbadz1 := bd_n (by assumption : ¬ bd z1 = 0)
    refine x_iconst hx hb dX0_copy_14 ?_
    exact hret _ _ H locs _ _ (⟨B, rfl, Or.inl ⟨Or.inl hbadz1, rfl, rfl⟩⟩) hP hD hS dX0_copy_15
  · -- f 7
    obtain ⟨t0, rfl⟩ : ∃ q : Nat, z1 = (q : Int) := ⟨z1.toNat, by have := bd_y (by assumption : bd z1 = 0); omega⟩
    have ht04 : t0 < 4 := by have := bd_y (by assumption : bd (t0 : Int) = 0); omega
    refine lv_iload_n hx hb dX0_copy_7 rfl (lv_at hl 2 rfl) ?_
    refine s_calli ⟨hx, hb, hml, hown, hts⟩ (metX0_bad l z2 hz2) (va_cwS 1 hts (lw_S q55 q56 q33 q57) rfl rfl rfl (by decide +kernel) ⟨Nat.le_of_ble_eq_true rfl, Nat.le_of_ble_eq_true rfl⟩) hA hP hS rfl hl.1 rfl (Nat.le_of_ble_eq_true rfl) dX0_copy_8 ⟨Nat.zero_le _, Nat.zero_le _⟩ (fun r H locs hq hP hS => ?_)
    obtain rfl := hq
    refine x_if_eq (tgt := 16) hx hb (by have := bd_bd z2; omega) dX0_copy_11 (by decide) (fun c_11 => ?_) (fun c_11 => ?_)
    · -- t 16
      obtain ⟨s0, rfl⟩ : ∃ q : Nat, z2 = (q : Int) := ⟨z2.toNat, by have := bd_y (by assumption : bd z2 = 0); omega⟩
      have hs04 : s0 < 4 := by have := bd_y (by assumption : bd (s0 : Int) = 0); omega
      refine lv_aload_n hx hb dX0_copy_16 rfl (lv_at hl 0 rfl) ?_
      refine lv_iload_n hx hb dX0_copy_17 rfl (lv_at hl 2 rfl) ?_
      refine g_callv ⟨hx, hb, hml, hown, hts⟩ (metX0_load l D d h qb qr B g s0 hs04) (cwV 1 hts (lw_V q123 q125 qs11 q33 q126) rfl rfl rfl (by decide +kernel) ⟨Nat.le_of_ble_eq_true rfl, Nat.le_of_ble_eq_true rfl⟩) (va_recv hK hP (ci := 0) (q0 := 0) rfl rfl) hK hA hP hD hS rfl hl.1 rfl (Nat.le_of_ble_eq_true rfl) dX0_copy_18 ⟨Nat.zero_le _, Nat.zero_le _⟩ (fun u H locs hq hP hD hS => ?_)
      obtain ⟨B1, rfl, eB1⟩ := hq
      obtain ⟨k0, k1, hR1⟩ := rdy_load (hG s0 hs04).1 (hG s0 hs04).2 eB1
      refine lv_aload_n hx hb dX0_copy_21 rfl (lv_at hl 0 rfl) ?_
      refine lv_iload_n hx hb dX0_copy_22 rfl (lv_at hl 1 rfl) ?_
      refine g_calli ⟨hx, hb, hml, hown, hts⟩ (metX0_keep l D d h qb qr B1 g t0 (a s0) 8 ht04 (by omega) hR1.2.1 hR1.2.2.1 hR1.2.2.2.1 hR1.2.2.2.2) (cwV 1 hts (lw_V q82 q84 qs5 q33 q85) rfl rfl rfl (by decide +kernel) ⟨Nat.le_of_ble_eq_true rfl, Nat.le_of_ble_eq_true rfl⟩) (va_recv hK hP (ci := 0) (q0 := 0) rfl rfl) hK hA hP hD hS rfl hl.1 rfl (Nat.le_of_ble_eq_true rfl) dX0_copy_23 ⟨Nat.zero_le _, Nat.zero_le _⟩ (fun r u H locs hq hP hD hS => ?_)
      obtain ⟨L, Bz, rfl, hLM, hk⟩ := hq
      have hK9 := kept_of hG (by omega) hR1.1 hLM hk
      exact hret _ _ H locs _ _ (⟨Bz, rfl, Or.inr ⟨t0, s0, ht04, hs04, rfl, rfl, hK9⟩⟩) hP hD hS dX0_copy_26
    · -- f 14
      have hbadz2 := bd_n (by assumption : ¬ bd z2 = 0)
      refine x_iconst hx hb dX0_copy_14 ?_
      exact hret _ _ H locs _ _ (⟨B, rfl, Or.inl ⟨Or.inr hbadz2, rfl, rfl⟩⟩) hP hD hS dX0_copy_15
abbrev wsX0_add : List Cond := ws_ yX0_add cX0_add 8 (some .int)
set_option maxHeartbeats 4000000 in
set_option maxRecDepth 100000 in
/-- add(to, s, t) -/
theorem metX0_add (l : Launch) (D : va_G) (d : ClassId) (h qb qr : Nat) (B : Nat → Sr) (g : Sr) (a : Nat → Sr) (Ls : Nat → Nat) (hG : GInv B a Ls) (z1 : Int) (hz1 : -2147483648 ≤ z1 ∧ z1 < 2147483648) (z2 : Int) (hz2 : -2147483648 ≤ z2 ∧ z2 < 2147483648) (z3 : Int) (hz3 : -2147483648 ≤ z3 ∧ z3 < 2147483648) : gMi l yX0_add wsX0_add (rK 6 150) D d (EW h qb qr d) (B, g) h [.int (iI (z1)), .int (iI (z2)), .int (iI (z3))] (fun r u => ∃ B1, u = (B1, g) ∧ ((((z1 < 0 ∨ 3 < z1) ∨ (z2 < 0 ∨ 3 < z2) ∨ (z3 < 0 ∨ 3 < z3)) ∧ r = iI (-1) ∧ B1 = B) ∨ (∃ t0 s0 s1 : Nat, t0 < 4 ∧ s0 < 4 ∧ s1 < 4 ∧ z1 = (t0 : Int) ∧ z2 = (s0 : Int) ∧ z3 = (s1 : Int) ∧ Kept B1 a Ls t0 (ad (a s0) (a s1)) r))) := by
  refine g_entryi (by decide) (Nat.le_of_ble_eq_true rfl) ?_
  intro p e s m args below meth c A Q hx hb hml hown hts hK hA hret H locs hP hD hS ls hl
  have hl : lv_has ls 8 [(0, .ref h), (1, .int (iI (z1))), (2, .int (iI (z2))), (3, .int (iI (z3)))] := hl
  refine lv_iload_n hx hb dX0_add_0 rfl (lv_at hl 1 rfl) ?_
  refine s_calli ⟨hx, hb, hml, hown, hts⟩ (metX0_bad l z1 hz1) (va_cwS 1 hts (lw_S q55 q56 q33 q57) rfl rfl rfl (by decide +kernel) ⟨Nat.le_of_ble_eq_true rfl, Nat.le_of_ble_eq_true rfl⟩) hA hP hS rfl hl.1 rfl (Nat.le_of_ble_eq_true rfl) dX0_add_1 ⟨Nat.zero_le _, Nat.zero_le _⟩ (fun r H locs hq hP hS => ?_)
  obtain rfl := hq
  refine x_if_ne (tgt := 21) hx hb (by have := bd_bd z1; omega) dX0_add_4 (by decide) (fun c_4 => ?_) (fun c_4 => ?_)
  · -- t 21
    have hbadz1 := bd_n (by assumption : ¬ bd z1 = 0)
    refine x_iconst hx hb dX0_add_21 ?_
    exact hret _ _ H locs _ _ (⟨B, rfl, Or.inl ⟨Or.inl hbadz1, rfl, rfl⟩⟩) hP hD hS dX0_add_22
  · -- f 7
    obtain ⟨t0, rfl⟩ : ∃ q : Nat, z1 = (q : Int) := ⟨z1.toNat, by have := bd_y (by assumption : bd z1 = 0); omega⟩
    have ht04 : t0 < 4 := by have := bd_y (by assumption : bd (t0 : Int) = 0); omega
    refine lv_iload_n hx hb dX0_add_7 rfl (lv_at hl 2 rfl) ?_
    refine s_calli ⟨hx, hb, hml, hown, hts⟩ (metX0_bad l z2 hz2) (va_cwS 1 hts (lw_S q55 q56 q33 q57) rfl rfl rfl (by decide +kernel) ⟨Nat.le_of_ble_eq_true rfl, Nat.le_of_ble_eq_true rfl⟩) hA hP hS rfl hl.1 rfl (Nat.le_of_ble_eq_true rfl) dX0_add_8 ⟨Nat.zero_le _, Nat.zero_le _⟩ (fun r H locs hq hP hS => ?_)
    obtain rfl := hq
    refine x_if_ne (tgt := 21) hx hb (by have := bd_bd z2; omega) dX0_add_11 (by decide) (fun c_11 => ?_) (fun c_11 => ?_)
    · -- t 21
      have hbadz2 := bd_n (by assumption : ¬ bd z2 = 0)
      refine x_iconst hx hb dX0_add_21 ?_
      exact hret _ _ H locs _ _ (⟨B, rfl, Or.inl ⟨Or.inr (Or.inl hbadz2), rfl, rfl⟩⟩) hP hD hS dX0_add_22
    · -- f 14
      obtain ⟨s0, rfl⟩ : ∃ q : Nat, z2 = (q : Int) := ⟨z2.toNat, by have := bd_y (by assumption : bd z2 = 0); omega⟩
      have hs04 : s0 < 4 := by have := bd_y (by assumption : bd (s0 : Int) = 0); omega
      refine lv_iload_n hx hb dX0_add_14 rfl (lv_at hl 3 rfl) ?_
      refine s_calli ⟨hx, hb, hml, hown, hts⟩ (metX0_bad l z3 hz3) (va_cwS 1 hts (lw_S q55 q56 q33 q57) rfl rfl rfl (by decide +kernel) ⟨Nat.le_of_ble_eq_true rfl, Nat.le_of_ble_eq_true rfl⟩) hA hP hS rfl hl.1 rfl (Nat.le_of_ble_eq_true rfl) dX0_add_15 ⟨Nat.zero_le _, Nat.zero_le _⟩ (fun r H locs hq hP hS => ?_)
      obtain rfl := hq
      refine x_if_eq (tgt := 23) hx hb (by have := bd_bd z3; omega) dX0_add_18 (by decide) (fun c_18 => ?_) (fun c_18 => ?_)
      · -- t 23
        obtain ⟨s1, rfl⟩ : ∃ q : Nat, z3 = (q : Int) := ⟨z3.toNat, by have := bd_y (by assumption : bd z3 = 0); omega⟩
        have hs14 : s1 < 4 := by have := bd_y (by assumption : bd (s1 : Int) = 0); omega
        refine lv_iload_n hx hb dX0_add_23 rfl (lv_at hl 2 rfl) ?_
        refine s_calli ⟨hx, hb, hml, hown, hts⟩ (metX0_top l s0) (va_cwS 1 hts (lw_S q109 q110 q33 q111) rfl rfl rfl (by decide +kernel) ⟨Nat.le_of_ble_eq_true rfl, Nat.le_of_ble_eq_true rfl⟩) hA hP hS rfl hl.1 rfl (Nat.le_of_ble_eq_true rfl) dX0_add_24 ⟨Nat.zero_le _, Nat.zero_le _⟩ (fun r H locs hq hP hS => ?_)
        obtain rfl := hq
        refine lv_istore (lv' := [(4, .int (iI (((5 + 2 * s0 : Nat) : Int)))), (0, .ref h), (1, .int (iI ((t0 : Int)))), (2, .int (iI ((s0 : Int)))), (3, .int (iI ((s1 : Int))))]) hx hb dX0_add_27 hl (by decide) rfl (fun ls hl => ?_)
        refine lv_iload_n hx hb dX0_add_29 rfl (lv_at hl 3 rfl) ?_
        refine s_calli ⟨hx, hb, hml, hown, hts⟩ (metX0_bottom l s0) (va_cwS 1 hts (lw_S q112 q113 q33 q114) rfl rfl rfl (by decide +kernel) ⟨Nat.le_of_ble_eq_true rfl, Nat.le_of_ble_eq_true rfl⟩) hA hP hS rfl hl.1 rfl (Nat.le_of_ble_eq_true rfl) dX0_add_30 ⟨Nat.zero_le _, Nat.zero_le _⟩ (fun r H locs hq hP hS => ?_)
        obtain rfl := hq
        refine lv_istore (lv' := [(5, .int (iI (((6 + 2 * s0 : Nat) : Int)))), (4, .int (iI (((5 + 2 * s0 : Nat) : Int)))), (0, .ref h), (1, .int (iI ((t0 : Int)))), (2, .int (iI ((s0 : Int)))), (3, .int (iI ((s1 : Int))))]) hx hb dX0_add_33 hl (by decide) rfl (fun ls hl => ?_)
        refine lv_iload_n hx hb dX0_add_35 rfl (lv_at hl 5 rfl) ?_
        refine s_calli ⟨hx, hb, hml, hown, hts⟩ (metX0_top l s1) (va_cwS 1 hts (lw_S q109 q110 q33 q111) rfl rfl rfl (by decide +kernel) ⟨Nat.le_of_ble_eq_true rfl, Nat.le_of_ble_eq_true rfl⟩) hA hP hS rfl hl.1 rfl (Nat.le_of_ble_eq_true rfl) dX0_add_36 ⟨Nat.zero_le _, Nat.zero_le _⟩ (fun r H locs hq hP hS => ?_)
        obtain rfl := hq
        refine lv_istore (lv' := [(6, .int (iI (((5 + 2 * s1 : Nat) : Int)))), (5, .int (iI (((6 + 2 * s0 : Nat) : Int)))), (4, .int (iI (((5 + 2 * s0 : Nat) : Int)))), (0, .ref h), (1, .int (iI ((t0 : Int)))), (2, .int (iI ((s0 : Int)))), (3, .int (iI ((s1 : Int))))]) hx hb dX0_add_39 hl (by decide) rfl (fun ls hl => ?_)
        refine lv_iload_n hx hb dX0_add_41 rfl (lv_at hl 6 rfl) ?_
        refine s_calli ⟨hx, hb, hml, hown, hts⟩ (metX0_bottom l s1) (va_cwS 1 hts (lw_S q112 q113 q33 q114) rfl rfl rfl (by decide +kernel) ⟨Nat.le_of_ble_eq_true rfl, Nat.le_of_ble_eq_true rfl⟩) hA hP hS rfl hl.1 rfl (Nat.le_of_ble_eq_true rfl) dX0_add_42 ⟨Nat.zero_le _, Nat.zero_le _⟩ (fun r H locs hq hP hS => ?_)
        obtain rfl := hq
        refine lv_istore (lv' := [(7, .int (iI (((6 + 2 * s1 : Nat) : Int)))), (6, .int (iI (((5 + 2 * s1 : Nat) : Int)))), (5, .int (iI (((6 + 2 * s0 : Nat) : Int)))), (4, .int (iI (((5 + 2 * s0 : Nat) : Int)))), (0, .ref h), (1, .int (iI ((t0 : Int)))), (2, .int (iI ((s0 : Int)))), (3, .int (iI ((s1 : Int))))]) hx hb dX0_add_45 hl (by decide) rfl (fun ls hl => ?_)
        refine lv_aload_n hx hb dX0_add_47 rfl (lv_at hl 4 rfl) ?_
        refine x_iconst hx hb dX0_add_48 ?_
        refine lv_iload hx hb dX0_add_49 (lv_at hl 3 rfl) ?_
        refine lv_iload hx hb dX0_add_51 (lv_at hl 0 rfl) ?_
        refine g_callv ⟨hx, hb, hml, hown, hts⟩ (metX0_multiply l D d h qb qr B g 0 (5 + 2 * s0) (6 + 2 * s1) (by omega) (by omega) (by omega) (by omega) (by omega)) (cwV 3 hts (lw_V q66 q68 qs1 q33 q69) rfl rfl rfl (by decide +kernel) ⟨Nat.le_of_ble_eq_true rfl, Nat.le_of_ble_eq_true rfl⟩) (va_recv hK hP (ci := 0) (q0 := 0) rfl rfl) hK hA hP hD hS rfl hl.1 rfl (Nat.le_of_ble_eq_true rfl) dX0_add_53 ⟨Nat.zero_le _, Nat.zero_le _⟩ (fun u H locs hq hP hD hS => ?_)
        obtain ⟨B1, rfl, eB1⟩ := hq
        refine lv_aload_n hx hb dX0_add_56 rfl (lv_at hl 4 rfl) ?_
        refine x_iconst hx hb dX0_add_57 ?_
        refine lv_iload hx hb dX0_add_58 (lv_at hl 1 rfl) ?_
        refine lv_iload hx hb dX0_add_60 (lv_at hl 2 rfl) ?_
        refine g_callv ⟨hx, hb, hml, hown, hts⟩ (metX0_multiply l D d h qb qr B1 g 2 (5 + 2 * s1) (6 + 2 * s0) (by omega) (by omega) (by omega) (by omega) (by omega)) (cwV 3 hts (lw_V q66 q68 qs1 q33 q69) rfl rfl rfl (by decide +kernel) ⟨Nat.le_of_ble_eq_true rfl, Nat.le_of_ble_eq_true rfl⟩) (va_recv hK hP (ci := 0) (q0 := 0) rfl rfl) hK hA hP hD hS rfl hl.1 rfl (Nat.le_of_ble_eq_true rfl) dX0_add_62 ⟨Nat.zero_le _, Nat.zero_le _⟩ (fun u H locs hq hP hD hS => ?_)
        obtain ⟨B2, rfl, eB2⟩ := hq
        refine lv_aload_n hx hb dX0_add_65 rfl (lv_at hl 4 rfl) ?_
        refine x_iconst hx hb dX0_add_66 ?_
        refine x_iconst hx hb dX0_add_67 ?_
        refine x_iconst hx hb dX0_add_68 ?_
        refine x_iconst hx hb dX0_add_69 ?_
        refine g_callv ⟨hx, hb, hml, hown, hts⟩ (metX0_addTimes l D d h qb qr B2 g 0 2 1 0 (by omega) (by omega) (by decide) (by omega) (by omega)) (cwV 4 hts (lw_V q74 q76 qs3 q33 q77) rfl rfl rfl (by decide +kernel) ⟨Nat.le_of_ble_eq_true rfl, Nat.le_of_ble_eq_true rfl⟩) (va_recv hK hP (ci := 0) (q0 := 0) rfl rfl) hK hA hP hD hS rfl hl.1 rfl (Nat.le_of_ble_eq_true rfl) dX0_add_70 ⟨Nat.zero_le _, Nat.zero_le _⟩ (fun u H locs hq hP hD hS => ?_)
        obtain ⟨B3, rfl, eB3⟩ := hq
        refine lv_aload_n hx hb dX0_add_73 rfl (lv_at hl 4 rfl) ?_
        refine x_iconst hx hb dX0_add_74 ?_
        refine lv_iload hx hb dX0_add_75 (lv_at hl 2 rfl) ?_
        refine lv_iload hx hb dX0_add_77 (lv_at hl 0 rfl) ?_
        refine g_callv ⟨hx, hb, hml, hown, hts⟩ (metX0_multiply l D d h qb qr B3 g 1 (6 + 2 * s0) (6 + 2 * s1) (by omega) (by omega) (by omega) (by omega) (by omega)) (cwV 3 hts (lw_V q66 q68 qs1 q33 q69) rfl rfl rfl (by decide +kernel) ⟨Nat.le_of_ble_eq_true rfl, Nat.le_of_ble_eq_true rfl⟩) (va_recv hK hP (ci := 0) (q0 := 0) rfl rfl) hK hA hP hD hS rfl hl.1 rfl (Nat.le_of_ble_eq_true rfl) dX0_add_79 ⟨Nat.zero_le _, Nat.zero_le _⟩ (fun u H locs hq hP hD hS => ?_)
        obtain ⟨B4, rfl, eB4⟩ := hq
        have hR2 := rdy_add (hG s0 hs04).1 (hG s1 hs14).1 (hG s0 hs04).2 (hG s1 hs14).2 eB1 eB2 eB3 eB4
        refine lv_aload_n hx hb dX0_add_82 rfl (lv_at hl 4 rfl) ?_
        refine lv_iload_n hx hb dX0_add_83 rfl (lv_at hl 5 rfl) ?_
        refine g_calli ⟨hx, hb, hml, hown, hts⟩ (metX0_keep l D d h qb qr B4 g t0 (ad (a s0) (a s1)) 16 ht04 (by omega) hR2.2.1 hR2.2.2.1 hR2.2.2.2.1 hR2.2.2.2.2) (cwV 1 hts (lw_V q82 q84 qs5 q33 q85) rfl rfl rfl (by decide +kernel) ⟨Nat.le_of_ble_eq_true rfl, Nat.le_of_ble_eq_true rfl⟩) (va_recv hK hP (ci := 0) (q0 := 0) rfl rfl) hK hA hP hD hS rfl hl.1 rfl (Nat.le_of_ble_eq_true rfl) dX0_add_84 ⟨Nat.zero_le _, Nat.zero_le _⟩ (fun r u H locs hq hP hD hS => ?_)
        obtain ⟨L, Bz, rfl, hLM, hk⟩ := hq
        have hK9 := kept_of hG (by omega) hR2.1 hLM hk
        exact hret _ _ H locs _ _ (⟨Bz, rfl, Or.inr ⟨t0, s0, s1, ht04, hs04, hs14, rfl, rfl, rfl, hK9⟩⟩) hP hD hS dX0_add_87
      · -- f 21
        have hbadz3 := bd_n (by assumption : ¬ bd z3 = 0)
        refine x_iconst hx hb dX0_add_21 ?_
        exact hret _ _ H locs _ _ (⟨B, rfl, Or.inl ⟨Or.inr (Or.inr hbadz3), rfl, rfl⟩⟩) hP hD hS dX0_add_22
end
section
/-! RecurrenceEngine: define, far terms, questions -/
set_option maxRecDepth 100000
theorem acc_q {B1 B2 B3 : Nat → Sr} (e2 : B2 = setP B1 3 stp) (e3 : B3 = setP (setP B2 4 (tr24 (cv (B2 1) (B2 3)))) 1 (tr24 (cv (B2 1) (B2 3)))) (h : B1 1 0 = 1) : B3 1 0 = 1 := by
  rw [e3, setP_eq, e2, setP_eq, setP_ne _ _ (by decide)]
  show (if 0 < 24 then _ else _) = _
  rw [if_pos (by decide), cv_0, h]
  decide
theorem nt_0 {p q a : Sr} {n : Nat} {X : Int} (h : toF X = p n) : toF X = NT p q a n 1 := by
  rw [h]
  unfold NT
  rw [su_0]
  grind
abbrev wsX0_define : List Cond := ws_ yX0_define cX0_define 8 (some .int)
set_option maxHeartbeats 4000000 in
set_option maxRecDepth 100000 in
/-- define(s, k, coefficients, beginning) -/
theorem metX0_define (l : Launch) (D : va_G) (d : ClassId) (h qb qr : Nat) (B : Nat → Sr) (g : Sr) (a : Nat → Sr) (Ls : Nat → Nat) (hG : GInv B a Ls) (z1 : Int) (hz1 : -2147483648 ≤ z1 ∧ z1 < 2147483648) (z2 : Int) (hz2 : -2147483648 ≤ z2 ∧ z2 < 2147483648) (z3 : Int) (hz3 : -2147483648 ≤ z3 ∧ z3 < 2147483648) (z4 : Int) (hz4 : -2147483648 ≤ z4 ∧ z4 < 2147483648) : gMi l yX0_define wsX0_define (rK 6 150) D d (EW h qb qr d) (B, g) h [.int (iI (z1)), .int (iI (z2)), .int (iI (z3)), .int (iI (z4))] (fun r u => ∃ B1, u = (B1, g) ∧ (((z1 < 0 ∨ 3 < z1) ∧ r = iI (-1) ∧ B1 = B) ∨ ((0 ≤ z1 ∧ z1 ≤ 3) ∧ (z2 < 1 ∨ 4 < z2) ∧ r = iI (-2) ∧ B1 = B) ∨ (∃ s0 k0 : Nat, s0 < 4 ∧ 1 ≤ k0 ∧ k0 ≤ 4 ∧ z1 = (s0 : Int) ∧ z2 = (k0 : Int) ∧ r = iI 0 ∧ ∃ (an : Sr) (L : Nat), DefS k0 (z3 % 2147483648) (z4 % 2147483648) an ∧ L ≤ 8 ∧ GInv B1 (upA a s0 an) (upA Ls s0 L)))) := by
  refine g_entryi (by decide) (Nat.le_of_ble_eq_true rfl) ?_
  intro p e s m args below meth c A Q hx hb hml hown hts hK hA hret H locs hP hD hS ls hl
  have hl : lv_has ls 8 [(0, .ref h), (1, .int (iI (z1))), (2, .int (iI (z2))), (3, .int (iI (z3))), (4, .int (iI (z4)))] := hl
  refine lv_iload_n hx hb dX0_define_0 rfl (lv_at hl 1 rfl) ?_
  refine s_calli ⟨hx, hb, hml, hown, hts⟩ (metX0_bad l z1 hz1) (va_cwS 1 hts (lw_S q55 q56 q33 q57) rfl rfl rfl (by decide +kernel) ⟨Nat.le_of_ble_eq_true rfl, Nat.le_of_ble_eq_true rfl⟩) hA hP hS rfl hl.1 rfl (Nat.le_of_ble_eq_true rfl) dX0_define_1 ⟨Nat.zero_le _, Nat.zero_le _⟩ (fun r H locs hq hP hS => ?_)
  obtain rfl := hq
  refine x_if_eq (tgt := 9) hx hb (by have := bd_bd z1; omega) dX0_define_4 (by decide) (fun c_4 => ?_) (fun c_4 => ?_)
  · -- t 9
    obtain ⟨s0, rfl⟩ : ∃ q : Nat, z1 = (q : Int) := ⟨z1.toNat, by have := bd_y (by assumption : bd z1 = 0); omega⟩
    have hs04 : s0 < 4 := by have := bd_y (by assumption : bd (s0 : Int) = 0); omega
    refine lv_iload_n hx hb dX0_define_9 rfl (lv_at hl 2 rfl) ?_
    refine x_iconst hx hb dX0_define_10 ?_
    refine x_icmp_lt (tgt := 19) hx hb (by omega) dX0_define_11 (by decide) (fun c_11 => ?_) (fun c_11 => ?_)
    · -- t 19
      refine x_bipush hx hb dX0_define_19 (by decide) ?_
      exact hret _ _ H locs _ _ (⟨B, rfl, Or.inr (Or.inl ⟨by omega, by omega, rfl, rfl⟩)⟩) hP hD hS dX0_define_21
    · -- f 14
      refine lv_iload_n hx hb dX0_define_14 rfl (lv_at hl 2 rfl) ?_
      refine x_iconst hx hb dX0_define_15 ?_
      refine x_icmp_le (tgt := 22) hx hb (by omega) dX0_define_16 (by decide) (fun c_16 => ?_) (fun c_16 => ?_)
      · -- t 22
        obtain ⟨k0, rfl⟩ : ∃ q : Nat, z2 = (q : Int) := ⟨z2.toNat, by omega⟩
        refine lv_iload_n hx hb dX0_define_22 rfl (lv_at hl 3 rfl) ?_
        refine x_ldc (z := 2147483647) hx hb hown (hts _ q58) (by decide) dX0_define_23 ?_
        refine x_iand31 hx hb hz3 dX0_define_25 ?_
        refine lv_istore (lv' := [(5, .int (iI ((z3 % 2147483648)))), (0, .ref h), (1, .int (iI ((s0 : Int)))), (2, .int (iI ((k0 : Int)))), (3, .int (iI (z3))), (4, .int (iI (z4)))]) hx hb dX0_define_26 hl (by decide) rfl (fun ls hl => ?_)
        refine lv_iload hx hb dX0_define_28 (lv_at hl 5 rfl) ?_
        refine x_ldc (z := 2147483647) hx hb hown (hts _ q58) (by decide) dX0_define_30 ?_
        refine x_iand31 hx hb hz4 dX0_define_32 ?_
        refine lv_istore (lv' := [(6, .int (iI ((z4 % 2147483648)))), (5, .int (iI ((z3 % 2147483648)))), (0, .ref h), (1, .int (iI ((s0 : Int)))), (2, .int (iI ((k0 : Int)))), (3, .int (iI (z3))), (4, .int (iI (z4)))]) hx hb dX0_define_33 hl (by decide) rfl (fun ls hl => ?_)
        refine lv_aload_n hx hb dX0_define_35 rfl (lv_at hl 2 rfl) ?_
        refine x_iconst hx hb dX0_define_36 ?_
        refine g_callv ⟨hx, hb, hml, hown, hts⟩ (metX0_clearPoly l D d h qb qr B g 1 (by omega)) (cwV 1 hts (lw_V q59 q61 qs0 q33 q62) rfl rfl rfl (by decide +kernel) ⟨Nat.le_of_ble_eq_true rfl, Nat.le_of_ble_eq_true rfl⟩) (va_recv hK hP (ci := 0) (q0 := 0) rfl rfl) hK hA hP hD hS rfl hl.1 rfl (Nat.le_of_ble_eq_true rfl) dX0_define_37 ⟨Nat.zero_le _, Nat.zero_le _⟩ (fun u H locs hq hP hD hS => ?_)
        obtain ⟨B1, rfl, eB1⟩ := hq
        refine lv_aload_n hx hb dX0_define_40 rfl (lv_at hl 2 rfl) ?_
        refine x_iconst hx hb dX0_define_41 ?_
        refine g_callv ⟨hx, hb, hml, hown, hts⟩ (metX0_clearPoly l D d h qb qr B1 g 2 (by omega)) (cwV 1 hts (lw_V q59 q61 qs0 q33 q62) rfl rfl rfl (by decide +kernel) ⟨Nat.le_of_ble_eq_true rfl, Nat.le_of_ble_eq_true rfl⟩) (va_recv hK hP (ci := 0) (q0 := 0) rfl rfl) hK hA hP hD hS rfl hl.1 rfl (Nat.le_of_ble_eq_true rfl) dX0_define_42 ⟨Nat.zero_le _, Nat.zero_le _⟩ (fun u H locs hq hP hD hS => ?_)
        obtain ⟨B2, rfl, eB2⟩ := hq
        refine lv_aload_n hx hb dX0_define_45 rfl (lv_at hl 2 rfl) ?_
        refine e_getb hx hb hts hown hK hP dX0_define_46 ?_
        refine x_bipush hx hb dX0_define_49 (by decide) ?_
        refine x_iconst hx hb dX0_define_51 ?_
        refine e_bst hx hb hK hP hD hS (1) (0) (1) (rfl) (by omega) dX0_define_52 (fun H locs hP hD hS => ?_)
        obtain ⟨B3, eB3⟩ : ∃ z, z = setB B2 (1) (0) (1) := ⟨_, rfl⟩
        rw [← eB3] at hP hD
        refine x_iconst hx hb dX0_define_53 ?_
        refine lv_istore (lv' := [(7, .int (iI (1))), (6, .int (iI ((z4 % 2147483648)))), (5, .int (iI ((z3 % 2147483648)))), (0, .ref h), (1, .int (iI ((s0 : Int)))), (2, .int (iI ((k0 : Int)))), (3, .int (iI (z3))), (4, .int (iI (z4)))]) hx hb dX0_define_54 hl (by decide) rfl (fun ls hl => ?_)
        have lp_56 : ∀ (n : Nat) (j : Nat) (Bc : Nat → Sr) (hi : j ≤ k0) (hn : k0 < j + n) (hI : DfI B (z3 % 2147483648) (z4 % 2147483648) j Bc) (H : Heap) (locs : List Loc), va_P D vwCl (EW h qb qr d (Bc, g)) H → va_D A (EW h qb qr d (Bc, g)) → va_S A s.heap H locs → ∀ ls : Array Slot, lv_has ls 8 [(0, .ref h), (1, .int (iI ((s0 : Int)))), (2, .int (iI ((k0 : Int)))), (3, .int (iI (z3))), (4, .int (iI (z4))), (5, .int (iI (dgq (z3 % 2147483648) j))), (6, .int (iI (dgq (z4 % 2147483648) j))), (7, .int (iI ((j : Int) + 1)))] → W p l e (rK 6 150) s m args below meth c H locs 0 0 Q (F0 m 56 ls []) := by
          intro n
          induction n with
          | zero =>
            intro j Bc hi hn hI
            exfalso
            omega
          | succ n ih_56 =>
            intro j Bc hi hn hI H locs hP hD hS ls hl
            refine lv_iload hx hb dX0_define_56 (lv_at hl 7 rfl) ?_
            refine lv_iload_n hx hb dX0_define_58 rfl (lv_at hl 2 rfl) ?_
            refine x_icmp_gt (tgt := 118) hx hb (by omega) dX0_define_59 (by decide) (fun c_59 => ?_) (fun c_59 => ?_)
            · -- t 118
              have hjk : j = k0 := by omega
              rw [hjk] at hI
              obtain ⟨B6, eB6⟩ : ∃ z, z = setP (setP B 1 (dfQ k0 (z3 % 2147483648))) 2 (dfU k0 (z4 % 2147483648)) := ⟨_, rfl⟩
              rw [EW_congr B6 (by rw [eB6]; exact df_end hI)] at hP hD
              refine lv_aload_n hx hb dX0_define_118 rfl (lv_at hl 0 rfl) ?_
              refine x_iconst hx hb dX0_define_119 ?_
              refine x_iconst hx hb dX0_define_120 ?_
              refine x_iconst hx hb dX0_define_121 ?_
              refine g_callv ⟨hx, hb, hml, hown, hts⟩ (metX0_multiply l D d h qb qr B6 g 0 2 1 (by omega) (by omega) (by omega) (by decide) (by decide)) (cwV 3 hts (lw_V q66 q68 qs1 q33 q69) rfl rfl rfl (by decide +kernel) ⟨Nat.le_of_ble_eq_true rfl, Nat.le_of_ble_eq_true rfl⟩) (va_recv hK hP (ci := 0) (q0 := 0) rfl rfl) hK hA hP hD hS rfl hl.1 rfl (Nat.le_of_ble_eq_true rfl) dX0_define_122 ⟨Nat.zero_le _, Nat.zero_le _⟩ (fun u H locs hq hP hD hS => ?_)
              obtain ⟨B7, rfl, eB7⟩ := hq
              refine lv_iload_n hx hb dX0_define_125 rfl (lv_at hl 2 rfl) ?_
              refine lv_istore (lv' := [(7, .int (iI ((k0 : Int)))), (0, .ref h), (1, .int (iI ((s0 : Int)))), (2, .int (iI ((k0 : Int)))), (3, .int (iI (z3))), (4, .int (iI (z4))), (5, .int (iI (dgq (z3 % 2147483648) j))), (6, .int (iI (dgq (z4 % 2147483648) j)))]) hx hb dX0_define_126 hl (by decide) rfl (fun ls hl => ?_)
              have lp_128 : ∀ (n : Nat) (i : Nat) (Bc2 : Nat → Sr) (hi2 : k0 ≤ i ∧ i ≤ 24) (hn2 : 24 < i + n) (hI2 : Fill 24 B7 0 z0 k0 i Bc2) (H : Heap) (locs : List Loc), va_P D vwCl (EW h qb qr d (Bc2, g)) H → va_D A (EW h qb qr d (Bc2, g)) → va_S A s.heap H locs → ∀ ls : Array Slot, lv_has ls 8 [(0, .ref h), (1, .int (iI ((s0 : Int)))), (7, .int (iI ((i : Int))))] → W p l e (rK 6 150) s m args below meth c H locs 0 0 Q (F0 m 128 ls []) := by
                intro n
                induction n with
                | zero =>
                  intro i Bc2 hi2 hn2 hI2
                  exfalso
                  omega
                | succ n ih_128 =>
                  intro i Bc2 hi2 hn2 hI2 H locs hP hD hS ls hl
                  refine lv_iload hx hb dX0_define_128 (lv_at hl 2 rfl) ?_
                  refine x_bipush hx hb dX0_define_130 (by decide) ?_
                  refine x_icmp_ge (tgt := 151) hx hb (by omega) dX0_define_132 (by decide) (fun c_132 => ?_) (fun c_132 => ?_)
                  · -- t 151
                    obtain ⟨B9, eB9⟩ : ∃ z, z = setP B7 0 (fun q => if k0 ≤ q then z0 q else B7 0 q) := ⟨_, rfl⟩
                    rw [EW_congr B9 (by rw [eB9]; exact fill_endl hI2 (by omega))] at hP hD
                    obtain ⟨an, han, hDef⟩ := def_seq k0 (z3 % 2147483648) (z4 % 2147483648)
                    have hR := rdy_def (by omega) eB6 eB7 eB9 han
                    refine lv_aload_n hx hb dX0_define_151 rfl (lv_at hl 0 rfl) ?_
                    refine lv_iload_n hx hb dX0_define_152 rfl (lv_at hl 1 rfl) ?_
                    refine g_calli ⟨hx, hb, hml, hown, hts⟩ (metX0_keep l D d h qb qr B9 g s0 an k0 hs04 (by omega) hR.2.1 hR.2.2.1 hR.2.2.2.1 hR.2.2.2.2) (cwV 1 hts (lw_V q82 q84 qs5 q33 q85) rfl rfl rfl (by decide +kernel) ⟨Nat.le_of_ble_eq_true rfl, Nat.le_of_ble_eq_true rfl⟩) (va_recv hK hP (ci := 0) (q0 := 0) rfl rfl) hK hA hP hD hS rfl hl.1 rfl (Nat.le_of_ble_eq_true rfl) dX0_define_153 ⟨Nat.zero_le _, Nat.zero_le _⟩ (fun r u H locs hq hP hD hS => ?_)
                    obtain ⟨L, Bz, rfl, hLM, hk⟩ := hq
                    obtain ⟨q1, -, q3, q4⟩ := hk.resolve_right (fun q => by have := q.1; omega)
                    have hfin : GInv Bz (upA a s0 an) (upA Ls s0 L) := ginv_set hG (by omega) q3 (fun k w1 w2 w3 => by rw [q4 k w1 w2 w3, hR.1 k w1])
                    refine lv_pop hx hb dX0_define_156 rfl ?_
                    refine x_iconst hx hb dX0_define_157 ?_
                    exact hret _ _ H locs _ _ (⟨Bz, rfl, Or.inr (Or.inr ⟨s0, k0, hs04, by omega, by omega, rfl, rfl, rfl, an, L, hDef, by omega, hfin⟩)⟩) hP hD hS dX0_define_158
                  · -- f 135
                    refine lv_aload_n hx hb dX0_define_135 rfl (lv_at hl 0 rfl) ?_
                    refine e_getb hx hb hts hown hK hP dX0_define_136 ?_
                    refine x_iconst hx hb dX0_define_139 ?_
                    refine lv_iload hx hb dX0_define_140 (lv_at hl 2 rfl) ?_
                    refine x_iadd hx hb dX0_define_142 ?_
                    refine x_iconst hx hb dX0_define_143 ?_
                    refine e_bst hx hb hK hP hD hS (0) (i) (0) (rfl) (by omega) dX0_define_144 (fun H locs hP hD hS => ?_)
                    obtain ⟨B8, eB8⟩ : ∃ z, z = setB Bc2 (0) (i) (0) := ⟨_, rfl⟩
                    rw [← eB8] at hP hD
                    refine x_iinc (v := ((i + 1 : Nat) : Int)) (lv' := [(7, .int (iI (((i + 1 : Nat) : Int)))), (0, .ref h), (1, .int (iI ((s0 : Int))))]) hx hb dX0_define_145 hl (k := 2) rfl (by omega) (by decide) rfl (fun ls hl => ?_)
                    refine lv_goto (tgt := 128) hx hb dX0_define_148 (by decide) ?_
                    exact ih_128 (i + 1) B8 (by omega) (by omega) (by rw [eB8]; exact fill_s hI2 (by omega) rfl) H locs hP hD hS ls (lv_sub hl [1, 2, 0] rfl)
              exact lp_128 25 k0 B7 (by omega) (by omega) (fill_0 _ _ _ _ _) H locs hP hD hS ls (lv_sub hl [1, 2, 0] rfl)
            · -- f 62
              refine lv_aload_n hx hb dX0_define_62 rfl (lv_at hl 0 rfl) ?_
              refine e_getb hx hb hts hown hK hP dX0_define_63 ?_
              refine x_bipush hx hb dX0_define_66 (by decide) ?_
              refine lv_iload hx hb dX0_define_68 (lv_at hl 7 rfl) ?_
              refine x_iadd hx hb dX0_define_70 ?_
              refine lv_iload hx hb dX0_define_71 (lv_at hl 5 rfl) ?_
              refine x_bipush hx hb dX0_define_73 (by decide) ?_
              refine x_irem hx hb (dg (z3 % 2147483648) j) (rfl) (dgq_bd (by omega) j) dX0_define_75 ?_
              refine x_ineg hx hb dX0_define_76 ?_
              refine s_calli ⟨hx, hb, hml, hown, hts⟩ (metX0_mod l (-((dg (z3 % 2147483648) j).val : Int)) (by omega)) (va_cwS 1 hts (lw_S q63 q64 q33 q65) rfl rfl rfl (by decide +kernel) ⟨Nat.le_of_ble_eq_true rfl, Nat.le_of_ble_eq_true rfl⟩) hA hP hS rfl hl.1 rfl (Nat.le_of_ble_eq_true rfl) dX0_define_77 ⟨Nat.zero_le _, Nat.zero_le _⟩ (fun r H locs hq hP hS => ?_)
              obtain rfl := hq
              rw [show toF (-((dg (z3 % 2147483648) j).val : Int)) = -dg (z3 % 2147483648) j from by rw [toF_neg, toF_of]]
              refine e_bst hx hb hK hP hD hS (1) (j + 1) (-dg (z3 % 2147483648) j) (rfl) (by omega) dX0_define_80 (fun H locs hP hD hS => ?_)
              obtain ⟨B4, eB4⟩ : ∃ z, z = setB Bc (1) (j + 1) (-dg (z3 % 2147483648) j) := ⟨_, rfl⟩
              rw [← eB4] at hP hD
              refine lv_aload_n hx hb dX0_define_81 rfl (lv_at hl 0 rfl) ?_
              refine e_getb hx hb hts hown hK hP dX0_define_82 ?_
              refine x_bipush hx hb dX0_define_85 (by decide) ?_
              refine lv_iload hx hb dX0_define_87 (lv_at hl 7 rfl) ?_
              refine x_iadd hx hb dX0_define_89 ?_
              refine x_iconst hx hb dX0_define_90 ?_
              refine x_isub hx hb dX0_define_91 ?_
              refine lv_iload hx hb dX0_define_92 (lv_at hl 6 rfl) ?_
              refine x_bipush hx hb dX0_define_94 (by decide) ?_
              refine x_irem hx hb (dg (z4 % 2147483648) j) (rfl) (dgq_bd (by omega) j) dX0_define_96 ?_
              refine e_bst hx hb hK hP hD hS (2) (j) (dg (z4 % 2147483648) j) (rfl) (by omega) dX0_define_97 (fun H locs hP hD hS => ?_)
              obtain ⟨B5, eB5⟩ : ∃ z, z = setB B4 (2) (j) (dg (z4 % 2147483648) j) := ⟨_, rfl⟩
              rw [← eB5] at hP hD
              refine lv_iload hx hb dX0_define_98 (lv_at hl 5 rfl) ?_
              refine x_bipush hx hb dX0_define_100 (by decide) ?_
              refine x_idiv hx hb (dgq_bd (by omega) j) dX0_define_102 ?_
              refine lv_istore (lv' := [(5, .int (iI ((dgq (z3 % 2147483648) j / 101)))), (0, .ref h), (1, .int (iI ((s0 : Int)))), (2, .int (iI ((k0 : Int)))), (3, .int (iI (z3))), (4, .int (iI (z4))), (6, .int (iI (dgq (z4 % 2147483648) j))), (7, .int (iI ((j : Int) + 1)))]) hx hb dX0_define_103 hl (by decide) rfl (fun ls hl => ?_)
              refine lv_iload hx hb dX0_define_105 (lv_at hl 6 rfl) ?_
              refine x_bipush hx hb dX0_define_107 (by decide) ?_
              refine x_idiv hx hb (dgq_bd (by omega) j) dX0_define_109 ?_
              refine lv_istore (lv' := [(6, .int (iI ((dgq (z4 % 2147483648) j / 101)))), (5, .int (iI ((dgq (z3 % 2147483648) j / 101)))), (0, .ref h), (1, .int (iI ((s0 : Int)))), (2, .int (iI ((k0 : Int)))), (3, .int (iI (z3))), (4, .int (iI (z4))), (7, .int (iI ((j : Int) + 1)))]) hx hb dX0_define_110 hl (by decide) rfl (fun ls hl => ?_)
              refine x_iinc (v := (((j + 1 : Nat) : Int) + 1)) (lv' := [(7, .int (iI ((((j + 1 : Nat) : Int) + 1)))), (6, .int (iI ((dgq (z4 % 2147483648) j / 101)))), (5, .int (iI ((dgq (z3 % 2147483648) j / 101)))), (0, .ref h), (1, .int (iI ((s0 : Int)))), (2, .int (iI ((k0 : Int)))), (3, .int (iI (z3))), (4, .int (iI (z4)))]) hx hb dX0_define_112 hl (k := 7) rfl (by omega) (by decide) rfl (fun ls hl => ?_)
              refine lv_goto (tgt := 56) hx hb dX0_define_115 (by decide) ?_
              exact ih_56 (j + 1) B5 (by omega) (by omega) (df_s hI eB4 eB5) H locs hP hD hS ls (lv_sub hl [3, 4, 5, 6, 7, 2, 1, 0] rfl)
        exact lp_56 (k0 + 1) 0 B3 (by omega) (by omega) (df_0 eB1 eB2 eB3) H locs hP hD hS ls (lv_sub hl [3, 4, 5, 6, 7, 2, 1, 0] rfl)
      · -- f 19
        refine x_bipush hx hb dX0_define_19 (by decide) ?_
        exact hret _ _ H locs _ _ (⟨B, rfl, Or.inr (Or.inl ⟨by omega, by omega, rfl, rfl⟩)⟩) hP hD hS dX0_define_21
  · -- f 7
    have hbadz1 := bd_n (by assumption : ¬ bd z1 = 0)
    refine x_iconst hx hb dX0_define_7 ?_
    exact hret _ _ H locs _ _ (⟨B, rfl, Or.inl ⟨hbadz1, rfl, rfl⟩⟩) hP hD hS dX0_define_8
abbrev wsX0_loadMirror : List Cond := ws_ yX0_loadMirror cX0_loadMirror 3 none
set_option maxHeartbeats 4000000 in
set_option maxRecDepth 100000 in
/-- loadMirror() -/
theorem metX0_loadMirror (l : Launch) (D : va_G) (d : ClassId) (h qb qr : Nat) (B : Nat → Sr) (g : Sr)  : gMv l yX0_loadMirror wsX0_loadMirror (rK 1 21) D d (EW h qb qr d) (B, g) h [] (fun u => ∃ B1, u = (B1, g) ∧ B1 = setP B 2 (mir (B 1))) := by
  refine g_entryv (by decide) (Nat.le_of_ble_eq_true rfl) ?_
  intro p e s m args below meth c A Q hx hb hml hown hts hK hA hret H locs hP hD hS ls hl
  have hl : lv_has ls 3 [(0, .ref h)] := hl
  refine x_iconst hx hb dX0_loadMirror_0 ?_
  refine lv_istore_n (lv' := [(1, .int (iI (0))), (0, .ref h)]) hx hb dX0_loadMirror_1 rfl hl (by decide) rfl (fun ls hl => ?_)
  have lp_2 : ∀ (n : Nat) (i : Nat) (Bc : Nat → Sr) (hi : i ≤ 24) (hn : 24 < i + n) (hI : Fill 24 B 2 (mir (B 1)) 0 i Bc) (H : Heap) (locs : List Loc), va_P D vwCl (EW h qb qr d (Bc, g)) H → va_D A (EW h qb qr d (Bc, g)) → va_S A s.heap H locs → ∀ ls : Array Slot, lv_has ls 3 [(0, .ref h), (1, .int (iI ((i : Int))))] → W p l e (rK 1 21) s m args below meth c H locs 0 0 Q (F0 m 2 ls []) := by
    intro n
    induction n with
    | zero =>
      intro i Bc hi hn hI
      exfalso
      omega
    | succ n ih_2 =>
      intro i Bc hi hn hI H locs hP hD hS ls hl
      refine lv_iload_n hx hb dX0_loadMirror_2 rfl (lv_at hl 1 rfl) ?_
      refine x_bipush hx hb dX0_loadMirror_3 (by decide) ?_
      refine x_icmp_ge (tgt := 49) hx hb (by omega) dX0_loadMirror_5 (by decide) (fun c_5 => ?_) (fun c_5 => ?_)
      · -- t 49
        rw [EW_congr _ (fill_end hI (by omega))] at hP hD
        exact hret _ H locs _ _ (⟨_, rfl, rfl⟩) hP hD hS dX0_loadMirror_49
      · -- f 8
        refine lv_aload_n hx hb dX0_loadMirror_8 rfl (lv_at hl 0 rfl) ?_
        refine e_getb hx hb hts hown hK hP dX0_loadMirror_9 ?_
        refine x_bipush hx hb dX0_loadMirror_12 (by decide) ?_
        refine lv_iload_n hx hb dX0_loadMirror_14 rfl (lv_at hl 1 rfl) ?_
        refine x_iadd hx hb dX0_loadMirror_15 ?_
        refine e_bld hx hb hK hP (1) (i) (by omega) dX0_loadMirror_16 ?_
        refine lv_istore_n (lv' := [(2, .int (iI (((Bc (1) (i)).val : Int)))), (0, .ref h), (1, .int (iI ((i : Int))))]) hx hb dX0_loadMirror_17 rfl hl (by decide) rfl (fun ls hl => ?_)
        refine lv_aload_n hx hb dX0_loadMirror_18 rfl (lv_at hl 1 rfl) ?_
        refine e_getb hx hb hts hown hK hP dX0_loadMirror_19 ?_
        refine x_bipush hx hb dX0_loadMirror_22 (by decide) ?_
        refine lv_iload_n hx hb dX0_loadMirror_24 rfl (lv_at hl 2 rfl) ?_
        refine x_iadd hx hb dX0_loadMirror_25 ?_
        refine lv_iload_n hx hb dX0_loadMirror_26 rfl (lv_at hl 2 rfl) ?_
        refine x_iconst hx hb dX0_loadMirror_27 ?_
        refine x_iand hx hb i 1 (by decide) (by omega) dX0_loadMirror_28 ?_
        refine x_iconst hx hb dX0_loadMirror_29 ?_
        refine x_icmp_ne (tgt := 41) hx hb (by omega) dX0_loadMirror_30 (by decide) (fun c_30 => ?_) (fun c_30 => ?_)
        · -- t 41
          refine lv_iload_n hx hb dX0_loadMirror_41 rfl (lv_at hl 0 rfl) ?_
          refine e_bst hx hb hK hP hD hS (2) (i) (Bc 1 i) (rfl) (by omega) dX0_loadMirror_42 (fun H locs hP hD hS => ?_)
          obtain ⟨B1, eB1⟩ : ∃ z, z = setB Bc (2) (i) (Bc 1 i) := ⟨_, rfl⟩
          rw [← eB1] at hP hD
          refine x_iinc (v := ((i + 1 : Nat) : Int)) (lv' := [(1, .int (iI (((i + 1 : Nat) : Int)))), (2, .int (iI (((Bc (1) (i)).val : Int)))), (0, .ref h)]) hx hb dX0_loadMirror_43 hl (k := 2) rfl (by omega) (by decide) rfl (fun ls hl => ?_)
          refine lv_goto (tgt := 2) hx hb dX0_loadMirror_46 (by decide) ?_
          exact ih_2 (i + 1) B1 (by omega) (by omega) (by rw [eB1]; exact fill_s hI (by omega) (by rw [fill_at hI (by omega) (by omega)]; exact mir_n c_30)) H locs hP hD hS ls (lv_sub hl [2, 0] rfl)
        · -- f 33
          refine lv_iload_n hx hb dX0_loadMirror_33 rfl (lv_at hl 0 rfl) ?_
          refine x_ineg hx hb dX0_loadMirror_34 ?_
          refine s_calli ⟨hx, hb, hml, hown, hts⟩ (metX0_mod l (-((Bc 1 i).val : Int)) (by omega)) (va_cwS 1 hts (lw_S q63 q64 q33 q65) rfl rfl rfl (by decide +kernel) ⟨Nat.le_of_ble_eq_true rfl, Nat.le_of_ble_eq_true rfl⟩) hA hP hS rfl hl.1 rfl (Nat.le_of_ble_eq_true rfl) dX0_loadMirror_35 ⟨Nat.zero_le _, Nat.zero_le _⟩ (fun r H locs hq hP hS => ?_)
          obtain rfl := hq
          rw [show toF (-((Bc 1 i).val : Int)) = -Bc 1 i from by rw [toF_neg, toF_of]]
          refine lv_goto (tgt := 42) hx hb dX0_loadMirror_38 (by decide) ?_
          refine e_bst hx hb hK hP hD hS (2) (i) (-Bc 1 i) (rfl) (by omega) dX0_loadMirror_42 (fun H locs hP hD hS => ?_)
          obtain ⟨B1, eB1⟩ : ∃ z, z = setB Bc (2) (i) (-Bc 1 i) := ⟨_, rfl⟩
          rw [← eB1] at hP hD
          refine x_iinc (v := ((i + 1 : Nat) : Int)) (lv' := [(1, .int (iI (((i + 1 : Nat) : Int)))), (2, .int (iI (((Bc (1) (i)).val : Int)))), (0, .ref h)]) hx hb dX0_loadMirror_43 hl (k := 2) rfl (by omega) (by decide) rfl (fun ls hl => ?_)
          refine lv_goto (tgt := 2) hx hb dX0_loadMirror_46 (by decide) ?_
          exact ih_2 (i + 1) B1 (by omega) (by omega) (by rw [eB1]; exact fill_s hI (by omega) (by rw [fill_at hI (by omega) (by omega)]; exact mir_y c_30)) H locs hP hD hS ls (lv_sub hl [2, 0] rfl)
  exact lp_2 25 0 B (by omega) (by omega) (fill_0 _ _ _ _ _) H locs hP hD hS ls (lv_sub hl [1, 0] rfl)
abbrev wsX0_keepHalf : List Cond := ws_ yX0_keepHalf cX0_keepHalf 5 none
set_option maxHeartbeats 4000000 in
set_option maxRecDepth 100000 in
/-- keepHalf(k, odd) -/
theorem metX0_keepHalf (l : Launch) (D : va_G) (d : ClassId) (h qb qr : Nat) (B : Nat → Sr) (g : Sr) (k o : Nat) (h1 : k < 13) (h2 : o ≤ 1) : gMv l yX0_keepHalf wsX0_keepHalf (rK 0 0) D d (EW h qb qr d) (B, g) h [.int (iI ((k : Int))), .int (iI ((o : Int)))] (fun u => ∃ B1, u = (B1, g) ∧ B1 = setP B k (hlf o (B k))) := by
  refine g_entryv (by decide) (Nat.le_of_ble_eq_true rfl) ?_
  intro p e s m args below meth c A Q hx hb hml hown hts hK hA hret H locs hP hD hS ls hl
  have hl : lv_has ls 5 [(0, .ref h), (1, .int (iI ((k : Int)))), (2, .int (iI ((o : Int))))] := hl
  refine x_iconst hx hb dX0_keepHalf_0 ?_
  refine lv_istore_n (lv' := [(3, .int (iI (0))), (0, .ref h), (1, .int (iI ((k : Int)))), (2, .int (iI ((o : Int))))]) hx hb dX0_keepHalf_1 rfl hl (by decide) rfl (fun ls hl => ?_)
  have lp_2 : ∀ (n : Nat) (i : Nat) (Bc : Nat → Sr) (hi : i ≤ 24) (hn : 24 < i + n) (hI : Fill 24 B k (hlf o (B k)) 0 i Bc) (H : Heap) (locs : List Loc), va_P D vwCl (EW h qb qr d (Bc, g)) H → va_D A (EW h qb qr d (Bc, g)) → va_S A s.heap H locs → ∀ ls : Array Slot, lv_has ls 5 [(0, .ref h), (1, .int (iI ((k : Int)))), (2, .int (iI ((o : Int)))), (3, .int (iI ((i : Int))))] → W p l e (rK 0 0) s m args below meth c H locs 0 0 Q (F0 m 2 ls []) := by
    intro n
    induction n with
    | zero =>
      intro i Bc hi hn hI
      exfalso
      omega
    | succ n ih_2 =>
      intro i Bc hi hn hI H locs hP hD hS ls hl
      refine lv_iload_n hx hb dX0_keepHalf_2 rfl (lv_at hl 3 rfl) ?_
      refine x_bipush hx hb dX0_keepHalf_3 (by decide) ?_
      refine x_icmp_ge (tgt := 55) hx hb (by omega) dX0_keepHalf_5 (by decide) (fun c_5 => ?_) (fun c_5 => ?_)
      · -- t 55
        rw [EW_congr _ (fill_end hI (by omega))] at hP hD
        exact hret _ H locs _ _ (⟨_, rfl, rfl⟩) hP hD hS dX0_keepHalf_55
      · -- f 8
        refine x_iconst hx hb dX0_keepHalf_8 ?_
        refine lv_iload_n hx hb dX0_keepHalf_9 rfl (lv_at hl 3 rfl) ?_
        refine x_imul hx hb dX0_keepHalf_10 ?_
        refine lv_iload_n hx hb dX0_keepHalf_11 rfl (lv_at hl 2 rfl) ?_
        refine x_iadd hx hb dX0_keepHalf_12 ?_
        refine x_top (((2 * i + o : Nat) : Int)) (by omega) ?_
        refine lv_istore (lv' := [(4, .int (iI (((2 * i + o : Nat) : Int)))), (0, .ref h), (1, .int (iI ((k : Int)))), (2, .int (iI ((o : Int)))), (3, .int (iI ((i : Int))))]) hx hb dX0_keepHalf_13 hl (by decide) rfl (fun ls hl => ?_)
        refine lv_aload_n hx hb dX0_keepHalf_15 rfl (lv_at hl 1 rfl) ?_
        refine e_getb hx hb hts hown hK hP dX0_keepHalf_16 ?_
        refine lv_iload_n hx hb dX0_keepHalf_19 rfl (lv_at hl 2 rfl) ?_
        refine x_bipush hx hb dX0_keepHalf_20 (by decide) ?_
        refine x_imul hx hb dX0_keepHalf_22 ?_
        refine lv_iload_n hx hb dX0_keepHalf_23 rfl (lv_at hl 4 rfl) ?_
        refine x_iadd hx hb dX0_keepHalf_24 ?_
        refine lv_iload hx hb dX0_keepHalf_25 (lv_at hl 0 rfl) ?_
        refine x_bipush hx hb dX0_keepHalf_27 (by decide) ?_
        refine x_icmp_ge (tgt := 47) hx hb (by omega) dX0_keepHalf_29 (by decide) (fun c_29 => ?_) (fun c_29 => ?_)
        · -- t 47
          refine x_iconst hx hb dX0_keepHalf_47 ?_
          refine e_bst hx hb hK hP hD hS (k) (i) (0) (rfl) (by omega) dX0_keepHalf_48 (fun H locs hP hD hS => ?_)
          obtain ⟨B1, eB1⟩ : ∃ z, z = setB Bc (k) (i) (0) := ⟨_, rfl⟩
          rw [← eB1] at hP hD
          refine x_iinc (v := ((i + 1 : Nat) : Int)) (lv' := [(3, .int (iI (((i + 1 : Nat) : Int)))), (4, .int (iI (((2 * i + o : Nat) : Int)))), (0, .ref h), (1, .int (iI ((k : Int)))), (2, .int (iI ((o : Int))))]) hx hb dX0_keepHalf_49 hl (k := 4) rfl (by omega) (by decide) rfl (fun ls hl => ?_)
          refine lv_goto (tgt := 2) hx hb dX0_keepHalf_52 (by decide) ?_
          exact ih_2 (i + 1) B1 (by omega) (by omega) (by rw [eB1]; exact fill_s hI (by omega) (by simp only [hlf]; rw [if_neg (by omega)])) H locs hP hD hS ls (lv_sub hl [2, 3, 4, 0] rfl)
        · -- f 32
          refine lv_aload_n hx hb dX0_keepHalf_32 rfl (lv_at hl 1 rfl) ?_
          refine e_getb hx hb hts hown hK hP dX0_keepHalf_33 ?_
          refine lv_iload_n hx hb dX0_keepHalf_36 rfl (lv_at hl 2 rfl) ?_
          refine x_bipush hx hb dX0_keepHalf_37 (by decide) ?_
          refine x_imul hx hb dX0_keepHalf_39 ?_
          refine lv_iload hx hb dX0_keepHalf_40 (lv_at hl 0 rfl) ?_
          refine x_iadd hx hb dX0_keepHalf_42 ?_
          refine e_bld hx hb hK hP (k) (2 * i + o) (by omega) dX0_keepHalf_43 ?_
          refine lv_goto (tgt := 48) hx hb dX0_keepHalf_44 (by decide) ?_
          refine e_bst hx hb hK hP hD hS (k) (i) (Bc k (2 * i + o)) (rfl) (by omega) dX0_keepHalf_48 (fun H locs hP hD hS => ?_)
          obtain ⟨B1, eB1⟩ : ∃ z, z = setB Bc (k) (i) (Bc k (2 * i + o)) := ⟨_, rfl⟩
          rw [← eB1] at hP hD
          refine x_iinc (v := ((i + 1 : Nat) : Int)) (lv' := [(3, .int (iI (((i + 1 : Nat) : Int)))), (4, .int (iI (((2 * i + o : Nat) : Int)))), (0, .ref h), (1, .int (iI ((k : Int)))), (2, .int (iI ((o : Int))))]) hx hb dX0_keepHalf_49 hl (k := 4) rfl (by omega) (by decide) rfl (fun ls hl => ?_)
          refine lv_goto (tgt := 2) hx hb dX0_keepHalf_52 (by decide) ?_
          exact ih_2 (i + 1) B1 (by omega) (by omega) (by rw [eB1]; exact fill_s hI (by omega) (by rw [fill_at hI (by omega) (by omega)]; simp only [hlf]; rw [if_pos (by omega)])) H locs hP hD hS ls (lv_sub hl [2, 3, 4, 0] rfl)
  exact lp_2 25 0 B (by omega) (by omega) (fill_0 _ _ _ _ _) H locs hP hD hS ls (lv_sub hl [1, 2, 3, 0] rfl)
abbrev wsX0_farTerm : List Cond := ws_ yX0_farTerm cX0_farTerm 4 (some .int)
set_option maxHeartbeats 4000000 in
set_option maxRecDepth 100000 in
/-- farTerm(n) -/
theorem metX0_farTerm (l : Launch) (D : va_G) (d : ClassId) (h qb qr : Nat) (B : Nat → Sr) (g : Sr) (n0 : Nat) (a : Sr) (v : Fp) (hn0 : n0 ≤ 1023) (hF0 : FarI (B 0) (B 1) a n0 v) : gMi l yX0_farTerm wsX0_farTerm (rK 3 71) D d (EW h qb qr d) (B, g) h [.int (iI ((n0 : Int)))] (fun r u => ∃ B1, u = (B1, g) ∧ r = iI (v.val : Int) ∧ ∀ k, 5 ≤ k → B1 k = B k) := by
  refine g_entryi (by decide) (Nat.le_of_ble_eq_true rfl) ?_
  intro p e s m args below meth c A Q hx hb hml hown hts hK hA hret H locs hP hD hS ls hl
  have hl : lv_has ls 4 [(0, .ref h), (1, .int (iI ((n0 : Int))))] := hl
  refine lv_iload_n hx hb dX0_farTerm_0 rfl (lv_at hl 1 rfl) ?_
  refine lv_istore_n (lv' := [(2, .int (iI ((n0 : Int)))), (0, .ref h), (1, .int (iI ((n0 : Int))))]) hx hb dX0_farTerm_1 rfl hl (by decide) rfl (fun ls hl => ?_)
  refine x_iconst hx hb dX0_farTerm_2 ?_
  refine lv_istore_n (lv' := [(3, .int (iI (0))), (2, .int (iI ((n0 : Int)))), (0, .ref h), (1, .int (iI ((n0 : Int))))]) hx hb dX0_farTerm_3 rfl hl (by decide) rfl (fun ls hl => ?_)
  have lp_4 : ∀ (n : Nat) (i lf : Nat) (Bc : Nat → Sr) (ac : Sr) (hi : i ≤ 10 ∧ lf ≤ 1023) (hn : 10 < i + n) (hw : lf < 2 ^ (10 - i)) (hF : FarI (Bc 0) (Bc 1) ac lf v) (h5 : ∀ k, 5 ≤ k → Bc k = B k) (H : Heap) (locs : List Loc), va_P D vwCl (EW h qb qr d (Bc, g)) H → va_D A (EW h qb qr d (Bc, g)) → va_S A s.heap H locs → ∀ ls : Array Slot, lv_has ls 4 [(0, .ref h), (1, .int (iI ((n0 : Int)))), (2, .int (iI ((lf : Int)))), (3, .int (iI ((i : Int))))] → W p l e (rK 3 71) s m args below meth c H locs 0 0 Q (F0 m 4 ls []) := by
    intro n
    induction n with
    | zero =>
      intro i lf Bc ac hi hn hw hF h5
      exfalso
      omega
    | succ n ih_4 =>
      intro i lf Bc ac hi hn hw hF h5 H locs hP hD hS ls hl
      refine lv_iload_n hx hb dX0_farTerm_4 rfl (lv_at hl 3 rfl) ?_
      refine x_bipush hx hb dX0_farTerm_5 (by decide) ?_
      refine x_icmp_ge (tgt := 56) hx hb (by omega) dX0_farTerm_7 (by decide) (fun c_7 => ?_) (fun c_7 => ?_)
      · -- t 56
        have hi10 : i = 10 := by omega
        rw [hi10] at hw
        have hlf : lf = 0 := by have : lf < 1 := hw; omega
        rw [hlf] at hF
        refine lv_aload_n hx hb dX0_farTerm_56 rfl (lv_at hl 0 rfl) ?_
        refine e_getb hx hb hts hown hK hP dX0_farTerm_57 ?_
        refine x_iconst hx hb dX0_farTerm_60 ?_
        refine e_bld hx hb hK hP (0) (0) (by omega) dX0_farTerm_61 ?_
        exact hret _ _ H locs _ _ (⟨Bc, rfl, by rw [far_end hF], h5⟩) hP hD hS dX0_farTerm_62
      · -- f 10
        refine lv_iload_n hx hb dX0_farTerm_10 rfl (lv_at hl 2 rfl) ?_
        refine x_if_le (tgt := 56) hx hb (by omega) dX0_farTerm_11 (by decide) (fun c_11 => ?_) (fun c_11 => ?_)
        · -- t 56
          have hlf : lf = 0 := by omega
          rw [hlf] at hF
          refine lv_aload_n hx hb dX0_farTerm_56 rfl (lv_at hl 0 rfl) ?_
          refine e_getb hx hb hts hown hK hP dX0_farTerm_57 ?_
          refine x_iconst hx hb dX0_farTerm_60 ?_
          refine e_bld hx hb hK hP (0) (0) (by omega) dX0_farTerm_61 ?_
          exact hret _ _ H locs _ _ (⟨Bc, rfl, by rw [far_end hF], h5⟩) hP hD hS dX0_farTerm_62
        · -- f 14
          refine lv_aload_n hx hb dX0_farTerm_14 rfl (lv_at hl 0 rfl) ?_
          refine g_callv ⟨hx, hb, hml, hown, hts⟩ (metX0_loadMirror l D d h qb qr Bc g ) (cwV 0 hts (lw_V q159 q161 qs14 q33 q162) rfl rfl rfl (by decide +kernel) ⟨Nat.le_of_ble_eq_true rfl, Nat.le_of_ble_eq_true rfl⟩) (va_recv hK hP (ci := 0) (q0 := 0) rfl rfl) hK hA hP hD hS rfl hl.1 rfl (Nat.le_of_ble_eq_true rfl) dX0_farTerm_15 ⟨Nat.zero_le _, Nat.zero_le _⟩ (fun u H locs hq hP hD hS => ?_)
          obtain ⟨B1, rfl, eB1⟩ := hq
          refine lv_aload_n hx hb dX0_farTerm_18 rfl (lv_at hl 0 rfl) ?_
          refine x_iconst hx hb dX0_farTerm_19 ?_
          refine x_iconst hx hb dX0_farTerm_20 ?_
          refine x_iconst hx hb dX0_farTerm_21 ?_
          refine g_callv ⟨hx, hb, hml, hown, hts⟩ (metX0_multiply l D d h qb qr B1 g 0 0 2 (by omega) (by omega) (by omega) (by decide) (by decide)) (cwV 3 hts (lw_V q66 q68 qs1 q33 q69) rfl rfl rfl (by decide +kernel) ⟨Nat.le_of_ble_eq_true rfl, Nat.le_of_ble_eq_true rfl⟩) (va_recv hK hP (ci := 0) (q0 := 0) rfl rfl) hK hA hP hD hS rfl hl.1 rfl (Nat.le_of_ble_eq_true rfl) dX0_farTerm_22 ⟨Nat.zero_le _, Nat.zero_le _⟩ (fun u H locs hq hP hD hS => ?_)
          obtain ⟨B2, rfl, eB2⟩ := hq
          refine lv_aload_n hx hb dX0_farTerm_25 rfl (lv_at hl 0 rfl) ?_
          refine x_iconst hx hb dX0_farTerm_26 ?_
          refine x_iconst hx hb dX0_farTerm_27 ?_
          refine x_iconst hx hb dX0_farTerm_28 ?_
          refine g_callv ⟨hx, hb, hml, hown, hts⟩ (metX0_multiply l D d h qb qr B2 g 1 1 2 (by omega) (by omega) (by omega) (by decide) (by decide)) (cwV 3 hts (lw_V q66 q68 qs1 q33 q69) rfl rfl rfl (by decide +kernel) ⟨Nat.le_of_ble_eq_true rfl, Nat.le_of_ble_eq_true rfl⟩) (va_recv hK hP (ci := 0) (q0 := 0) rfl rfl) hK hA hP hD hS rfl hl.1 rfl (Nat.le_of_ble_eq_true rfl) dX0_farTerm_29 ⟨Nat.zero_le _, Nat.zero_le _⟩ (fun u H locs hq hP hD hS => ?_)
          obtain ⟨B3, rfl, eB3⟩ := hq
          refine lv_aload_n hx hb dX0_farTerm_32 rfl (lv_at hl 0 rfl) ?_
          refine x_iconst hx hb dX0_farTerm_33 ?_
          refine lv_iload_n hx hb dX0_farTerm_34 rfl (lv_at hl 2 rfl) ?_
          refine x_iconst hx hb dX0_farTerm_35 ?_
          refine x_iand hx hb lf 1 (by decide) (by omega) dX0_farTerm_36 ?_
          refine g_callv ⟨hx, hb, hml, hown, hts⟩ (metX0_keepHalf l D d h qb qr B3 g 0 (lf % 2 ^ 1) (by omega) (by omega)) (cwV 2 hts (lw_V q163 q165 qs15 q33 q166) rfl rfl rfl (by decide +kernel) ⟨Nat.le_of_ble_eq_true rfl, Nat.le_of_ble_eq_true rfl⟩) (va_recv hK hP (ci := 0) (q0 := 0) rfl rfl) hK hA hP hD hS rfl hl.1 rfl (Nat.le_of_ble_eq_true rfl) dX0_farTerm_37 ⟨Nat.zero_le _, Nat.zero_le _⟩ (fun u H locs hq hP hD hS => ?_)
          obtain ⟨B4, rfl, eB4⟩ := hq
          refine lv_aload_n hx hb dX0_farTerm_40 rfl (lv_at hl 0 rfl) ?_
          refine x_iconst hx hb dX0_farTerm_41 ?_
          refine x_iconst hx hb dX0_farTerm_42 ?_
          refine g_callv ⟨hx, hb, hml, hown, hts⟩ (metX0_keepHalf l D d h qb qr B4 g 1 0 (by omega) (by omega)) (cwV 2 hts (lw_V q163 q165 qs15 q33 q166) rfl rfl rfl (by decide +kernel) ⟨Nat.le_of_ble_eq_true rfl, Nat.le_of_ble_eq_true rfl⟩) (va_recv hK hP (ci := 0) (q0 := 0) rfl rfl) hK hA hP hD hS rfl hl.1 rfl (Nat.le_of_ble_eq_true rfl) dX0_farTerm_43 ⟨Nat.zero_le _, Nat.zero_le _⟩ (fun u H locs hq hP hD hS => ?_)
          obtain ⟨B5, rfl, eB5⟩ := hq
          have hF5 := far_walk hF eB1 eB2 eB3 eB4 eB5
          refine lv_iload_n hx hb dX0_farTerm_46 rfl (lv_at hl 2 rfl) ?_
          refine x_iconst hx hb dX0_farTerm_47 ?_
          refine x_ishr1 hx hb lf (by omega) dX0_farTerm_48 ?_
          refine lv_istore_n (lv' := [(2, .int (iI (((lf / 2 : Nat) : Int)))), (0, .ref h), (1, .int (iI ((n0 : Int)))), (3, .int (iI ((i : Int))))]) hx hb dX0_farTerm_49 rfl hl (by decide) rfl (fun ls hl => ?_)
          refine x_iinc (v := ((i + 1 : Nat) : Int)) (lv' := [(3, .int (iI (((i + 1 : Nat) : Int)))), (2, .int (iI (((lf / 2 : Nat) : Int)))), (0, .ref h), (1, .int (iI ((n0 : Int))))]) hx hb dX0_farTerm_50 hl (k := 3) rfl (by omega) (by decide) rfl (fun ls hl => ?_)
          refine lv_goto (tgt := 4) hx hb dX0_farTerm_53 (by decide) ?_
          exact ih_4 (i + 1) (lf / 2) B5 _ (by omega) (by omega) (pw_half hw (by omega)) hF5.1 (fun k hk => by rw [hF5.2 k hk, h5 k hk]) H locs hP hD hS ls (lv_sub hl [2, 3, 1, 0] rfl)
  exact lp_4 11 0 n0 B a (by omega) (by omega) (by show n0 < 1024; omega) hF0 (fun _ _ => rfl) H locs hP hD hS ls (lv_sub hl [2, 3, 1, 0] rfl)
abbrev wsX0_term : List Cond := ws_ yX0_term cX0_term 3 (some .int)
set_option maxHeartbeats 4000000 in
set_option maxRecDepth 100000 in
/-- term(s, n) -/
theorem metX0_term (l : Launch) (D : va_G) (d : ClassId) (h qb qr : Nat) (B : Nat → Sr) (g : Sr) (a : Nat → Sr) (Ls : Nat → Nat) (hG : GInv B a Ls) (z1 : Int) (hz1 : -2147483648 ≤ z1 ∧ z1 < 2147483648) (z2 : Int) (hz2 : -2147483648 ≤ z2 ∧ z2 < 2147483648) : gMi l yX0_term wsX0_term (rK 6 150) D d (EW h qb qr d) (B, g) h [.int (iI (z1)), .int (iI (z2))] (fun r u => ∃ B1, u = (B1, g) ∧ GInv B1 a Ls ∧ (((z1 < 0 ∨ 3 < z1) ∧ r = iI (-1)) ∨ ((0 ≤ z1 ∧ z1 ≤ 3) ∧ (z2 < 0 ∨ 400 < z2) ∧ r = iI (-4)) ∨ (∃ s0 n0 : Nat, s0 < 4 ∧ n0 ≤ 400 ∧ z1 = (s0 : Int) ∧ z2 = (n0 : Int) ∧ r = iI ((a s0 n0).val : Int)))) := by
  refine g_entryi (by decide) (Nat.le_of_ble_eq_true rfl) ?_
  intro p e s m args below meth c A Q hx hb hml hown hts hK hA hret H locs hP hD hS ls hl
  have hl : lv_has ls 3 [(0, .ref h), (1, .int (iI (z1))), (2, .int (iI (z2)))] := hl
  refine lv_iload_n hx hb dX0_term_0 rfl (lv_at hl 1 rfl) ?_
  refine s_calli ⟨hx, hb, hml, hown, hts⟩ (metX0_bad l z1 hz1) (va_cwS 1 hts (lw_S q55 q56 q33 q57) rfl rfl rfl (by decide +kernel) ⟨Nat.le_of_ble_eq_true rfl, Nat.le_of_ble_eq_true rfl⟩) hA hP hS rfl hl.1 rfl (Nat.le_of_ble_eq_true rfl) dX0_term_1 ⟨Nat.zero_le _, Nat.zero_le _⟩ (fun r H locs hq hP hS => ?_)
  obtain rfl := hq
  refine x_if_eq (tgt := 9) hx hb (by have := bd_bd z1; omega) dX0_term_4 (by decide) (fun c_4 => ?_) (fun c_4 => ?_)
  · -- t 9
    obtain ⟨s0, rfl⟩ : ∃ q : Nat, z1 = (q : Int) := ⟨z1.toNat, by have := bd_y (by assumption : bd z1 = 0); omega⟩
    have hs04 : s0 < 4 := by have := bd_y (by assumption : bd (s0 : Int) = 0); omega
    refine lv_iload_n hx hb dX0_term_9 rfl (lv_at hl 2 rfl) ?_
    refine x_if_lt (tgt := 20) hx hb (by omega) dX0_term_10 (by decide) (fun c_10 => ?_) (fun c_10 => ?_)
    · -- t 20
      refine x_bipush hx hb dX0_term_20 (by decide) ?_
      exact hret _ _ H locs _ _ (⟨B, rfl, hG, Or.inr (Or.inl ⟨by omega, by omega, rfl⟩)⟩) hP hD hS dX0_term_22
    · -- f 13
      refine lv_iload_n hx hb dX0_term_13 rfl (lv_at hl 2 rfl) ?_
      refine x_sipush hx hb dX0_term_14 (by decide) ?_
      refine x_icmp_le (tgt := 23) hx hb (by omega) dX0_term_17 (by decide) (fun c_17 => ?_) (fun c_17 => ?_)
      · -- t 23
        obtain ⟨n0, rfl⟩ : ∃ q : Nat, z2 = (q : Int) := ⟨z2.toNat, by omega⟩
        refine lv_aload_n hx hb dX0_term_23 rfl (lv_at hl 0 rfl) ?_
        refine lv_iload_n hx hb dX0_term_24 rfl (lv_at hl 1 rfl) ?_
        refine g_callv ⟨hx, hb, hml, hown, hts⟩ (metX0_load l D d h qb qr B g s0 hs04) (cwV 1 hts (lw_V q123 q125 qs11 q33 q126) rfl rfl rfl (by decide +kernel) ⟨Nat.le_of_ble_eq_true rfl, Nat.le_of_ble_eq_true rfl⟩) (va_recv hK hP (ci := 0) (q0 := 0) rfl rfl) hK hA hP hD hS rfl hl.1 rfl (Nat.le_of_ble_eq_true rfl) dX0_term_25 ⟨Nat.zero_le _, Nat.zero_le _⟩ (fun u H locs hq hP hD hS => ?_)
        obtain ⟨B1, rfl, eB1⟩ := hq
        obtain ⟨k0, k1, hR1⟩ := rdy_load (hG s0 hs04).1 (hG s0 hs04).2 eB1
        refine lv_aload_n hx hb dX0_term_28 rfl (lv_at hl 0 rfl) ?_
        refine lv_iload_n hx hb dX0_term_29 rfl (lv_at hl 2 rfl) ?_
        refine g_calli ⟨hx, hb, hml, hown, hts⟩ (metX0_farTerm l D d h qb qr B1 g n0 (a s0) (a s0 n0) (by omega) (far_load hR1 (by rw [k1]; exact (hG s0 hs04).1.1))) (cwV 1 hts (lw_V q155 q157 qs13 q33 q158) rfl rfl rfl (by decide +kernel) ⟨Nat.le_of_ble_eq_true rfl, Nat.le_of_ble_eq_true rfl⟩) (va_recv hK hP (ci := 0) (q0 := 0) rfl rfl) hK hA hP hD hS rfl hl.1 rfl (Nat.le_of_ble_eq_true rfl) dX0_term_30 ⟨Nat.zero_le _, Nat.zero_le _⟩ (fun r u H locs hq hP hD hS => ?_)
        obtain ⟨B2, rfl, rfl, h5⟩ := hq
        exact hret _ _ H locs _ _ (⟨B2, rfl, ginv_same hG (fun k hk => by rw [h5 k hk, hR1.1 k hk]), Or.inr (Or.inr ⟨s0, n0, hs04, by omega, rfl, rfl, rfl⟩)⟩) hP hD hS dX0_term_33
      · -- f 20
        refine x_bipush hx hb dX0_term_20 (by decide) ?_
        exact hret _ _ H locs _ _ (⟨B, rfl, hG, Or.inr (Or.inl ⟨by omega, by omega, rfl⟩)⟩) hP hD hS dX0_term_22
  · -- f 7
    have hbadz1 := bd_n (by assumption : ¬ bd z1 = 0)
    refine x_iconst hx hb dX0_term_7 ?_
    exact hret _ _ H locs _ _ (⟨B, rfl, hG, Or.inl ⟨hbadz1, rfl⟩⟩) hP hD hS dX0_term_8
abbrev wsX0_order : List Cond := ws_ yX0_order cX0_order 4 (some .int)
set_option maxHeartbeats 4000000 in
set_option maxRecDepth 100000 in
/-- order(s) -/
theorem metX0_order (l : Launch) (D : va_G) (d : ClassId) (h qb qr : Nat) (B : Nat → Sr) (g : Sr) (a : Nat → Sr) (Ls : Nat → Nat) (hG : GInv B a Ls) (z1 : Int) (hz1 : -2147483648 ≤ z1 ∧ z1 < 2147483648) : gMi l yX0_order wsX0_order (rK 6 150) D d (EW h qb qr d) (B, g) h [.int (iI (z1))] (fun r u => ∃ B1, u = (B1, g) ∧ GInv B1 a Ls ∧ (((z1 < 0 ∨ 3 < z1) ∧ r = iI (-1)) ∨ (∃ s0 : Nat, s0 < 4 ∧ z1 = (s0 : Int) ∧ r = iI (Ls s0 : Int)))) := by
  refine g_entryi (by decide) (Nat.le_of_ble_eq_true rfl) ?_
  intro p e s m args below meth c A Q hx hb hml hown hts hK hA hret H locs hP hD hS ls hl
  have hl : lv_has ls 4 [(0, .ref h), (1, .int (iI (z1)))] := hl
  refine lv_iload_n hx hb dX0_order_0 rfl (lv_at hl 1 rfl) ?_
  refine s_calli ⟨hx, hb, hml, hown, hts⟩ (metX0_bad l z1 hz1) (va_cwS 1 hts (lw_S q55 q56 q33 q57) rfl rfl rfl (by decide +kernel) ⟨Nat.le_of_ble_eq_true rfl, Nat.le_of_ble_eq_true rfl⟩) hA hP hS rfl hl.1 rfl (Nat.le_of_ble_eq_true rfl) dX0_order_1 ⟨Nat.zero_le _, Nat.zero_le _⟩ (fun r H locs hq hP hS => ?_)
  obtain rfl := hq
  refine x_if_eq (tgt := 9) hx hb (by have := bd_bd z1; omega) dX0_order_4 (by decide) (fun c_4 => ?_) (fun c_4 => ?_)
  · -- t 9
    obtain ⟨s0, rfl⟩ : ∃ q : Nat, z1 = (q : Int) := ⟨z1.toNat, by have := bd_y (by assumption : bd z1 = 0); omega⟩
    have hs04 : s0 < 4 := by have := bd_y (by assumption : bd (s0 : Int) = 0); omega
    refine lv_iload_n hx hb dX0_order_9 rfl (lv_at hl 1 rfl) ?_
    refine s_calli ⟨hx, hb, hml, hown, hts⟩ (metX0_top l s0) (va_cwS 1 hts (lw_S q109 q110 q33 q111) rfl rfl rfl (by decide +kernel) ⟨Nat.le_of_ble_eq_true rfl, Nat.le_of_ble_eq_true rfl⟩) hA hP hS rfl hl.1 rfl (Nat.le_of_ble_eq_true rfl) dX0_order_10 ⟨Nat.zero_le _, Nat.zero_le _⟩ (fun r H locs hq hP hS => ?_)
    obtain rfl := hq
    refine lv_istore_n (lv' := [(2, .int (iI (((5 + 2 * s0 : Nat) : Int)))), (0, .ref h), (1, .int (iI ((s0 : Int))))]) hx hb dX0_order_13 rfl hl (by decide) rfl (fun ls hl => ?_)
    refine lv_iload_n hx hb dX0_order_14 rfl (lv_at hl 2 rfl) ?_
    refine s_calli ⟨hx, hb, hml, hown, hts⟩ (metX0_bottom l s0) (va_cwS 1 hts (lw_S q112 q113 q33 q114) rfl rfl rfl (by decide +kernel) ⟨Nat.le_of_ble_eq_true rfl, Nat.le_of_ble_eq_true rfl⟩) hA hP hS rfl hl.1 rfl (Nat.le_of_ble_eq_true rfl) dX0_order_15 ⟨Nat.zero_le _, Nat.zero_le _⟩ (fun r H locs hq hP hS => ?_)
    obtain rfl := hq
    refine lv_istore_n (lv' := [(3, .int (iI (((6 + 2 * s0 : Nat) : Int)))), (2, .int (iI (((5 + 2 * s0 : Nat) : Int)))), (0, .ref h), (1, .int (iI ((s0 : Int))))]) hx hb dX0_order_18 rfl hl (by decide) rfl (fun ls hl => ?_)
    refine lv_aload_n hx hb dX0_order_19 rfl (lv_at hl 2 rfl) ?_
    refine lv_iload_n hx hb dX0_order_20 rfl (lv_at hl 1 rfl) ?_
    refine lv_iload_n hx hb dX0_order_21 rfl (lv_at hl 0 rfl) ?_
    refine g_calli ⟨hx, hb, hml, hown, hts⟩ (metX0_orderOf l D d h qb qr B g (5 + 2 * s0) (6 + 2 * s0) (by omega) (by omega)) (cwV 2 hts (lw_V q105 q107 qs10 q33 q108) rfl rfl rfl (by decide +kernel) ⟨Nat.le_of_ble_eq_true rfl, Nat.le_of_ble_eq_true rfl⟩) (va_recv hK hP (ci := 0) (q0 := 0) rfl rfl) hK hA hP hD hS rfl hl.1 rfl (Nat.le_of_ble_eq_true rfl) dX0_order_22 ⟨Nat.zero_le _, Nat.zero_le _⟩ (fun r u H locs hq hP hD hS => ?_)
    obtain ⟨L, rfl, rfl, hO⟩ := hq
    exact hret _ _ H locs _ _ (⟨B, rfl, hG, Or.inr ⟨s0, hs04, rfl, by rw [seq_ordOf (hG s0 hs04).1 (hG s0 hs04).2 hO]⟩⟩) hP hD hS dX0_order_25
  · -- f 7
    have hbadz1 := bd_n (by assumption : ¬ bd z1 = 0)
    refine x_iconst hx hb dX0_order_7 ?_
    exact hret _ _ H locs _ _ (⟨B, rfl, hG, Or.inl ⟨hbadz1, rfl⟩⟩) hP hD hS dX0_order_8
abbrev wsX0_equal : List Cond := ws_ yX0_equal cX0_equal 4 (some .boolean)
set_option maxHeartbeats 4000000 in
set_option maxRecDepth 100000 in
/-- equal(s, t) -/
theorem metX0_equal (l : Launch) (D : va_G) (d : ClassId) (h qb qr : Nat) (B : Nat → Sr) (g : Sr) (a : Nat → Sr) (Ls : Nat → Nat) (hG : GInv B a Ls) (z1 : Int) (hz1 : -2147483648 ≤ z1 ∧ z1 < 2147483648) (z2 : Int) (hz2 : -2147483648 ≤ z2 ∧ z2 < 2147483648) : gMi l yX0_equal wsX0_equal (rK 6 150) D d (EW h qb qr d) (B, g) h [.int (iI (z1)), .int (iI (z2))] (fun r u => ∃ B1, u = (B1, g) ∧ GInv B1 a Ls ∧ ((((z1 < 0 ∨ 3 < z1) ∨ (z2 < 0 ∨ 3 < z2)) ∧ r = iI 0) ∨ (∃ s0 t0 : Nat, s0 < 4 ∧ t0 < 4 ∧ z1 = (s0 : Int) ∧ z2 = (t0 : Int) ∧ ((r = iI 1 ∧ EqS (a s0) (a t0)) ∨ (r = iI 0 ∧ ¬ EqS (a s0) (a t0)))))) := by
  refine g_entryz (by decide) (Nat.le_of_ble_eq_true rfl) ?_
  intro p e s m args below meth c A Q hx hb hml hown hts hK hA hret H locs hP hD hS ls hl
  have hl : lv_has ls 4 [(0, .ref h), (1, .int (iI (z1))), (2, .int (iI (z2)))] := hl
  refine lv_iload_n hx hb dX0_equal_0 rfl (lv_at hl 1 rfl) ?_
  refine s_calli ⟨hx, hb, hml, hown, hts⟩ (metX0_bad l z1 hz1) (va_cwS 1 hts (lw_S q55 q56 q33 q57) rfl rfl rfl (by decide +kernel) ⟨Nat.le_of_ble_eq_true rfl, Nat.le_of_ble_eq_true rfl⟩) hA hP hS rfl hl.1 rfl (Nat.le_of_ble_eq_true rfl) dX0_equal_1 ⟨Nat.zero_le _, Nat.zero_le _⟩ (fun r H locs hq hP hS => ?_)
  obtain rfl := hq
  refine x_if_ne (tgt := 14) hx hb (by have := bd_bd z1; omega) dX0_equal_4 (by decide) (fun c_4 => ?_) (fun c_4 => ?_)
  · -- t 14
    have hbadz1 := bd_n (by assumption : ¬ bd z1 = 0)
    refine x_iconst hx hb dX0_equal_14 ?_
    exact hret _ _ H locs _ _ rfl (⟨B, rfl, hG, Or.inl ⟨Or.inl hbadz1, rfl⟩⟩) hP hD hS dX0_equal_15
  · -- f 7
    obtain ⟨s0, rfl⟩ : ∃ q : Nat, z1 = (q : Int) := ⟨z1.toNat, by have := bd_y (by assumption : bd z1 = 0); omega⟩
    have hs04 : s0 < 4 := by have := bd_y (by assumption : bd (s0 : Int) = 0); omega
    refine lv_iload_n hx hb dX0_equal_7 rfl (lv_at hl 2 rfl) ?_
    refine s_calli ⟨hx, hb, hml, hown, hts⟩ (metX0_bad l z2 hz2) (va_cwS 1 hts (lw_S q55 q56 q33 q57) rfl rfl rfl (by decide +kernel) ⟨Nat.le_of_ble_eq_true rfl, Nat.le_of_ble_eq_true rfl⟩) hA hP hS rfl hl.1 rfl (Nat.le_of_ble_eq_true rfl) dX0_equal_8 ⟨Nat.zero_le _, Nat.zero_le _⟩ (fun r H locs hq hP hS => ?_)
    obtain rfl := hq
    refine x_if_eq (tgt := 16) hx hb (by have := bd_bd z2; omega) dX0_equal_11 (by decide) (fun c_11 => ?_) (fun c_11 => ?_)
    · -- t 16
      obtain ⟨t0, rfl⟩ : ∃ q : Nat, z2 = (q : Int) := ⟨z2.toNat, by have := bd_y (by assumption : bd z2 = 0); omega⟩
      have ht04 : t0 < 4 := by have := bd_y (by assumption : bd (t0 : Int) = 0); omega
      refine x_iconst hx hb dX0_equal_16 ?_
      refine lv_istore_n (lv' := [(3, .int (iI (0))), (0, .ref h), (1, .int (iI ((s0 : Int)))), (2, .int (iI ((t0 : Int))))]) hx hb dX0_equal_17 rfl hl (by decide) rfl (fun ls hl => ?_)
      have lp_18 : ∀ (n : Nat) (i : Nat) (hi : i ≤ 48) (hn : 48 < i + n) (hI : EqB B s0 t0 i) (H : Heap) (locs : List Loc), va_P D vwCl (EW h qb qr d (B, g)) H → va_D A (EW h qb qr d (B, g)) → va_S A s.heap H locs → ∀ ls : Array Slot, lv_has ls 4 [(0, .ref h), (1, .int (iI ((s0 : Int)))), (2, .int (iI ((t0 : Int)))), (3, .int (iI ((i : Int))))] → W p l e (rK 6 150) s m args below meth c H locs 0 0 Q (F0 m 18 ls []) := by
        intro n
        induction n with
        | zero =>
          intro i hi hn hI
          exfalso
          omega
        | succ n ih_18 =>
          intro i hi hn hI H locs hP hD hS ls hl
          refine lv_iload_n hx hb dX0_equal_18 rfl (lv_at hl 3 rfl) ?_
          refine x_bipush hx hb dX0_equal_19 (by decide) ?_
          refine x_icmp_ge (tgt := 63) hx hb (by omega) dX0_equal_21 (by decide) (fun c_21 => ?_) (fun c_21 => ?_)
          · -- t 63
            refine x_iconst hx hb dX0_equal_63 ?_
            have hi48 : i = 48 := by omega
            rw [hi48] at hI
            exact hret _ _ H locs _ _ rfl (⟨B, rfl, hG, Or.inr ⟨s0, t0, hs04, ht04, rfl, rfl, Or.inl ⟨rfl, eqB_yes hG hs04 ht04 hI⟩⟩⟩) hP hD hS dX0_equal_64
          · -- f 24
            refine lv_aload_n hx hb dX0_equal_24 rfl (lv_at hl 0 rfl) ?_
            refine e_getb hx hb hts hown hK hP dX0_equal_25 ?_
            refine lv_iload_n hx hb dX0_equal_28 rfl (lv_at hl 1 rfl) ?_
            refine s_calli ⟨hx, hb, hml, hown, hts⟩ (metX0_top l s0) (va_cwS 1 hts (lw_S q109 q110 q33 q111) rfl rfl rfl (by decide +kernel) ⟨Nat.le_of_ble_eq_true rfl, Nat.le_of_ble_eq_true rfl⟩) hA hP hS rfl hl.1 rfl (Nat.le_of_ble_eq_true rfl) dX0_equal_29 ⟨Nat.zero_le _, Nat.zero_le _⟩ (fun r H locs hq hP hS => ?_)
            obtain rfl := hq
            refine x_bipush hx hb dX0_equal_32 (by decide) ?_
            refine x_imul hx hb dX0_equal_34 ?_
            refine lv_iload_n hx hb dX0_equal_35 rfl (lv_at hl 3 rfl) ?_
            refine x_iadd hx hb dX0_equal_36 ?_
            refine e_bld hx hb hK hP (5 + 2 * s0 + i / 24) (i % 24) (by omega) dX0_equal_37 ?_
            refine lv_aload_n hx hb dX0_equal_38 rfl (lv_at hl 0 rfl) ?_
            refine e_getb hx hb hts hown hK hP dX0_equal_39 ?_
            refine lv_iload_n hx hb dX0_equal_42 rfl (lv_at hl 2 rfl) ?_
            refine s_calli ⟨hx, hb, hml, hown, hts⟩ (metX0_top l t0) (va_cwS 1 hts (lw_S q109 q110 q33 q111) rfl rfl rfl (by decide +kernel) ⟨Nat.le_of_ble_eq_true rfl, Nat.le_of_ble_eq_true rfl⟩) hA hP hS rfl hl.1 rfl (Nat.le_of_ble_eq_true rfl) dX0_equal_43 ⟨Nat.zero_le _, Nat.zero_le _⟩ (fun r H locs hq hP hS => ?_)
            obtain rfl := hq
            refine x_bipush hx hb dX0_equal_46 (by decide) ?_
            refine x_imul hx hb dX0_equal_48 ?_
            refine lv_iload_n hx hb dX0_equal_49 rfl (lv_at hl 3 rfl) ?_
            refine x_iadd hx hb dX0_equal_50 ?_
            refine e_bld hx hb hK hP (5 + 2 * t0 + i / 24) (i % 24) (by omega) dX0_equal_51 ?_
            refine x_icmp_eq (tgt := 57) hx hb (by omega) dX0_equal_52 (by decide) (fun c_52 => ?_) (fun c_52 => ?_)
            · -- t 57
              refine x_iinc (v := ((i : Int) + 1)) (lv' := [(3, .int (iI (((i : Int) + 1)))), (0, .ref h), (1, .int (iI ((s0 : Int)))), (2, .int (iI ((t0 : Int))))]) hx hb dX0_equal_57 hl (k := 3) rfl (by omega) (by decide) rfl (fun ls hl => ?_)
              refine lv_goto (tgt := 18) hx hb dX0_equal_60 (by decide) ?_
              exact ih_18 (i + 1) (by omega) (by omega) (eqB_s hI (fp_ext c_52)) H locs hP hD hS ls (lv_sub hl [1, 2, 3, 0] rfl)
            · -- f 55
              refine x_iconst hx hb dX0_equal_55 ?_
              exact hret _ _ H locs _ _ rfl (⟨B, rfl, hG, Or.inr ⟨s0, t0, hs04, ht04, rfl, rfl, Or.inr ⟨rfl, eqB_no (i := i) hG hs04 ht04 (by omega) (fun q => c_52 (by rw [q]))⟩⟩⟩) hP hD hS dX0_equal_56
      exact lp_18 49 0 (by omega) (by omega) (fun j hj => by omega) H locs hP hD hS ls (lv_sub hl [1, 2, 3, 0] rfl)
    · -- f 14
      have hbadz2 := bd_n (by assumption : ¬ bd z2 = 0)
      refine x_iconst hx hb dX0_equal_14 ?_
      exact hret _ _ H locs _ _ rfl (⟨B, rfl, hG, Or.inl ⟨Or.inr hbadz2, rfl⟩⟩) hP hD hS dX0_equal_15
abbrev wsX0_sumTo : List Cond := ws_ yX0_sumTo cX0_sumTo 3 (some .int)
set_option maxHeartbeats 4000000 in
set_option maxRecDepth 100000 in
/-- sumTo(s, n) -/
theorem metX0_sumTo (l : Launch) (D : va_G) (d : ClassId) (h qb qr : Nat) (B : Nat → Sr) (g : Sr) (a : Nat → Sr) (Ls : Nat → Nat) (hG : GInv B a Ls) (s0 : Nat) (z : Int) (hs04 : s0 < 4) (hz : -1 ≤ z ∧ z ≤ 400) : gMi l yX0_sumTo wsX0_sumTo (rK 4 94) D d (EW h qb qr d) (B, g) h [.int (iI ((s0 : Int))), .int (iI (z))] (fun r u => ∃ B1, u = (B1, g) ∧ (∀ k, 5 ≤ k → B1 k = B k) ∧ r = iI ((su (a s0) (z + 1).toNat).val : Int)) := by
  refine g_entryi (by decide) (Nat.le_of_ble_eq_true rfl) ?_
  intro p e s m args below meth c A Q hx hb hml hown hts hK hA hret H locs hP hD hS ls hl
  have hl : lv_has ls 3 [(0, .ref h), (1, .int (iI ((s0 : Int)))), (2, .int (iI (z)))] := hl
  refine lv_iload_n hx hb dX0_sumTo_0 rfl (lv_at hl 2 rfl) ?_
  refine x_if_ge (tgt := 6) hx hb (by omega) dX0_sumTo_1 (by decide) (fun c_1 => ?_) (fun c_1 => ?_)
  · -- t 6
    obtain ⟨n0, rfl⟩ : ∃ q : Nat, z = (q : Int) := ⟨z.toNat, by omega⟩
    refine lv_aload_n hx hb dX0_sumTo_6 rfl (lv_at hl 0 rfl) ?_
    refine lv_iload_n hx hb dX0_sumTo_7 rfl (lv_at hl 1 rfl) ?_
    refine g_callv ⟨hx, hb, hml, hown, hts⟩ (metX0_load l D d h qb qr B g s0 hs04) (cwV 1 hts (lw_V q123 q125 qs11 q33 q126) rfl rfl rfl (by decide +kernel) ⟨Nat.le_of_ble_eq_true rfl, Nat.le_of_ble_eq_true rfl⟩) (va_recv hK hP (ci := 0) (q0 := 0) rfl rfl) hK hA hP hD hS rfl hl.1 rfl (Nat.le_of_ble_eq_true rfl) dX0_sumTo_8 ⟨Nat.zero_le _, Nat.zero_le _⟩ (fun u H locs hq hP hD hS => ?_)
    obtain ⟨B1, rfl, eB1⟩ := hq
    obtain ⟨k0, k1, hR1⟩ := rdy_load (hG s0 hs04).1 (hG s0 hs04).2 eB1
    refine lv_aload_n hx hb dX0_sumTo_11 rfl (lv_at hl 0 rfl) ?_
    refine g_callv ⟨hx, hb, hml, hown, hts⟩ (metX0_loadStep l D d h qb qr B1 g ) (cwV 0 hts (lw_V q139 q141 qs12 q33 q142) rfl rfl rfl (by decide +kernel) ⟨Nat.le_of_ble_eq_true rfl, Nat.le_of_ble_eq_true rfl⟩) (va_recv hK hP (ci := 0) (q0 := 0) rfl rfl) hK hA hP hD hS rfl hl.1 rfl (Nat.le_of_ble_eq_true rfl) dX0_sumTo_12 ⟨Nat.zero_le _, Nat.zero_le _⟩ (fun u H locs hq hP hD hS => ?_)
    obtain ⟨B2, rfl, eB2⟩ := hq
    refine lv_aload_n hx hb dX0_sumTo_15 rfl (lv_at hl 0 rfl) ?_
    refine x_iconst hx hb dX0_sumTo_16 ?_
    refine x_iconst hx hb dX0_sumTo_17 ?_
    refine x_iconst hx hb dX0_sumTo_18 ?_
    refine g_callv ⟨hx, hb, hml, hown, hts⟩ (metX0_multiply l D d h qb qr B2 g 1 1 3 (by omega) (by omega) (by omega) (by decide) (by decide)) (cwV 3 hts (lw_V q66 q68 qs1 q33 q69) rfl rfl rfl (by decide +kernel) ⟨Nat.le_of_ble_eq_true rfl, Nat.le_of_ble_eq_true rfl⟩) (va_recv hK hP (ci := 0) (q0 := 0) rfl rfl) hK hA hP hD hS rfl hl.1 rfl (Nat.le_of_ble_eq_true rfl) dX0_sumTo_19 ⟨Nat.zero_le _, Nat.zero_le _⟩ (fun u H locs hq hP hD hS => ?_)
    obtain ⟨B3, rfl, eB3⟩ := hq
    have hR2 := rdy_acc hR1 eB2 eB3
    have hq1 : B3 1 0 = 1 := acc_q eB2 eB3 (by rw [k1]; exact (hG s0 hs04).1.1)
    refine lv_aload_n hx hb dX0_sumTo_22 rfl (lv_at hl 0 rfl) ?_
    refine lv_iload_n hx hb dX0_sumTo_23 rfl (lv_at hl 2 rfl) ?_
    refine g_calli ⟨hx, hb, hml, hown, hts⟩ (metX0_farTerm l D d h qb qr B3 g n0 (acc (a s0)) (acc (a s0) n0) (by omega) (far_load9 hR2 hq1)) (cwV 1 hts (lw_V q155 q157 qs13 q33 q158) rfl rfl rfl (by decide +kernel) ⟨Nat.le_of_ble_eq_true rfl, Nat.le_of_ble_eq_true rfl⟩) (va_recv hK hP (ci := 0) (q0 := 0) rfl rfl) hK hA hP hD hS rfl hl.1 rfl (Nat.le_of_ble_eq_true rfl) dX0_sumTo_24 ⟨Nat.zero_le _, Nat.zero_le _⟩ (fun r u H locs hq hP hD hS => ?_)
    obtain ⟨B4, rfl, rfl, h5⟩ := hq
    have ez : ((n0 : Int) + 1).toNat = n0 + 1 := by omega
    exact hret _ _ H locs _ _ (⟨B4, rfl, fun k hk => by rw [h5 k hk, hR2.1 k hk], by rw [ez]; rfl⟩) hP hD hS dX0_sumTo_27
  · -- f 4
    refine x_iconst hx hb dX0_sumTo_4 ?_
    have ez : (z + 1).toNat = 0 := by omega
    exact hret _ _ H locs _ _ (⟨B, rfl, fun _ _ => rfl, by rw [ez]; rfl⟩) hP hD hS dX0_sumTo_5
abbrev wsX0_sum : List Cond := ws_ yX0_sum cX0_sum 6 (some .int)
set_option maxHeartbeats 4000000 in
set_option maxRecDepth 100000 in
/-- sum(s, first, last) -/
theorem metX0_sum (l : Launch) (D : va_G) (d : ClassId) (h qb qr : Nat) (B : Nat → Sr) (g : Sr) (a : Nat → Sr) (Ls : Nat → Nat) (hG : GInv B a Ls) (z1 : Int) (hz1 : -2147483648 ≤ z1 ∧ z1 < 2147483648) (z2 : Int) (hz2 : -2147483648 ≤ z2 ∧ z2 < 2147483648) (z3 : Int) (hz3 : -2147483648 ≤ z3 ∧ z3 < 2147483648) : gMi l yX0_sum wsX0_sum (rK 6 150) D d (EW h qb qr d) (B, g) h [.int (iI (z1)), .int (iI (z2)), .int (iI (z3))] (fun r u => ∃ B1, u = (B1, g) ∧ GInv B1 a Ls ∧ (((z1 < 0 ∨ 3 < z1) ∧ r = iI (-1)) ∨ ((0 ≤ z1 ∧ z1 ≤ 3) ∧ (z2 < 0 ∨ z3 < z2 ∨ 400 < z3) ∧ r = iI (-4)) ∨ (∃ s0 f0 l0 : Nat, s0 < 4 ∧ f0 ≤ l0 ∧ l0 ≤ 400 ∧ z1 = (s0 : Int) ∧ z2 = (f0 : Int) ∧ z3 = (l0 : Int) ∧ r = iI ((su (a s0) (l0 + 1) - su (a s0) f0).val : Int)))) := by
  refine g_entryi (by decide) (Nat.le_of_ble_eq_true rfl) ?_
  intro p e s m args below meth c A Q hx hb hml hown hts hK hA hret H locs hP hD hS ls hl
  have hl : lv_has ls 6 [(0, .ref h), (1, .int (iI (z1))), (2, .int (iI (z2))), (3, .int (iI (z3)))] := hl
  refine lv_iload_n hx hb dX0_sum_0 rfl (lv_at hl 1 rfl) ?_
  refine s_calli ⟨hx, hb, hml, hown, hts⟩ (metX0_bad l z1 hz1) (va_cwS 1 hts (lw_S q55 q56 q33 q57) rfl rfl rfl (by decide +kernel) ⟨Nat.le_of_ble_eq_true rfl, Nat.le_of_ble_eq_true rfl⟩) hA hP hS rfl hl.1 rfl (Nat.le_of_ble_eq_true rfl) dX0_sum_1 ⟨Nat.zero_le _, Nat.zero_le _⟩ (fun r H locs hq hP hS => ?_)
  obtain rfl := hq
  refine x_if_eq (tgt := 9) hx hb (by have := bd_bd z1; omega) dX0_sum_4 (by decide) (fun c_4 => ?_) (fun c_4 => ?_)
  · -- t 9
    obtain ⟨s0, rfl⟩ : ∃ q : Nat, z1 = (q : Int) := ⟨z1.toNat, by have := bd_y (by assumption : bd z1 = 0); omega⟩
    have hs04 : s0 < 4 := by have := bd_y (by assumption : bd (s0 : Int) = 0); omega
    refine lv_iload_n hx hb dX0_sum_9 rfl (lv_at hl 2 rfl) ?_
    refine x_if_lt (tgt := 25) hx hb (by omega) dX0_sum_10 (by decide) (fun c_10 => ?_) (fun c_10 => ?_)
    · -- t 25
      refine x_bipush hx hb dX0_sum_25 (by decide) ?_
      exact hret _ _ H locs _ _ (⟨B, rfl, hG, Or.inr (Or.inl ⟨by omega, by omega, rfl⟩)⟩) hP hD hS dX0_sum_27
    · -- f 13
      refine lv_iload_n hx hb dX0_sum_13 rfl (lv_at hl 2 rfl) ?_
      refine lv_iload_n hx hb dX0_sum_14 rfl (lv_at hl 3 rfl) ?_
      refine x_icmp_gt (tgt := 25) hx hb (by omega) dX0_sum_15 (by decide) (fun c_15 => ?_) (fun c_15 => ?_)
      · -- t 25
        refine x_bipush hx hb dX0_sum_25 (by decide) ?_
        exact hret _ _ H locs _ _ (⟨B, rfl, hG, Or.inr (Or.inl ⟨by omega, by omega, rfl⟩)⟩) hP hD hS dX0_sum_27
      · -- f 18
        refine lv_iload_n hx hb dX0_sum_18 rfl (lv_at hl 3 rfl) ?_
        refine x_sipush hx hb dX0_sum_19 (by decide) ?_
        refine x_icmp_le (tgt := 28) hx hb (by omega) dX0_sum_22 (by decide) (fun c_22 => ?_) (fun c_22 => ?_)
        · -- t 28
          obtain ⟨f0, rfl⟩ : ∃ q : Nat, z2 = (q : Int) := ⟨z2.toNat, by omega⟩
          obtain ⟨l0, rfl⟩ : ∃ q : Nat, z3 = (q : Int) := ⟨z3.toNat, by omega⟩
          refine lv_aload_n hx hb dX0_sum_28 rfl (lv_at hl 0 rfl) ?_
          refine lv_iload_n hx hb dX0_sum_29 rfl (lv_at hl 1 rfl) ?_
          refine lv_iload_n hx hb dX0_sum_30 rfl (lv_at hl 3 rfl) ?_
          refine g_calli ⟨hx, hb, hml, hown, hts⟩ (metX0_sumTo l D d h qb qr B g a Ls hG s0 (l0 : Int) hs04 (by omega)) (cwV 2 hts (lw_V q179 q181 qs16 q33 q182) rfl rfl rfl (by decide +kernel) ⟨Nat.le_of_ble_eq_true rfl, Nat.le_of_ble_eq_true rfl⟩) (va_recv hK hP (ci := 0) (q0 := 0) rfl rfl) hK hA hP hD hS rfl hl.1 rfl (Nat.le_of_ble_eq_true rfl) dX0_sum_31 ⟨Nat.zero_le _, Nat.zero_le _⟩ (fun r u H locs hq hP hD hS => ?_)
          obtain ⟨B1, rfl, h5, rfl⟩ := hq
          rw [show ((l0 : Int) + 1).toNat = l0 + 1 from by omega]
          refine lv_istore (lv' := [(4, .int (iI (((su (a s0) (l0 + 1)).val : Int)))), (0, .ref h), (1, .int (iI ((s0 : Int)))), (2, .int (iI ((f0 : Int)))), (3, .int (iI ((l0 : Int))))]) hx hb dX0_sum_34 hl (by decide) rfl (fun ls hl => ?_)
          refine lv_aload_n hx hb dX0_sum_36 rfl (lv_at hl 1 rfl) ?_
          refine lv_iload_n hx hb dX0_sum_37 rfl (lv_at hl 2 rfl) ?_
          refine lv_iload_n hx hb dX0_sum_38 rfl (lv_at hl 3 rfl) ?_
          refine x_iconst hx hb dX0_sum_39 ?_
          refine x_isub hx hb dX0_sum_40 ?_
          refine g_calli ⟨hx, hb, hml, hown, hts⟩ (metX0_sumTo l D d h qb qr B1 g a Ls (ginv_same hG h5) s0 ((f0 : Int) - 1) hs04 (by omega)) (cwV 2 hts (lw_V q179 q181 qs16 q33 q182) rfl rfl rfl (by decide +kernel) ⟨Nat.le_of_ble_eq_true rfl, Nat.le_of_ble_eq_true rfl⟩) (va_recv hK hP (ci := 0) (q0 := 0) rfl rfl) hK hA hP hD hS rfl hl.1 rfl (Nat.le_of_ble_eq_true rfl) dX0_sum_41 ⟨Nat.zero_le _, Nat.zero_le _⟩ (fun r u H locs hq hP hD hS => ?_)
          obtain ⟨B2, rfl, h6, rfl⟩ := hq
          rw [show ((f0 : Int) - 1 + 1).toNat = f0 from by omega]
          refine lv_istore (lv' := [(5, .int (iI (((su (a s0) f0).val : Int)))), (4, .int (iI (((su (a s0) (l0 + 1)).val : Int)))), (0, .ref h), (1, .int (iI ((s0 : Int)))), (2, .int (iI ((f0 : Int)))), (3, .int (iI ((l0 : Int))))]) hx hb dX0_sum_44 hl (by decide) rfl (fun ls hl => ?_)
          refine lv_iload hx hb dX0_sum_46 (lv_at hl 1 rfl) ?_
          refine lv_iload hx hb dX0_sum_48 (lv_at hl 0 rfl) ?_
          refine x_isub hx hb dX0_sum_50 ?_
          refine s_calli ⟨hx, hb, hml, hown, hts⟩ (metX0_mod l (((su (a s0) (l0 + 1)).val : Int) - ((su (a s0) f0).val : Int)) (by omega)) (va_cwS 1 hts (lw_S q63 q64 q33 q65) rfl rfl rfl (by decide +kernel) ⟨Nat.le_of_ble_eq_true rfl, Nat.le_of_ble_eq_true rfl⟩) hA hP hS rfl hl.1 rfl (Nat.le_of_ble_eq_true rfl) dX0_sum_51 ⟨Nat.zero_le _, Nat.zero_le _⟩ (fun r H locs hq hP hS => ?_)
          obtain rfl := hq
          exact hret _ _ H locs _ _ (⟨B2, rfl, ginv_same hG (fun k hk => by rw [h6 k hk, h5 k hk]), Or.inr (Or.inr ⟨s0, f0, l0, hs04, by omega, by omega, rfl, rfl, rfl, by rw [toF_sub, toF_of, toF_of]⟩)⟩) hP hD hS dX0_sum_54
        · -- f 25
          refine x_bipush hx hb dX0_sum_25 (by decide) ?_
          exact hret _ _ H locs _ _ (⟨B, rfl, hG, Or.inr (Or.inl ⟨by omega, by omega, rfl⟩)⟩) hP hD hS dX0_sum_27
  · -- f 7
    have hbadz1 := bd_n (by assumption : ¬ bd z1 = 0)
    refine x_iconst hx hb dX0_sum_7 ?_
    exact hret _ _ H locs _ _ (⟨B, rfl, hG, Or.inl ⟨hbadz1, rfl⟩⟩) hP hD hS dX0_sum_8
abbrev wsX0_nextTerm : List Cond := ws_ yX0_nextTerm cX0_nextTerm 5 (some .int)
set_option maxHeartbeats 4000000 in
set_option maxRecDepth 100000 in
/-- nextTerm(s, n) -/
theorem metX0_nextTerm (l : Launch) (D : va_G) (d : ClassId) (h qb qr : Nat) (B : Nat → Sr) (g : Sr) (a : Nat → Sr) (Ls : Nat → Nat) (hG : GInv B a Ls) (s0 n0 : Nat) (hs04 : s0 < 4) (hn0 : n0 ≤ 400) (hRec : Rec (a s0) n0 g) : gMi l yX0_nextTerm wsX0_nextTerm (rK 1 21) D d (EW h qb qr d) (B, g) h [.int (iI ((s0 : Int))), .int (iI ((n0 : Int)))] (fun r u => r = iI ((a s0 n0).val : Int) ∧ u = (B, g)) := by
  refine g_entryi (by decide) (Nat.le_of_ble_eq_true rfl) ?_
  intro p e s m args below meth c A Q hx hb hml hown hts hK hA hret H locs hP hD hS ls hl
  have hl : lv_has ls 5 [(0, .ref h), (1, .int (iI ((s0 : Int)))), (2, .int (iI ((n0 : Int))))] := hl
  refine lv_iload_n hx hb dX0_nextTerm_0 rfl (lv_at hl 2 rfl) ?_
  refine x_bipush hx hb dX0_nextTerm_1 (by decide) ?_
  refine x_icmp_ge (tgt := 23) hx hb (by omega) dX0_nextTerm_3 (by decide) (fun c_3 => ?_) (fun c_3 => ?_)
  · -- t 23
    refine x_iconst hx hb dX0_nextTerm_23 ?_
    refine lv_istore_n (lv' := [(3, .int (iI (0))), (0, .ref h), (1, .int (iI ((s0 : Int)))), (2, .int (iI ((n0 : Int))))]) hx hb dX0_nextTerm_24 rfl hl (by decide) rfl (fun ls hl => ?_)
    refine x_iconst hx hb dX0_nextTerm_25 ?_
    refine lv_istore (lv' := [(4, .int (iI (1))), (3, .int (iI (0))), (0, .ref h), (1, .int (iI ((s0 : Int)))), (2, .int (iI ((n0 : Int))))]) hx hb dX0_nextTerm_26 hl (by decide) rfl (fun ls hl => ?_)
    have lp_28 : ∀ (n : Nat) (i : Nat) (X : Int) (hi : 1 ≤ i ∧ i ≤ 9 ∧ i ≤ n0 + 1) (hn : 9 < i + n) (hX : -(10000 * ((i : Int) - 1)) ≤ X ∧ X ≤ 100) (hT : toF X = NT (B (5 + 2 * s0)) (B (6 + 2 * s0)) (a s0) n0 i) (H : Heap) (locs : List Loc), va_P D vwCl (EW h qb qr d (B, g)) H → va_D A (EW h qb qr d (B, g)) → va_S A s.heap H locs → ∀ ls : Array Slot, lv_has ls 5 [(0, .ref h), (1, .int (iI ((s0 : Int)))), (2, .int (iI ((n0 : Int)))), (3, .int (iI (X))), (4, .int (iI ((i : Int))))] → W p l e (rK 1 21) s m args below meth c H locs 0 0 Q (F0 m 28 ls []) := by
      intro n
      induction n with
      | zero =>
        intro i X hi hn hX hT
        exfalso
        omega
      | succ n ih_28 =>
        intro i X hi hn hX hT H locs hP hD hS ls hl
        refine lv_iload hx hb dX0_nextTerm_28 (lv_at hl 4 rfl) ?_
        refine x_bipush hx hb dX0_nextTerm_30 (by decide) ?_
        refine x_icmp_gt (tgt := 78) hx hb (by omega) dX0_nextTerm_32 (by decide) (fun c_32 => ?_) (fun c_32 => ?_)
        · -- t 78
          have hfin : toF X = a s0 n0 := by rw [hT]; exact nt_end (hG s0 hs04).1.1 (hG s0 hs04).1.2.1 (van_mono (hG s0 hs04).1.2.2.2.1 (by have := (hG s0 hs04).2; omega)) (by omega)
          refine lv_iload_n hx hb dX0_nextTerm_78 rfl (lv_at hl 3 rfl) ?_
          refine s_calli ⟨hx, hb, hml, hown, hts⟩ (metX0_mod l X (by omega)) (va_cwS 1 hts (lw_S q63 q64 q33 q65) rfl rfl rfl (by decide +kernel) ⟨Nat.le_of_ble_eq_true rfl, Nat.le_of_ble_eq_true rfl⟩) hA hP hS rfl hl.1 rfl (Nat.le_of_ble_eq_true rfl) dX0_nextTerm_79 ⟨Nat.zero_le _, Nat.zero_le _⟩ (fun r H locs hq hP hS => ?_)
          obtain rfl := hq
          exact hret _ _ H locs _ _ (⟨by rw [hfin], rfl⟩) hP hD hS dX0_nextTerm_82
        · -- f 35
          refine lv_iload hx hb dX0_nextTerm_35 (lv_at hl 4 rfl) ?_
          refine lv_iload_n hx hb dX0_nextTerm_37 rfl (lv_at hl 2 rfl) ?_
          refine x_icmp_gt (tgt := 78) hx hb (by omega) dX0_nextTerm_38 (by decide) (fun c_38 => ?_) (fun c_38 => ?_)
          · -- t 78
            have hfin : toF X = a s0 n0 := by rw [hT]; exact nt_end (hG s0 hs04).1.1 (hG s0 hs04).1.2.1 (van_mono (hG s0 hs04).1.2.2.2.1 (by have := (hG s0 hs04).2; omega)) (by omega)
            refine lv_iload_n hx hb dX0_nextTerm_78 rfl (lv_at hl 3 rfl) ?_
            refine s_calli ⟨hx, hb, hml, hown, hts⟩ (metX0_mod l X (by omega)) (va_cwS 1 hts (lw_S q63 q64 q33 q65) rfl rfl rfl (by decide +kernel) ⟨Nat.le_of_ble_eq_true rfl, Nat.le_of_ble_eq_true rfl⟩) hA hP hS rfl hl.1 rfl (Nat.le_of_ble_eq_true rfl) dX0_nextTerm_79 ⟨Nat.zero_le _, Nat.zero_le _⟩ (fun r H locs hq hP hS => ?_)
            obtain rfl := hq
            exact hret _ _ H locs _ _ (⟨by rw [hfin], rfl⟩) hP hD hS dX0_nextTerm_82
          · -- f 41
            refine lv_iload_n hx hb dX0_nextTerm_41 rfl (lv_at hl 3 rfl) ?_
            refine lv_aload_n hx hb dX0_nextTerm_42 rfl (lv_at hl 0 rfl) ?_
            refine e_getb hx hb hts hown hK hP dX0_nextTerm_43 ?_
            refine lv_iload_n hx hb dX0_nextTerm_46 rfl (lv_at hl 1 rfl) ?_
            refine s_calli ⟨hx, hb, hml, hown, hts⟩ (metX0_bottom l s0) (va_cwS 1 hts (lw_S q112 q113 q33 q114) rfl rfl rfl (by decide +kernel) ⟨Nat.le_of_ble_eq_true rfl, Nat.le_of_ble_eq_true rfl⟩) hA hP hS rfl hl.1 rfl (Nat.le_of_ble_eq_true rfl) dX0_nextTerm_47 ⟨Nat.zero_le _, Nat.zero_le _⟩ (fun r H locs hq hP hS => ?_)
            obtain rfl := hq
            refine x_bipush hx hb dX0_nextTerm_50 (by decide) ?_
            refine x_imul hx hb dX0_nextTerm_52 ?_
            refine lv_iload hx hb dX0_nextTerm_53 (lv_at hl 4 rfl) ?_
            refine x_iadd hx hb dX0_nextTerm_55 ?_
            refine e_bld hx hb hK hP (6 + 2 * s0) (i) (by omega) dX0_nextTerm_56 ?_
            refine lv_aload_n hx hb dX0_nextTerm_57 rfl (lv_at hl 0 rfl) ?_
            refine e_getr hx hb hts hown hK hP dX0_nextTerm_58 ?_
            refine lv_iload_n hx hb dX0_nextTerm_61 rfl (lv_at hl 2 rfl) ?_
            refine lv_iload hx hb dX0_nextTerm_62 (lv_at hl 4 rfl) ?_
            refine x_isub hx hb dX0_nextTerm_64 ?_
            refine x_bipush hx hb dX0_nextTerm_65 (by decide) ?_
            refine x_iand hx hb (n0 - i) 3 (by decide) (by omega) dX0_nextTerm_67 ?_
            refine e_rld hx hb hK hP ((n0 - i) % 2 ^ 3) (by omega) dX0_nextTerm_68 ?_
            refine x_imul hx hb dX0_nextTerm_69 ?_
            refine x_isub hx hb dX0_nextTerm_70 ?_
            refine lv_istore_n (lv' := [(3, .int (iI ((X - (((B (6 + 2 * s0) (i)).val : Int) * ((g ((n0 - i) % 2 ^ 3)).val : Int)))))), (0, .ref h), (1, .int (iI ((s0 : Int)))), (2, .int (iI ((n0 : Int)))), (4, .int (iI ((i : Int))))]) hx hb dX0_nextTerm_71 rfl hl (by decide) rfl (fun ls hl => ?_)
            refine x_iinc (v := ((i + 1 : Nat) : Int)) (lv' := [(4, .int (iI (((i + 1 : Nat) : Int)))), (3, .int (iI ((X - (((B (6 + 2 * s0) (i)).val : Int) * ((g ((n0 - i) % 2 ^ 3)).val : Int)))))), (0, .ref h), (1, .int (iI ((s0 : Int)))), (2, .int (iI ((n0 : Int))))]) hx hb dX0_nextTerm_72 hl (k := 4) rfl (by omega) (by decide) rfl (fun ls hl => ?_)
            refine lv_goto (tgt := 28) hx hb dX0_nextTerm_75 (by decide) ?_
            exact ih_28 (i + 1) (X - ((B (6 + 2 * s0) i).val : Int) * ((g ((n0 - i) % 2 ^ 3)).val : Int)) (by omega) (by omega) (by have := fp_mul_lt (B (6 + 2 * s0) i) (g ((n0 - i) % 2 ^ 3)); omega) (nt_s (by omega) hT rfl (hRec i (by omega) (by omega) (by omega))) H locs hP hD hS ls (lv_sub hl [2, 3, 4, 1, 0] rfl)
    exact lp_28 9 1 0 (by omega) (by omega) (by omega) (nt_0 (by rw [(hG s0 hs04).1.2.2.1 n0 (by have := (hG s0 hs04).2; omega)]; rfl)) H locs hP hD hS ls (lv_sub hl [2, 3, 4, 1, 0] rfl)
  · -- f 6
    refine lv_aload_n hx hb dX0_nextTerm_6 rfl (lv_at hl 0 rfl) ?_
    refine e_getb hx hb hts hown hK hP dX0_nextTerm_7 ?_
    refine lv_iload_n hx hb dX0_nextTerm_10 rfl (lv_at hl 1 rfl) ?_
    refine s_calli ⟨hx, hb, hml, hown, hts⟩ (metX0_top l s0) (va_cwS 1 hts (lw_S q109 q110 q33 q111) rfl rfl rfl (by decide +kernel) ⟨Nat.le_of_ble_eq_true rfl, Nat.le_of_ble_eq_true rfl⟩) hA hP hS rfl hl.1 rfl (Nat.le_of_ble_eq_true rfl) dX0_nextTerm_11 ⟨Nat.zero_le _, Nat.zero_le _⟩ (fun r H locs hq hP hS => ?_)
    obtain rfl := hq
    refine x_bipush hx hb dX0_nextTerm_14 (by decide) ?_
    refine x_imul hx hb dX0_nextTerm_16 ?_
    refine lv_iload_n hx hb dX0_nextTerm_17 rfl (lv_at hl 2 rfl) ?_
    refine x_iadd hx hb dX0_nextTerm_18 ?_
    refine e_bld hx hb hK hP (5 + 2 * s0) (n0) (by omega) dX0_nextTerm_19 ?_
    refine lv_goto (tgt := 24) hx hb dX0_nextTerm_20 (by decide) ?_
    refine lv_istore_n (lv' := [(3, .int (iI (((B (5 + 2 * s0) (n0)).val : Int)))), (0, .ref h), (1, .int (iI ((s0 : Int)))), (2, .int (iI ((n0 : Int))))]) hx hb dX0_nextTerm_24 rfl hl (by decide) rfl (fun ls hl => ?_)
    refine x_iconst hx hb dX0_nextTerm_25 ?_
    refine lv_istore (lv' := [(4, .int (iI (1))), (3, .int (iI (((B (5 + 2 * s0) (n0)).val : Int)))), (0, .ref h), (1, .int (iI ((s0 : Int)))), (2, .int (iI ((n0 : Int))))]) hx hb dX0_nextTerm_26 hl (by decide) rfl (fun ls hl => ?_)
    have lp_28 : ∀ (n : Nat) (i : Nat) (X : Int) (hi : 1 ≤ i ∧ i ≤ 9 ∧ i ≤ n0 + 1) (hn : 9 < i + n) (hX : -(10000 * ((i : Int) - 1)) ≤ X ∧ X ≤ 100) (hT : toF X = NT (B (5 + 2 * s0)) (B (6 + 2 * s0)) (a s0) n0 i) (H : Heap) (locs : List Loc), va_P D vwCl (EW h qb qr d (B, g)) H → va_D A (EW h qb qr d (B, g)) → va_S A s.heap H locs → ∀ ls : Array Slot, lv_has ls 5 [(0, .ref h), (1, .int (iI ((s0 : Int)))), (2, .int (iI ((n0 : Int)))), (3, .int (iI (X))), (4, .int (iI ((i : Int))))] → W p l e (rK 1 21) s m args below meth c H locs 0 0 Q (F0 m 28 ls []) := by
      intro n
      induction n with
      | zero =>
        intro i X hi hn hX hT
        exfalso
        omega
      | succ n ih_28 =>
        intro i X hi hn hX hT H locs hP hD hS ls hl
        refine lv_iload hx hb dX0_nextTerm_28 (lv_at hl 4 rfl) ?_
        refine x_bipush hx hb dX0_nextTerm_30 (by decide) ?_
        refine x_icmp_gt (tgt := 78) hx hb (by omega) dX0_nextTerm_32 (by decide) (fun c_32 => ?_) (fun c_32 => ?_)
        · -- t 78
          have hfin : toF X = a s0 n0 := by rw [hT]; exact nt_end (hG s0 hs04).1.1 (hG s0 hs04).1.2.1 (van_mono (hG s0 hs04).1.2.2.2.1 (by have := (hG s0 hs04).2; omega)) (by omega)
          refine lv_iload_n hx hb dX0_nextTerm_78 rfl (lv_at hl 3 rfl) ?_
          refine s_calli ⟨hx, hb, hml, hown, hts⟩ (metX0_mod l X (by omega)) (va_cwS 1 hts (lw_S q63 q64 q33 q65) rfl rfl rfl (by decide +kernel) ⟨Nat.le_of_ble_eq_true rfl, Nat.le_of_ble_eq_true rfl⟩) hA hP hS rfl hl.1 rfl (Nat.le_of_ble_eq_true rfl) dX0_nextTerm_79 ⟨Nat.zero_le _, Nat.zero_le _⟩ (fun r H locs hq hP hS => ?_)
          obtain rfl := hq
          exact hret _ _ H locs _ _ (⟨by rw [hfin], rfl⟩) hP hD hS dX0_nextTerm_82
        · -- f 35
          refine lv_iload hx hb dX0_nextTerm_35 (lv_at hl 4 rfl) ?_
          refine lv_iload_n hx hb dX0_nextTerm_37 rfl (lv_at hl 2 rfl) ?_
          refine x_icmp_gt (tgt := 78) hx hb (by omega) dX0_nextTerm_38 (by decide) (fun c_38 => ?_) (fun c_38 => ?_)
          · -- t 78
            have hfin : toF X = a s0 n0 := by rw [hT]; exact nt_end (hG s0 hs04).1.1 (hG s0 hs04).1.2.1 (van_mono (hG s0 hs04).1.2.2.2.1 (by have := (hG s0 hs04).2; omega)) (by omega)
            refine lv_iload_n hx hb dX0_nextTerm_78 rfl (lv_at hl 3 rfl) ?_
            refine s_calli ⟨hx, hb, hml, hown, hts⟩ (metX0_mod l X (by omega)) (va_cwS 1 hts (lw_S q63 q64 q33 q65) rfl rfl rfl (by decide +kernel) ⟨Nat.le_of_ble_eq_true rfl, Nat.le_of_ble_eq_true rfl⟩) hA hP hS rfl hl.1 rfl (Nat.le_of_ble_eq_true rfl) dX0_nextTerm_79 ⟨Nat.zero_le _, Nat.zero_le _⟩ (fun r H locs hq hP hS => ?_)
            obtain rfl := hq
            exact hret _ _ H locs _ _ (⟨by rw [hfin], rfl⟩) hP hD hS dX0_nextTerm_82
          · -- f 41
            refine lv_iload_n hx hb dX0_nextTerm_41 rfl (lv_at hl 3 rfl) ?_
            refine lv_aload_n hx hb dX0_nextTerm_42 rfl (lv_at hl 0 rfl) ?_
            refine e_getb hx hb hts hown hK hP dX0_nextTerm_43 ?_
            refine lv_iload_n hx hb dX0_nextTerm_46 rfl (lv_at hl 1 rfl) ?_
            refine s_calli ⟨hx, hb, hml, hown, hts⟩ (metX0_bottom l s0) (va_cwS 1 hts (lw_S q112 q113 q33 q114) rfl rfl rfl (by decide +kernel) ⟨Nat.le_of_ble_eq_true rfl, Nat.le_of_ble_eq_true rfl⟩) hA hP hS rfl hl.1 rfl (Nat.le_of_ble_eq_true rfl) dX0_nextTerm_47 ⟨Nat.zero_le _, Nat.zero_le _⟩ (fun r H locs hq hP hS => ?_)
            obtain rfl := hq
            refine x_bipush hx hb dX0_nextTerm_50 (by decide) ?_
            refine x_imul hx hb dX0_nextTerm_52 ?_
            refine lv_iload hx hb dX0_nextTerm_53 (lv_at hl 4 rfl) ?_
            refine x_iadd hx hb dX0_nextTerm_55 ?_
            refine e_bld hx hb hK hP (6 + 2 * s0) (i) (by omega) dX0_nextTerm_56 ?_
            refine lv_aload_n hx hb dX0_nextTerm_57 rfl (lv_at hl 0 rfl) ?_
            refine e_getr hx hb hts hown hK hP dX0_nextTerm_58 ?_
            refine lv_iload_n hx hb dX0_nextTerm_61 rfl (lv_at hl 2 rfl) ?_
            refine lv_iload hx hb dX0_nextTerm_62 (lv_at hl 4 rfl) ?_
            refine x_isub hx hb dX0_nextTerm_64 ?_
            refine x_bipush hx hb dX0_nextTerm_65 (by decide) ?_
            refine x_iand hx hb (n0 - i) 3 (by decide) (by omega) dX0_nextTerm_67 ?_
            refine e_rld hx hb hK hP ((n0 - i) % 2 ^ 3) (by omega) dX0_nextTerm_68 ?_
            refine x_imul hx hb dX0_nextTerm_69 ?_
            refine x_isub hx hb dX0_nextTerm_70 ?_
            refine lv_istore_n (lv' := [(3, .int (iI ((X - (((B (6 + 2 * s0) (i)).val : Int) * ((g ((n0 - i) % 2 ^ 3)).val : Int)))))), (0, .ref h), (1, .int (iI ((s0 : Int)))), (2, .int (iI ((n0 : Int)))), (4, .int (iI ((i : Int))))]) hx hb dX0_nextTerm_71 rfl hl (by decide) rfl (fun ls hl => ?_)
            refine x_iinc (v := ((i + 1 : Nat) : Int)) (lv' := [(4, .int (iI (((i + 1 : Nat) : Int)))), (3, .int (iI ((X - (((B (6 + 2 * s0) (i)).val : Int) * ((g ((n0 - i) % 2 ^ 3)).val : Int)))))), (0, .ref h), (1, .int (iI ((s0 : Int)))), (2, .int (iI ((n0 : Int))))]) hx hb dX0_nextTerm_72 hl (k := 4) rfl (by omega) (by decide) rfl (fun ls hl => ?_)
            refine lv_goto (tgt := 28) hx hb dX0_nextTerm_75 (by decide) ?_
            exact ih_28 (i + 1) (X - ((B (6 + 2 * s0) i).val : Int) * ((g ((n0 - i) % 2 ^ 3)).val : Int)) (by omega) (by omega) (by have := fp_mul_lt (B (6 + 2 * s0) i) (g ((n0 - i) % 2 ^ 3)); omega) (nt_s (by omega) hT rfl (hRec i (by omega) (by omega) (by omega))) H locs hP hD hS ls (lv_sub hl [2, 3, 4, 1, 0] rfl)
    exact lp_28 9 1 ((B (5 + 2 * s0) n0).val : Int) (by omega) (by omega) (by omega) (nt_0 (toF_of _)) H locs hP hD hS ls (lv_sub hl [2, 3, 4, 1, 0] rfl)
abbrev wsX0_find : List Cond := ws_ yX0_find cX0_find 6 (some .int)
set_option maxHeartbeats 4000000 in
set_option maxRecDepth 100000 in
/-- find(s, value) -/
theorem metX0_find (l : Launch) (D : va_G) (d : ClassId) (h qb qr : Nat) (B : Nat → Sr) (g : Sr) (a : Nat → Sr) (Ls : Nat → Nat) (hG : GInv B a Ls) (z1 : Int) (hz1 : -2147483648 ≤ z1 ∧ z1 < 2147483648) (z2 : Int) (hz2 : -2147483648 ≤ z2 ∧ z2 < 2147483648) : gMi l yX0_find wsX0_find (rK 6 150) D d (EW h qb qr d) (B, g) h [.int (iI (z1)), .int (iI (z2))] (fun r u => ∃ g1, u = (B, g1) ∧ (((z1 < 0 ∨ 3 < z1) ∧ r = iI (-1)) ∨ (∃ s0 : Nat, s0 < 4 ∧ z1 = (s0 : Int) ∧ r = iI (fnd (a s0) (toF z2) 401 0)))) := by
  refine g_entryi (by decide) (Nat.le_of_ble_eq_true rfl) ?_
  intro p e s m args below meth c A Q hx hb hml hown hts hK hA hret H locs hP hD hS ls hl
  have hl : lv_has ls 6 [(0, .ref h), (1, .int (iI (z1))), (2, .int (iI (z2)))] := hl
  refine lv_iload_n hx hb dX0_find_0 rfl (lv_at hl 1 rfl) ?_
  refine s_calli ⟨hx, hb, hml, hown, hts⟩ (metX0_bad l z1 hz1) (va_cwS 1 hts (lw_S q55 q56 q33 q57) rfl rfl rfl (by decide +kernel) ⟨Nat.le_of_ble_eq_true rfl, Nat.le_of_ble_eq_true rfl⟩) hA hP hS rfl hl.1 rfl (Nat.le_of_ble_eq_true rfl) dX0_find_1 ⟨Nat.zero_le _, Nat.zero_le _⟩ (fun r H locs hq hP hS => ?_)
  obtain rfl := hq
  refine x_if_eq (tgt := 9) hx hb (by have := bd_bd z1; omega) dX0_find_4 (by decide) (fun c_4 => ?_) (fun c_4 => ?_)
  · -- t 9
    obtain ⟨s0, rfl⟩ : ∃ q : Nat, z1 = (q : Int) := ⟨z1.toNat, by have := bd_y (by assumption : bd z1 = 0); omega⟩
    have hs04 : s0 < 4 := by have := bd_y (by assumption : bd (s0 : Int) = 0); omega
    refine lv_iload_n hx hb dX0_find_9 rfl (lv_at hl 2 rfl) ?_
    refine s_calli ⟨hx, hb, hml, hown, hts⟩ (metX0_mod l z2 hz2) (va_cwS 1 hts (lw_S q63 q64 q33 q65) rfl rfl rfl (by decide +kernel) ⟨Nat.le_of_ble_eq_true rfl, Nat.le_of_ble_eq_true rfl⟩) hA hP hS rfl hl.1 rfl (Nat.le_of_ble_eq_true rfl) dX0_find_10 ⟨Nat.zero_le _, Nat.zero_le _⟩ (fun r H locs hq hP hS => ?_)
    obtain rfl := hq
    refine lv_istore_n (lv' := [(3, .int (iI (((toF z2).val : Int)))), (0, .ref h), (1, .int (iI ((s0 : Int)))), (2, .int (iI (z2)))]) hx hb dX0_find_13 rfl hl (by decide) rfl (fun ls hl => ?_)
    refine x_iconst hx hb dX0_find_14 ?_
    refine lv_istore (lv' := [(4, .int (iI (0))), (3, .int (iI (((toF z2).val : Int)))), (0, .ref h), (1, .int (iI ((s0 : Int)))), (2, .int (iI (z2)))]) hx hb dX0_find_15 hl (by decide) rfl (fun ls hl => ?_)
    have lp_17 : ∀ (n : Nat) (n0 : Nat) (gc : Sr) (hi : n0 ≤ 401) (hn : 401 < n0 + n) (hR : Rec (a s0) n0 gc) (hF : fnd (a s0) (toF z2) (401 - n0) n0 = fnd (a s0) (toF z2) 401 0) (H : Heap) (locs : List Loc), va_P D vwCl (EW h qb qr d (B, gc)) H → va_D A (EW h qb qr d (B, gc)) → va_S A s.heap H locs → ∀ ls : Array Slot, lv_has ls 6 [(0, .ref h), (1, .int (iI ((s0 : Int)))), (3, .int (iI (((toF z2).val : Int)))), (4, .int (iI ((n0 : Int))))] → W p l e (rK 6 150) s m args below meth c H locs 0 0 Q (F0 m 17 ls []) := by
      intro n
      induction n with
      | zero =>
        intro n0 gc hi hn hR hF
        exfalso
        omega
      | succ n ih_17 =>
        intro n0 gc hi hn hR hF H locs hP hD hS ls hl
        refine lv_iload hx hb dX0_find_17 (lv_at hl 3 rfl) ?_
        refine x_sipush hx hb dX0_find_19 (by decide) ?_
        refine x_icmp_gt (tgt := 61) hx hb (by omega) dX0_find_22 (by decide) (fun c_22 => ?_) (fun c_22 => ?_)
        · -- t 61
          refine x_bipush hx hb dX0_find_61 (by decide) ?_
          have h401 : n0 = 401 := by omega
          rw [h401] at hF
          exact hret _ _ H locs _ _ (⟨gc, rfl, Or.inr ⟨s0, hs04, rfl, by rw [← hF]; rfl⟩⟩) hP hD hS dX0_find_63
        · -- f 25
          refine lv_aload_n hx hb dX0_find_25 rfl (lv_at hl 0 rfl) ?_
          refine lv_iload_n hx hb dX0_find_26 rfl (lv_at hl 1 rfl) ?_
          refine lv_iload hx hb dX0_find_27 (lv_at hl 3 rfl) ?_
          refine g_calli ⟨hx, hb, hml, hown, hts⟩ (metX0_nextTerm l D d h qb qr B gc a Ls hG s0 n0 hs04 (by omega) hR) (cwV 2 hts (lw_V q187 q189 qs17 q33 q190) rfl rfl rfl (by decide +kernel) ⟨Nat.le_of_ble_eq_true rfl, Nat.le_of_ble_eq_true rfl⟩) (va_recv hK hP (ci := 0) (q0 := 0) rfl rfl) hK hA hP hD hS rfl hl.1 rfl (Nat.le_of_ble_eq_true rfl) dX0_find_29 ⟨Nat.zero_le _, Nat.zero_le _⟩ (fun r u H locs hq hP hD hS => ?_)
          obtain ⟨rfl, rfl⟩ := hq
          refine lv_istore (lv' := [(5, .int (iI (((a s0 n0).val : Int)))), (0, .ref h), (1, .int (iI ((s0 : Int)))), (3, .int (iI (((toF z2).val : Int)))), (4, .int (iI ((n0 : Int))))]) hx hb dX0_find_32 hl (by decide) rfl (fun ls hl => ?_)
          refine lv_iload hx hb dX0_find_34 (lv_at hl 0 rfl) ?_
          refine lv_iload_n hx hb dX0_find_36 rfl (lv_at hl 3 rfl) ?_
          refine x_icmp_ne (tgt := 43) hx hb (by omega) dX0_find_37 (by decide) (fun c_37 => ?_) (fun c_37 => ?_)
          · -- t 43
            refine lv_aload_n hx hb dX0_find_43 rfl (lv_at hl 1 rfl) ?_
            refine e_getr hx hb hts hown hK hP dX0_find_44 ?_
            refine lv_iload hx hb dX0_find_47 (lv_at hl 4 rfl) ?_
            refine x_bipush hx hb dX0_find_49 (by decide) ?_
            refine x_iand hx hb n0 3 (by decide) (by omega) dX0_find_51 ?_
            refine lv_iload hx hb dX0_find_52 (lv_at hl 0 rfl) ?_
            refine e_rst hx hb hK hP hD hS (n0 % 2 ^ 3) (a s0 n0) (rfl) (by omega) dX0_find_54 (fun H locs hP hD hS => ?_)
            obtain ⟨g1, eg1⟩ : ∃ z, z = setS gc (n0 % 2 ^ 3) (a s0 n0) := ⟨_, rfl⟩
            rw [← eg1] at hP hD
            refine x_iinc (v := ((n0 + 1 : Nat) : Int)) (lv' := [(4, .int (iI (((n0 + 1 : Nat) : Int)))), (5, .int (iI (((a s0 n0).val : Int)))), (0, .ref h), (1, .int (iI ((s0 : Int)))), (3, .int (iI (((toF z2).val : Int))))]) hx hb dX0_find_55 hl (k := 4) rfl (by omega) (by decide) rfl (fun ls hl => ?_)
            refine lv_goto (tgt := 17) hx hb dX0_find_58 (by decide) ?_
            exact ih_17 (n0 + 1) g1 (by omega) (by omega) (by rw [eg1]; exact rec_s hR) (by rw [← fnd_n (by omega) (fun q => c_37 (by rw [q])), hF]) H locs hP hD hS ls (lv_sub hl [2, 3, 4, 0] rfl)
          · -- f 40
            refine lv_iload hx hb dX0_find_40 (lv_at hl 4 rfl) ?_
            exact hret _ _ H locs _ _ (⟨gc, rfl, Or.inr ⟨s0, hs04, rfl, by rw [← hF, fnd_y (by omega) (fp_ext c_37)]⟩⟩) hP hD hS dX0_find_42
    exact lp_17 402 0 g (by omega) (by omega) (rec_0 _ _) rfl H locs hP hD hS ls (lv_sub hl [2, 3, 1, 0] rfl)
  · -- f 7
    have hbadz1 := bd_n (by assumption : ¬ bd z1 = 0)
    refine x_iconst hx hb dX0_find_7 ?_
    exact hret _ _ H locs _ _ (⟨g, rfl, Or.inl ⟨hbadz1, rfl⟩⟩) hP hD hS dX0_find_8
end
section
/-! RecurrenceEngineModel: numbers, terms, elimination -/
set_option maxRecDepth 100000
theorem piv_s {M : Nat → Sr} {fr cl i : Nat} (h : ∀ j, fr ≤ j → j < i → M j cl = 0) (hi : M i cl = 0) : ∀ j, fr ≤ j → j < i + 1 → M j cl = 0 := by
  intro j h1 h2
  by_cases e : j = i
  · rw [e]; exact hi
  · exact h j h1 (by omega)
abbrev wsX1_bad : List Cond := ws_ yX1_bad cX1_bad 2 (some .boolean)
set_option maxHeartbeats 4000000 in
set_option maxRecDepth 100000 in
/-- bad(z) -/
theorem metX1_bad (l : Launch) (D : va_G) (d : ClassId) (h qt qw qm qf : Nat) (T : Nat → Sr) (w : Sr) (M : Nat → Sr) (f : Sr) (z : Int) (hz : -2147483648 ≤ z ∧ z < 2147483648) : gMi l yX1_bad wsX1_bad (rK 0 0) D d (MW h qt qw qm qf d) (T, w, M, f) h [.int (iI (z))] (fun r u => r = iI (bd z) ∧ u = (T, w, M, f)) := by
  refine g_entryz (by decide) (Nat.le_of_ble_eq_true rfl) ?_
  intro p e s m args below meth c A Q hx hb hml hown hts hK hA hret H locs hP hD hS ls hl
  have hl : lv_has ls 2 [(0, .ref h), (1, .int (iI (z)))] := hl
  refine lv_iload_n hx hb dX1_bad_0 rfl (lv_at hl 1 rfl) ?_
  refine x_if_lt (tgt := 9) hx hb (by omega) dX1_bad_1 (by decide) (fun c_1 => ?_) (fun c_1 => ?_)
  · -- t 9
    refine x_iconst hx hb dX1_bad_9 ?_
    refine lv_goto (tgt := 14) hx hb dX1_bad_10 (by decide) ?_
    exact hret _ _ H locs _ _ rfl (⟨by rw [bd_1 (by omega)], rfl⟩) hP hD hS dX1_bad_14
  · -- f 4
    refine lv_iload_n hx hb dX1_bad_4 rfl (lv_at hl 1 rfl) ?_
    refine x_iconst hx hb dX1_bad_5 ?_
    refine x_icmp_le (tgt := 13) hx hb (by omega) dX1_bad_6 (by decide) (fun c_6 => ?_) (fun c_6 => ?_)
    · -- t 13
      refine x_iconst hx hb dX1_bad_13 ?_
      exact hret _ _ H locs _ _ rfl (⟨by rw [bd_0 (by omega)], rfl⟩) hP hD hS dX1_bad_14
    · -- f 9
      refine x_iconst hx hb dX1_bad_9 ?_
      refine lv_goto (tgt := 14) hx hb dX1_bad_10 (by decide) ?_
      exact hret _ _ H locs _ _ rfl (⟨by rw [bd_1 (by omega)], rfl⟩) hP hD hS dX1_bad_14
abbrev wsX1_badIndex : List Cond := ws_ yX1_badIndex cX1_badIndex 2 (some .boolean)
set_option maxHeartbeats 4000000 in
set_option maxRecDepth 100000 in
/-- badIndex(z) -/
theorem metX1_badIndex (l : Launch) (D : va_G) (d : ClassId) (h qt qw qm qf : Nat) (T : Nat → Sr) (w : Sr) (M : Nat → Sr) (f : Sr) (z : Int) (hz : -2147483648 ≤ z ∧ z < 2147483648) : gMi l yX1_badIndex wsX1_badIndex (rK 0 0) D d (MW h qt qw qm qf d) (T, w, M, f) h [.int (iI (z))] (fun r u => r = iI (bi z) ∧ u = (T, w, M, f)) := by
  refine g_entryz (by decide) (Nat.le_of_ble_eq_true rfl) ?_
  intro p e s m args below meth c A Q hx hb hml hown hts hK hA hret H locs hP hD hS ls hl
  have hl : lv_has ls 2 [(0, .ref h), (1, .int (iI (z)))] := hl
  refine lv_iload_n hx hb dX1_badIndex_0 rfl (lv_at hl 1 rfl) ?_
  refine x_if_lt (tgt := 11) hx hb (by omega) dX1_badIndex_1 (by decide) (fun c_1 => ?_) (fun c_1 => ?_)
  · -- t 11
    refine x_iconst hx hb dX1_badIndex_11 ?_
    refine lv_goto (tgt := 16) hx hb dX1_badIndex_12 (by decide) ?_
    exact hret _ _ H locs _ _ rfl (⟨by rw [bi_1 (by omega)], rfl⟩) hP hD hS dX1_badIndex_16
  · -- f 4
    refine lv_iload_n hx hb dX1_badIndex_4 rfl (lv_at hl 1 rfl) ?_
    refine x_sipush hx hb dX1_badIndex_5 (by decide) ?_
    refine x_icmp_le (tgt := 15) hx hb (by omega) dX1_badIndex_8 (by decide) (fun c_8 => ?_) (fun c_8 => ?_)
    · -- t 15
      refine x_iconst hx hb dX1_badIndex_15 ?_
      exact hret _ _ H locs _ _ rfl (⟨by rw [bi_0 (by omega)], rfl⟩) hP hD hS dX1_badIndex_16
    · -- f 11
      refine x_iconst hx hb dX1_badIndex_11 ?_
      refine lv_goto (tgt := 16) hx hb dX1_badIndex_12 (by decide) ?_
      exact hret _ _ H locs _ _ rfl (⟨by rw [bi_1 (by omega)], rfl⟩) hP hD hS dX1_badIndex_16
abbrev wsX1_mod : List Cond := ws_ yX1_mod cX1_mod 3 (some .int)
set_option maxHeartbeats 4000000 in
set_option maxRecDepth 100000 in
/-- mod(z) -/
theorem metX1_mod (l : Launch) (D : va_G) (d : ClassId) (h qt qw qm qf : Nat) (T : Nat → Sr) (w : Sr) (M : Nat → Sr) (f : Sr) (z : Int) (hz : -2147483648 ≤ z ∧ z < 2147483648) : gMi l yX1_mod wsX1_mod (rK 0 0) D d (MW h qt qw qm qf d) (T, w, M, f) h [.int (iI (z))] (fun r u => r = iI ((toF z).val : Int) ∧ u = (T, w, M, f)) := by
  refine g_entryi (by decide) (Nat.le_of_ble_eq_true rfl) ?_
  intro p e s m args below meth c A Q hx hb hml hown hts hK hA hret H locs hP hD hS ls hl
  have hl : lv_has ls 3 [(0, .ref h), (1, .int (iI (z)))] := hl
  have ht := tmod_101 z
  rw [← toF_val] at ht
  have hb1 : -101 < z.tmod 101 ∧ z.tmod 101 < 101 := ⟨Int.lt_tmod_of_pos z (by decide), Int.tmod_lt_of_pos z (by decide)⟩
  refine lv_iload_n hx hb dX1_mod_0 rfl (lv_at hl 1 rfl) ?_
  refine x_bipush hx hb dX1_mod_1 (by decide) ?_
  refine x_iremT hx hb (by omega) dX1_mod_3 ?_
  refine lv_istore_n (lv' := [(2, .int (iI ((Int.tmod z 101)))), (0, .ref h), (1, .int (iI (z)))]) hx hb dX1_mod_4 rfl hl (by decide) rfl (fun ls hl => ?_)
  refine lv_iload_n hx hb dX1_mod_5 rfl (lv_at hl 0 rfl) ?_
  refine x_if_ge (tgt := 16) hx hb (by omega) dX1_mod_6 (by decide) (fun c_6 => ?_) (fun c_6 => ?_)
  · -- t 16
    refine lv_iload_n hx hb dX1_mod_16 rfl (lv_at hl 0 rfl) ?_
    exact hret _ _ H locs _ _ (⟨by rw [← ht, if_neg (by omega)], rfl⟩) hP hD hS dX1_mod_17
  · -- f 9
    refine lv_iload_n hx hb dX1_mod_9 rfl (lv_at hl 0 rfl) ?_
    refine x_bipush hx hb dX1_mod_10 (by decide) ?_
    refine x_iadd hx hb dX1_mod_12 ?_
    refine lv_goto (tgt := 17) hx hb dX1_mod_13 (by decide) ?_
    exact hret _ _ H locs _ _ (⟨by rw [← ht, if_pos (by omega)], rfl⟩) hP hD hS dX1_mod_17
abbrev wsX1_inverse : List Cond := ws_ yX1_inverse cX1_inverse 3 (some .int)
set_option maxHeartbeats 4000000 in
set_option maxRecDepth 100000 in
/-- inverse(x) -/
theorem metX1_inverse (l : Launch) (D : va_G) (d : ClassId) (h qt qw qm qf : Nat) (T : Nat → Sr) (w : Sr) (M : Nat → Sr) (f : Sr) (x : Fp) (hx0 : x ≠ 0) : gMi l yX1_inverse wsX1_inverse (rK 0 0) D d (MW h qt qw qm qf d) (T, w, M, f) h [.int (iI ((x.val : Int)))] (fun r u => ∃ y : Fp, r = iI (y.val : Int) ∧ x * y = 1 ∧ u = (T, w, M, f)) := by
  refine g_entryi (by decide) (Nat.le_of_ble_eq_true rfl) ?_
  intro p e s m args below meth c A Q hx hb hml hown hts hK hA hret H locs hP hD hS ls hl
  have hl : lv_has ls 3 [(0, .ref h), (1, .int (iI ((x.val : Int))))] := hl
  refine x_iconst hx hb dX1_inverse_0 ?_
  refine lv_istore_n (lv' := [(2, .int (iI (1))), (0, .ref h), (1, .int (iI ((x.val : Int))))]) hx hb dX1_inverse_1 rfl hl (by decide) rfl (fun ls hl => ?_)
  have lp_2 : ∀ (n : Nat) (i : Nat) (hi : 1 ≤ i ∧ i ≤ 101) (hn : 101 < i + n) (hI : InvI x i) (H : Heap) (locs : List Loc), va_P D vwCl (MW h qt qw qm qf d (T, w, M, f)) H → va_D A (MW h qt qw qm qf d (T, w, M, f)) → va_S A s.heap H locs → ∀ ls : Array Slot, lv_has ls 3 [(0, .ref h), (1, .int (iI ((x.val : Int)))), (2, .int (iI ((i : Int))))] → W p l e (rK 0 0) s m args below meth c H locs 0 0 Q (F0 m 2 ls []) := by
    intro n
    induction n with
    | zero =>
      intro i hi hn hI
      exfalso
      omega
    | succ n ih_2 =>
      intro i hi hn hI H locs hP hD hS ls hl
      refine lv_iload_n hx hb dX1_inverse_2 rfl (lv_at hl 2 rfl) ?_
      refine x_bipush hx hb dX1_inverse_3 (by decide) ?_
      refine x_icmp_ge (tgt := 26) hx hb (by omega) dX1_inverse_5 (by decide) (fun c_5 => ?_) (fun c_5 => ?_)
      · -- t 26
        exact (inv_end hx0 (by omega) hI).elim
      · -- f 8
        refine lv_iload_n hx hb dX1_inverse_8 rfl (lv_at hl 1 rfl) ?_
        refine lv_iload_n hx hb dX1_inverse_9 rfl (lv_at hl 2 rfl) ?_
        refine x_imul hx hb dX1_inverse_10 ?_
        refine x_bipush hx hb dX1_inverse_11 (by decide) ?_
        refine x_irem hx hb (toF ((x.val : Int) * (i : Int))) (rfl) (x_bi (by omega)) dX1_inverse_13 ?_
        refine x_iconst hx hb dX1_inverse_14 ?_
        refine x_icmp_ne (tgt := 20) hx hb (by omega) dX1_inverse_15 (by decide) (fun c_15 => ?_) (fun c_15 => ?_)
        · -- t 20
          refine x_iinc (v := ((i + 1 : Nat) : Int)) (lv' := [(2, .int (iI (((i + 1 : Nat) : Int)))), (0, .ref h), (1, .int (iI ((x.val : Int))))]) hx hb dX1_inverse_20 hl (k := 2) rfl (by omega) (by decide) rfl (fun ls hl => ?_)
          refine lv_goto (tgt := 2) hx hb dX1_inverse_23 (by decide) ?_
          exact ih_2 (i + 1) (by omega) (by omega) (inv_s hI c_15) H locs hP hD hS ls (lv_sub hl [1, 2, 0] rfl)
        · -- f 18
          refine lv_iload_n hx hb dX1_inverse_18 rfl (lv_at hl 2 rfl) ?_
          obtain ⟨y, hy1, hy2⟩ := inv_yes (by omega) c_15
          rw [hy1]
          exact hret _ _ H locs _ _ (⟨y, rfl, hy2, rfl⟩) hP hD hS dX1_inverse_19
  exact lp_2 101 1 (by omega) (by omega) (inv_0 x) H locs hP hD hS ls (lv_sub hl [1, 2, 0] rfl)
abbrev wsX1_load : List Cond := ws_ yX1_load cX1_load 3 none
set_option maxHeartbeats 4000000 in
set_option maxRecDepth 100000 in
/-- load(s) -/
theorem metX1_load (l : Launch) (D : va_G) (d : ClassId) (h qt qw qm qf : Nat) (T : Nat → Sr) (w : Sr) (M : Nat → Sr) (f : Sr) (s0 : Nat) (hs : s0 < 4) : gMv l yX1_load wsX1_load (rK 0 0) D d (MW h qt qw qm qf d) (T, w, M, f) h [.int (iI ((s0 : Int)))] (fun u => ∃ w1, u = (T, w1, M, f) ∧ W32 w1 (T s0)) := by
  refine g_entryv (by decide) (Nat.le_of_ble_eq_true rfl) ?_
  intro p e s m args below meth c A Q hx hb hml hown hts hK hA hret H locs hP hD hS ls hl
  have hl : lv_has ls 3 [(0, .ref h), (1, .int (iI ((s0 : Int))))] := hl
  refine x_iconst hx hb dX1_load_0 ?_
  refine lv_istore_n (lv' := [(2, .int (iI (0))), (0, .ref h), (1, .int (iI ((s0 : Int))))]) hx hb dX1_load_1 rfl hl (by decide) rfl (fun ls hl => ?_)
  have lp_2 : ∀ (n : Nat) (i : Nat) (wc : Sr) (hi : i ≤ 32) (hn : 32 < i + n) (hI : WI wc (T s0) i) (H : Heap) (locs : List Loc), va_P D vwCl (MW h qt qw qm qf d (T, wc, M, f)) H → va_D A (MW h qt qw qm qf d (T, wc, M, f)) → va_S A s.heap H locs → ∀ ls : Array Slot, lv_has ls 3 [(0, .ref h), (1, .int (iI ((s0 : Int)))), (2, .int (iI ((i : Int))))] → W p l e (rK 0 0) s m args below meth c H locs 0 0 Q (F0 m 2 ls []) := by
    intro n
    induction n with
    | zero =>
      intro i wc hi hn hI
      exfalso
      omega
    | succ n ih_2 =>
      intro i wc hi hn hI H locs hP hD hS ls hl
      refine lv_iload_n hx hb dX1_load_2 rfl (lv_at hl 2 rfl) ?_
      refine x_bipush hx hb dX1_load_3 (by decide) ?_
      refine x_icmp_ge (tgt := 31) hx hb (by omega) dX1_load_5 (by decide) (fun c_5 => ?_) (fun c_5 => ?_)
      · -- t 31
        exact hret _ H locs _ _ (⟨wc, rfl, wi_32 hI (by omega)⟩) hP hD hS dX1_load_31
      · -- f 8
        refine lv_aload_n hx hb dX1_load_8 rfl (lv_at hl 0 rfl) ?_
        refine m_getw hx hb hts hown hK hP dX1_load_9 ?_
        refine lv_iload_n hx hb dX1_load_12 rfl (lv_at hl 2 rfl) ?_
        refine lv_aload_n hx hb dX1_load_13 rfl (lv_at hl 0 rfl) ?_
        refine m_gett hx hb hts hown hK hP dX1_load_14 ?_
        refine lv_iload_n hx hb dX1_load_17 rfl (lv_at hl 1 rfl) ?_
        refine x_bipush hx hb dX1_load_18 (by decide) ?_
        refine x_imul hx hb dX1_load_20 ?_
        refine lv_iload_n hx hb dX1_load_21 rfl (lv_at hl 2 rfl) ?_
        refine x_iadd hx hb dX1_load_22 ?_
        refine m_tld hx hb hK hP (s0) (i) (by omega) dX1_load_23 ?_
        refine m_wst hx hb hK hP hD hS (i) (T s0 i) (rfl) (by omega) dX1_load_24 (fun H locs hP hD hS => ?_)
        obtain ⟨w1, ew1⟩ : ∃ z, z = setS wc (i) (T s0 i) := ⟨_, rfl⟩
        rw [← ew1] at hP hD
        refine x_iinc (v := ((i + 1 : Nat) : Int)) (lv' := [(2, .int (iI (((i + 1 : Nat) : Int)))), (0, .ref h), (1, .int (iI ((s0 : Int))))]) hx hb dX1_load_25 hl (k := 2) rfl (by omega) (by decide) rfl (fun ls hl => ?_)
        refine lv_goto (tgt := 2) hx hb dX1_load_28 (by decide) ?_
        exact ih_2 (i + 1) w1 (by omega) (by omega) (wi_s hI ew1 rfl) H locs hP hD hS ls (lv_sub hl [1, 2, 0] rfl)
  exact lp_2 33 0 w (by omega) (by omega) (wi_0 _ _) H locs hP hD hS ls (lv_sub hl [1, 2, 0] rfl)
abbrev wsX1_store : List Cond := ws_ yX1_store cX1_store 3 none
set_option maxHeartbeats 4000000 in
set_option maxRecDepth 100000 in
/-- store(s) -/
theorem metX1_store (l : Launch) (D : va_G) (d : ClassId) (h qt qw qm qf : Nat) (T : Nat → Sr) (w : Sr) (M : Nat → Sr) (f : Sr) (s0 : Nat) (hs : s0 < 4) : gMv l yX1_store wsX1_store (rK 0 0) D d (MW h qt qw qm qf d) (T, w, M, f) h [.int (iI ((s0 : Int)))] (fun u => ∃ T1, u = (T1, w, M, f) ∧ T1 = setP T s0 w) := by
  refine g_entryv (by decide) (Nat.le_of_ble_eq_true rfl) ?_
  intro p e s m args below meth c A Q hx hb hml hown hts hK hA hret H locs hP hD hS ls hl
  have hl : lv_has ls 3 [(0, .ref h), (1, .int (iI ((s0 : Int))))] := hl
  refine x_iconst hx hb dX1_store_0 ?_
  refine lv_istore_n (lv' := [(2, .int (iI (0))), (0, .ref h), (1, .int (iI ((s0 : Int))))]) hx hb dX1_store_1 rfl hl (by decide) rfl (fun ls hl => ?_)
  have lp_2 : ∀ (n : Nat) (i : Nat) (Tc : Nat → Sr) (hi : i ≤ 32) (hn : 32 < i + n) (hI : Fill 32 T s0 w 0 i Tc) (H : Heap) (locs : List Loc), va_P D vwCl (MW h qt qw qm qf d (Tc, w, M, f)) H → va_D A (MW h qt qw qm qf d (Tc, w, M, f)) → va_S A s.heap H locs → ∀ ls : Array Slot, lv_has ls 3 [(0, .ref h), (1, .int (iI ((s0 : Int)))), (2, .int (iI ((i : Int))))] → W p l e (rK 0 0) s m args below meth c H locs 0 0 Q (F0 m 2 ls []) := by
    intro n
    induction n with
    | zero =>
      intro i Tc hi hn hI
      exfalso
      omega
    | succ n ih_2 =>
      intro i Tc hi hn hI H locs hP hD hS ls hl
      refine lv_iload_n hx hb dX1_store_2 rfl (lv_at hl 2 rfl) ?_
      refine x_bipush hx hb dX1_store_3 (by decide) ?_
      refine x_icmp_ge (tgt := 31) hx hb (by omega) dX1_store_5 (by decide) (fun c_5 => ?_) (fun c_5 => ?_)
      · -- t 31
        rw [MW_congrT _ (fill_end hI (by omega))] at hP hD
        exact hret _ H locs _ _ (⟨_, rfl, rfl⟩) hP hD hS dX1_store_31
      · -- f 8
        refine lv_aload_n hx hb dX1_store_8 rfl (lv_at hl 0 rfl) ?_
        refine m_gett hx hb hts hown hK hP dX1_store_9 ?_
        refine lv_iload_n hx hb dX1_store_12 rfl (lv_at hl 1 rfl) ?_
        refine x_bipush hx hb dX1_store_13 (by decide) ?_
        refine x_imul hx hb dX1_store_15 ?_
        refine lv_iload_n hx hb dX1_store_16 rfl (lv_at hl 2 rfl) ?_
        refine x_iadd hx hb dX1_store_17 ?_
        refine lv_aload_n hx hb dX1_store_18 rfl (lv_at hl 0 rfl) ?_
        refine m_getw hx hb hts hown hK hP dX1_store_19 ?_
        refine lv_iload_n hx hb dX1_store_22 rfl (lv_at hl 2 rfl) ?_
        refine m_wld hx hb hK hP (i) (by omega) dX1_store_23 ?_
        refine m_tst hx hb hK hP hD hS (s0) (i) (w i) (rfl) (by omega) dX1_store_24 (fun H locs hP hD hS => ?_)
        obtain ⟨T1, eT1⟩ : ∃ z, z = setB Tc (s0) (i) (w i) := ⟨_, rfl⟩
        rw [← eT1] at hP hD
        refine x_iinc (v := ((i + 1 : Nat) : Int)) (lv' := [(2, .int (iI (((i + 1 : Nat) : Int)))), (0, .ref h), (1, .int (iI ((s0 : Int))))]) hx hb dX1_store_25 hl (k := 2) rfl (by omega) (by decide) rfl (fun ls hl => ?_)
        refine lv_goto (tgt := 2) hx hb dX1_store_28 (by decide) ?_
        exact ih_2 (i + 1) T1 (by omega) (by omega) (by rw [eT1]; exact fill_s hI (by omega) rfl) H locs hP hD hS ls (lv_sub hl [1, 2, 0] rfl)
  exact lp_2 33 0 T (by omega) (by omega) (fill_0 _ _ _ _ _) H locs hP hD hS ls (lv_sub hl [1, 2, 0] rfl)
abbrev wsX1_pivot : List Cond := ws_ yX1_pivot cX1_pivot 5 (some .int)
set_option maxHeartbeats 4000000 in
set_option maxRecDepth 100000 in
/-- pivot(from, size, column) -/
theorem metX1_pivot (l : Launch) (D : va_G) (d : ClassId) (h qt qw qm qf : Nat) (T : Nat → Sr) (w : Sr) (M : Nat → Sr) (f : Sr) (fr sz cl : Nat) (h1 : sz ≤ 16) (h2 : cl < 17) (h3 : fr ≤ sz) : gMi l yX1_pivot wsX1_pivot (rK 0 0) D d (MW h qt qw qm qf d) (T, w, M, f) h [.int (iI ((fr : Int))), .int (iI ((sz : Int))), .int (iI ((cl : Int)))] (fun r u => ∃ pv : Int, r = iI pv ∧ u = (T, w, M, f) ∧ PivR M fr sz cl pv) := by
  refine g_entryi (by decide) (Nat.le_of_ble_eq_true rfl) ?_
  intro p e s m args below meth c A Q hx hb hml hown hts hK hA hret H locs hP hD hS ls hl
  have hl : lv_has ls 5 [(0, .ref h), (1, .int (iI ((fr : Int)))), (2, .int (iI ((sz : Int)))), (3, .int (iI ((cl : Int))))] := hl
  refine lv_iload_n hx hb dX1_pivot_0 rfl (lv_at hl 1 rfl) ?_
  refine lv_istore (lv' := [(4, .int (iI ((fr : Int)))), (0, .ref h), (1, .int (iI ((fr : Int)))), (2, .int (iI ((sz : Int)))), (3, .int (iI ((cl : Int))))]) hx hb dX1_pivot_1 hl (by decide) rfl (fun ls hl => ?_)
  have lp_3 : ∀ (n : Nat) (i : Nat) (hi : fr ≤ i ∧ i ≤ sz) (hn : sz < i + n) (hI : ∀ j, fr ≤ j → j < i → M j cl = 0) (H : Heap) (locs : List Loc), va_P D vwCl (MW h qt qw qm qf d (T, w, M, f)) H → va_D A (MW h qt qw qm qf d (T, w, M, f)) → va_S A s.heap H locs → ∀ ls : Array Slot, lv_has ls 5 [(0, .ref h), (1, .int (iI ((fr : Int)))), (2, .int (iI ((sz : Int)))), (3, .int (iI ((cl : Int)))), (4, .int (iI ((i : Int))))] → W p l e (rK 0 0) s m args below meth c H locs 0 0 Q (F0 m 3 ls []) := by
    intro n
    induction n with
    | zero =>
      intro i hi hn hI
      exfalso
      omega
    | succ n ih_3 =>
      intro i hi hn hI H locs hP hD hS ls hl
      refine lv_iload hx hb dX1_pivot_3 (lv_at hl 4 rfl) ?_
      refine lv_iload_n hx hb dX1_pivot_5 rfl (lv_at hl 2 rfl) ?_
      refine x_icmp_ge (tgt := 33) hx hb (by omega) dX1_pivot_6 (by decide) (fun c_6 => ?_) (fun c_6 => ?_)
      · -- t 33
        refine x_iconst hx hb dX1_pivot_33 ?_
        exact hret _ _ H locs _ _ (⟨_, rfl, rfl, Or.inr ⟨rfl, fun j q1 q2 => hI j q1 (by omega)⟩⟩) hP hD hS dX1_pivot_34
      · -- f 9
        refine lv_aload_n hx hb dX1_pivot_9 rfl (lv_at hl 0 rfl) ?_
        refine m_getm hx hb hts hown hK hP dX1_pivot_10 ?_
        refine lv_iload hx hb dX1_pivot_13 (lv_at hl 4 rfl) ?_
        refine x_bipush hx hb dX1_pivot_15 (by decide) ?_
        refine x_imul hx hb dX1_pivot_17 ?_
        refine lv_iload_n hx hb dX1_pivot_18 rfl (lv_at hl 3 rfl) ?_
        refine x_iadd hx hb dX1_pivot_19 ?_
        refine m_mld hx hb hK hP (i) (cl) (by omega) dX1_pivot_20 ?_
        refine x_if_eq (tgt := 27) hx hb (by omega) dX1_pivot_21 (by decide) (fun c_21 => ?_) (fun c_21 => ?_)
        · -- t 27
          refine x_iinc (v := ((i + 1 : Nat) : Int)) (lv' := [(4, .int (iI (((i + 1 : Nat) : Int)))), (0, .ref h), (1, .int (iI ((fr : Int)))), (2, .int (iI ((sz : Int)))), (3, .int (iI ((cl : Int))))]) hx hb dX1_pivot_27 hl (k := 4) rfl (by omega) (by decide) rfl (fun ls hl => ?_)
          refine lv_goto (tgt := 3) hx hb dX1_pivot_30 (by decide) ?_
          exact ih_3 (i + 1) (by omega) (by omega) (piv_s hI (fp_0.mp c_21)) H locs hP hD hS ls (lv_sub hl [1, 2, 3, 4, 0] rfl)
        · -- f 24
          refine lv_iload hx hb dX1_pivot_24 (lv_at hl 4 rfl) ?_
          exact hret _ _ H locs _ _ (⟨_, rfl, rfl, Or.inl ⟨i, rfl, by omega, by omega, fun q => c_21 (fp_0.mpr q)⟩⟩) hP hD hS dX1_pivot_26
  exact lp_3 (sz + 1) fr (by omega) (by omega) (fun j h1 h2 => by omega) H locs hP hD hS ls (lv_sub hl [1, 2, 3, 4, 0] rfl)
abbrev wsX1_exchange : List Cond := ws_ yX1_exchange cX1_exchange 5 none
set_option maxHeartbeats 4000000 in
set_option maxRecDepth 100000 in
/-- exchange(a, b) -/
theorem metX1_exchange (l : Launch) (D : va_G) (d : ClassId) (h qt qw qm qf : Nat) (T : Nat → Sr) (w : Sr) (M : Nat → Sr) (f : Sr) (a b : Nat) (h1 : a < 16) (h2 : b < 16) : gMv l yX1_exchange wsX1_exchange (rK 0 0) D d (MW h qt qw qm qf d) (T, w, M, f) h [.int (iI ((a : Int))), .int (iI ((b : Int)))] (fun u => ∃ M1, u = (T, w, M1, f) ∧ M1 = exch M a b) := by
  refine g_entryv (by decide) (Nat.le_of_ble_eq_true rfl) ?_
  intro p e s m args below meth c A Q hx hb hml hown hts hK hA hret H locs hP hD hS ls hl
  have hl : lv_has ls 5 [(0, .ref h), (1, .int (iI ((a : Int)))), (2, .int (iI ((b : Int))))] := hl
  refine x_iconst hx hb dX1_exchange_0 ?_
  refine lv_istore_n (lv' := [(3, .int (iI (0))), (0, .ref h), (1, .int (iI ((a : Int)))), (2, .int (iI ((b : Int))))]) hx hb dX1_exchange_1 rfl hl (by decide) rfl (fun ls hl => ?_)
  have lp_2 : ∀ (n : Nat) (i : Nat) (Mc : Nat → Sr) (hi : i ≤ 17) (hn : 17 < i + n) (hI : XchI M a b i Mc) (H : Heap) (locs : List Loc), va_P D vwCl (MW h qt qw qm qf d (T, w, Mc, f)) H → va_D A (MW h qt qw qm qf d (T, w, Mc, f)) → va_S A s.heap H locs → ∀ ls : Array Slot, lv_has ls 5 [(0, .ref h), (1, .int (iI ((a : Int)))), (2, .int (iI ((b : Int)))), (3, .int (iI ((i : Int))))] → W p l e (rK 0 0) s m args below meth c H locs 0 0 Q (F0 m 2 ls []) := by
    intro n
    induction n with
    | zero =>
      intro i Mc hi hn hI
      exfalso
      omega
    | succ n ih_2 =>
      intro i Mc hi hn hI H locs hP hD hS ls hl
      refine lv_iload_n hx hb dX1_exchange_2 rfl (lv_at hl 3 rfl) ?_
      refine x_bipush hx hb dX1_exchange_3 (by decide) ?_
      refine x_icmp_ge (tgt := 62) hx hb (by omega) dX1_exchange_5 (by decide) (fun c_5 => ?_) (fun c_5 => ?_)
      · -- t 62
        rw [MW_congrM _ (xch_end hI (by omega))] at hP hD
        exact hret _ H locs _ _ (⟨_, rfl, rfl⟩) hP hD hS dX1_exchange_62
      · -- f 8
        refine lv_aload_n hx hb dX1_exchange_8 rfl (lv_at hl 0 rfl) ?_
        refine m_getm hx hb hts hown hK hP dX1_exchange_9 ?_
        refine lv_iload_n hx hb dX1_exchange_12 rfl (lv_at hl 1 rfl) ?_
        refine x_bipush hx hb dX1_exchange_13 (by decide) ?_
        refine x_imul hx hb dX1_exchange_15 ?_
        refine lv_iload_n hx hb dX1_exchange_16 rfl (lv_at hl 3 rfl) ?_
        refine x_iadd hx hb dX1_exchange_17 ?_
        refine m_mld hx hb hK hP (a) (i) (by omega) dX1_exchange_18 ?_
        refine lv_istore (lv' := [(4, .int (iI (((Mc (a) (i)).val : Int)))), (0, .ref h), (1, .int (iI ((a : Int)))), (2, .int (iI ((b : Int)))), (3, .int (iI ((i : Int))))]) hx hb dX1_exchange_19 hl (by decide) rfl (fun ls hl => ?_)
        refine lv_aload_n hx hb dX1_exchange_21 rfl (lv_at hl 1 rfl) ?_
        refine m_getm hx hb hts hown hK hP dX1_exchange_22 ?_
        refine lv_iload_n hx hb dX1_exchange_25 rfl (lv_at hl 2 rfl) ?_
        refine x_bipush hx hb dX1_exchange_26 (by decide) ?_
        refine x_imul hx hb dX1_exchange_28 ?_
        refine lv_iload_n hx hb dX1_exchange_29 rfl (lv_at hl 4 rfl) ?_
        refine x_iadd hx hb dX1_exchange_30 ?_
        refine lv_aload_n hx hb dX1_exchange_31 rfl (lv_at hl 1 rfl) ?_
        refine m_getm hx hb hts hown hK hP dX1_exchange_32 ?_
        refine lv_iload_n hx hb dX1_exchange_35 rfl (lv_at hl 3 rfl) ?_
        refine x_bipush hx hb dX1_exchange_36 (by decide) ?_
        refine x_imul hx hb dX1_exchange_38 ?_
        refine lv_iload_n hx hb dX1_exchange_39 rfl (lv_at hl 4 rfl) ?_
        refine x_iadd hx hb dX1_exchange_40 ?_
        refine m_mld hx hb hK hP (b) (i) (by omega) dX1_exchange_41 ?_
        refine m_mst hx hb hK hP hD hS (a) (i) (Mc b i) (rfl) (by omega) dX1_exchange_42 (fun H locs hP hD hS => ?_)
        obtain ⟨M1, eM1⟩ : ∃ z, z = setB Mc (a) (i) (Mc b i) := ⟨_, rfl⟩
        rw [← eM1] at hP hD
        refine lv_aload_n hx hb dX1_exchange_43 rfl (lv_at hl 1 rfl) ?_
        refine m_getm hx hb hts hown hK hP dX1_exchange_44 ?_
        refine lv_iload_n hx hb dX1_exchange_47 rfl (lv_at hl 3 rfl) ?_
        refine x_bipush hx hb dX1_exchange_48 (by decide) ?_
        refine x_imul hx hb dX1_exchange_50 ?_
        refine lv_iload_n hx hb dX1_exchange_51 rfl (lv_at hl 4 rfl) ?_
        refine x_iadd hx hb dX1_exchange_52 ?_
        refine lv_iload hx hb dX1_exchange_53 (lv_at hl 0 rfl) ?_
        refine m_mst hx hb hK hP hD hS (b) (i) (Mc a i) (rfl) (by omega) dX1_exchange_55 (fun H locs hP hD hS => ?_)
        obtain ⟨M2, eM2⟩ : ∃ z, z = setB M1 (b) (i) (Mc a i) := ⟨_, rfl⟩
        rw [← eM2] at hP hD
        refine x_iinc (v := ((i + 1 : Nat) : Int)) (lv' := [(3, .int (iI (((i + 1 : Nat) : Int)))), (4, .int (iI (((Mc (a) (i)).val : Int)))), (0, .ref h), (1, .int (iI ((a : Int)))), (2, .int (iI ((b : Int))))]) hx hb dX1_exchange_56 hl (k := 4) rfl (by omega) (by decide) rfl (fun ls hl => ?_)
        refine lv_goto (tgt := 2) hx hb dX1_exchange_59 (by decide) ?_
        exact ih_2 (i + 1) M2 (by omega) (by omega) (xch_s hI (by omega) eM1 eM2) H locs hP hD hS ls (lv_sub hl [2, 3, 4, 0] rfl)
  exact lp_2 18 0 M (by omega) (by omega) (xch_0 _ _ _) H locs hP hD hS ls (lv_sub hl [1, 2, 3, 0] rfl)
abbrev wsX1_clearColumn : List Cond := ws_ yX1_clearColumn cX1_clearColumn 8 none
set_option maxHeartbeats 4000000 in
set_option maxRecDepth 100000 in
/-- clearColumn(row, size, column) -/
theorem metX1_clearColumn (l : Launch) (D : va_G) (d : ClassId) (h qt qw qm qf : Nat) (T : Nat → Sr) (w : Sr) (M : Nat → Sr) (f : Sr) (r0 sz cl : Nat) (h1 : r0 < sz) (h2 : sz ≤ 16) (h3 : cl < 17) (hnz : M r0 cl ≠ 0) : gMv l yX1_clearColumn wsX1_clearColumn (rK 1 22) D d (MW h qt qw qm qf d) (T, w, M, f) h [.int (iI ((r0 : Int))), .int (iI ((sz : Int))), .int (iI ((cl : Int)))] (fun u => ∃ M1, u = (T, w, M1, f) ∧ ∃ y : Fp, M r0 cl * y = 1 ∧ M1 = clr M r0 sz cl y) := by
  refine g_entryv (by decide) (Nat.le_of_ble_eq_true rfl) ?_
  intro p e s m args below meth c A Q hx hb hml hown hts hK hA hret H locs hP hD hS ls hl
  have hl : lv_has ls 8 [(0, .ref h), (1, .int (iI ((r0 : Int)))), (2, .int (iI ((sz : Int)))), (3, .int (iI ((cl : Int))))] := hl
  refine lv_aload_n hx hb dX1_clearColumn_0 rfl (lv_at hl 0 rfl) ?_
  refine lv_aload_n hx hb dX1_clearColumn_1 rfl (lv_at hl 0 rfl) ?_
  refine m_getm hx hb hts hown hK hP dX1_clearColumn_2 ?_
  refine lv_iload_n hx hb dX1_clearColumn_5 rfl (lv_at hl 1 rfl) ?_
  refine x_bipush hx hb dX1_clearColumn_6 (by decide) ?_
  refine x_imul hx hb dX1_clearColumn_8 ?_
  refine lv_iload_n hx hb dX1_clearColumn_9 rfl (lv_at hl 3 rfl) ?_
  refine x_iadd hx hb dX1_clearColumn_10 ?_
  refine m_mld hx hb hK hP (r0) (cl) (by omega) dX1_clearColumn_11 ?_
  refine g_calli ⟨hx, hb, hml, hown, hts⟩ (metX1_inverse l D d h qt qw qm qf T w M f (M r0 cl) hnz) (cwV 1 hts (lw_V q255 q257 qs27 q34 q258) rfl rfl rfl (by decide +kernel) ⟨Nat.le_of_ble_eq_true rfl, Nat.le_of_ble_eq_true rfl⟩) (va_recv hK hP (ci := 1) (q0 := 0) rfl rfl) hK hA hP hD hS rfl hl.1 rfl (Nat.le_of_ble_eq_true rfl) dX1_clearColumn_12 ⟨Nat.zero_le _, Nat.zero_le _⟩ (fun r u H locs hq hP hD hS => ?_)
  obtain ⟨y, rfl, hy, rfl⟩ := hq
  refine lv_istore (lv' := [(4, .int (iI ((y.val : Int)))), (0, .ref h), (1, .int (iI ((r0 : Int)))), (2, .int (iI ((sz : Int)))), (3, .int (iI ((cl : Int))))]) hx hb dX1_clearColumn_15 hl (by decide) rfl (fun ls hl => ?_)
  refine x_iconst hx hb dX1_clearColumn_17 ?_
  refine lv_istore (lv' := [(5, .int (iI (0))), (4, .int (iI ((y.val : Int)))), (0, .ref h), (1, .int (iI ((r0 : Int)))), (2, .int (iI ((sz : Int)))), (3, .int (iI ((cl : Int))))]) hx hb dX1_clearColumn_18 hl (by decide) rfl (fun ls hl => ?_)
  have lp_20 : ∀ (n : Nat) (i : Nat) (Mc : Nat → Sr) (hi : i ≤ 17) (hn : 17 < i + n) (hI : Fill 17 M r0 (fun j => M r0 j * y) 0 i Mc) (H : Heap) (locs : List Loc), va_P D vwCl (MW h qt qw qm qf d (T, w, Mc, f)) H → va_D A (MW h qt qw qm qf d (T, w, Mc, f)) → va_S A s.heap H locs → ∀ ls : Array Slot, lv_has ls 8 [(0, .ref h), (1, .int (iI ((r0 : Int)))), (2, .int (iI ((sz : Int)))), (3, .int (iI ((cl : Int)))), (4, .int (iI ((y.val : Int)))), (5, .int (iI ((i : Int))))] → W p l e (rK 1 22) s m args below meth c H locs 0 0 Q (F0 m 20 ls []) := by
    intro n
    induction n with
    | zero =>
      intro i Mc hi hn hI
      exfalso
      omega
    | succ n ih_20 =>
      intro i Mc hi hn hI H locs hP hD hS ls hl
      refine lv_iload hx hb dX1_clearColumn_20 (lv_at hl 5 rfl) ?_
      refine x_bipush hx hb dX1_clearColumn_22 (by decide) ?_
      refine x_icmp_ge (tgt := 63) hx hb (by omega) dX1_clearColumn_24 (by decide) (fun c_24 => ?_) (fun c_24 => ?_)
      · -- t 63
        obtain ⟨M2, eM2⟩ : ∃ z, z = setP M r0 (fun j => M r0 j * y) := ⟨_, rfl⟩
        rw [MW_congrM M2 (by rw [eM2]; exact fill_end hI (by omega))] at hP hD
        refine x_iconst hx hb dX1_clearColumn_63 ?_
        refine lv_istore (lv' := [(5, .int (iI (0))), (0, .ref h), (1, .int (iI ((r0 : Int)))), (2, .int (iI ((sz : Int)))), (3, .int (iI ((cl : Int)))), (4, .int (iI ((y.val : Int))))]) hx hb dX1_clearColumn_64 hl (by decide) rfl (fun ls hl => ?_)
        have lp_66 : ∀ (n : Nat) (o : Nat) (Mo : Nat → Sr) (hi2 : o ≤ sz) (hn2 : sz < o + n) (hI2 : ClrI M r0 sz cl y o Mo) (H : Heap) (locs : List Loc), va_P D vwCl (MW h qt qw qm qf d (T, w, Mo, f)) H → va_D A (MW h qt qw qm qf d (T, w, Mo, f)) → va_S A s.heap H locs → ∀ ls : Array Slot, lv_has ls 8 [(0, .ref h), (1, .int (iI ((r0 : Int)))), (2, .int (iI ((sz : Int)))), (3, .int (iI ((cl : Int)))), (5, .int (iI ((o : Int))))] → W p l e (rK 1 22) s m args below meth c H locs 0 0 Q (F0 m 66 ls []) := by
          intro n
          induction n with
          | zero =>
            intro o Mo hi2 hn2 hI2
            exfalso
            omega
          | succ n ih_66 =>
            intro o Mo hi2 hn2 hI2 H locs hP hD hS ls hl
            refine lv_iload hx hb dX1_clearColumn_66 (lv_at hl 4 rfl) ?_
            refine lv_iload_n hx hb dX1_clearColumn_68 rfl (lv_at hl 2 rfl) ?_
            refine x_icmp_ge (tgt := 160) hx hb (by omega) dX1_clearColumn_69 (by decide) (fun c_69 => ?_) (fun c_69 => ?_)
            · -- t 160
              rw [MW_congrM _ (clr_end hI2 (by omega) h1)] at hP hD
              exact hret _ H locs _ _ (⟨_, rfl, y, hy, rfl⟩) hP hD hS dX1_clearColumn_160
            · -- f 72
              refine lv_aload_n hx hb dX1_clearColumn_72 rfl (lv_at hl 0 rfl) ?_
              refine m_getm hx hb hts hown hK hP dX1_clearColumn_73 ?_
              refine lv_iload hx hb dX1_clearColumn_76 (lv_at hl 4 rfl) ?_
              refine x_bipush hx hb dX1_clearColumn_78 (by decide) ?_
              refine x_imul hx hb dX1_clearColumn_80 ?_
              refine lv_iload_n hx hb dX1_clearColumn_81 rfl (lv_at hl 3 rfl) ?_
              refine x_iadd hx hb dX1_clearColumn_82 ?_
              refine m_mld hx hb hK hP (o) (cl) (by omega) dX1_clearColumn_83 ?_
              refine lv_istore (lv' := [(6, .int (iI (((Mo (o) (cl)).val : Int)))), (0, .ref h), (1, .int (iI ((r0 : Int)))), (2, .int (iI ((sz : Int)))), (3, .int (iI ((cl : Int)))), (5, .int (iI ((o : Int))))]) hx hb dX1_clearColumn_84 hl (by decide) rfl (fun ls hl => ?_)
              refine x_iconst hx hb dX1_clearColumn_86 ?_
              refine lv_istore (lv' := [(7, .int (iI (0))), (6, .int (iI (((Mo (o) (cl)).val : Int)))), (0, .ref h), (1, .int (iI ((r0 : Int)))), (2, .int (iI ((sz : Int)))), (3, .int (iI ((cl : Int)))), (5, .int (iI ((o : Int))))]) hx hb dX1_clearColumn_87 hl (by decide) rfl (fun ls hl => ?_)
              have lp_89 : ∀ (n : Nat) (i : Nat) (Mi : Nat → Sr) (hi3 : i ≤ 17) (hn3 : 17 < i + n) (hI3 : Cl2 Mo r0 cl o i Mi) (H : Heap) (locs : List Loc), va_P D vwCl (MW h qt qw qm qf d (T, w, Mi, f)) H → va_D A (MW h qt qw qm qf d (T, w, Mi, f)) → va_S A s.heap H locs → ∀ ls : Array Slot, lv_has ls 8 [(0, .ref h), (1, .int (iI ((r0 : Int)))), (2, .int (iI ((sz : Int)))), (3, .int (iI ((cl : Int)))), (5, .int (iI ((o : Int)))), (6, .int (iI (((Mo o cl).val : Int)))), (7, .int (iI ((i : Int))))] → W p l e (rK 1 22) s m args below meth c H locs 0 0 Q (F0 m 89 ls []) := by
                intro n
                induction n with
                | zero =>
                  intro i Mi hi3 hn3 hI3
                  exfalso
                  omega
                | succ n ih_89 =>
                  intro i Mi hi3 hn3 hI3 H locs hP hD hS ls hl
                  refine lv_iload hx hb dX1_clearColumn_89 (lv_at hl 6 rfl) ?_
                  refine x_bipush hx hb dX1_clearColumn_91 (by decide) ?_
                  refine x_icmp_ge (tgt := 154) hx hb (by omega) dX1_clearColumn_93 (by decide) (fun c_93 => ?_) (fun c_93 => ?_)
                  · -- t 154
                    refine x_iinc (v := ((o + 1 : Nat) : Int)) (lv' := [(5, .int (iI (((o + 1 : Nat) : Int)))), (0, .ref h), (1, .int (iI ((r0 : Int)))), (2, .int (iI ((sz : Int)))), (3, .int (iI ((cl : Int)))), (6, .int (iI (((Mo o cl).val : Int)))), (7, .int (iI ((i : Int))))]) hx hb dX1_clearColumn_154 hl (k := 4) rfl (by omega) (by decide) rfl (fun ls hl => ?_)
                    refine lv_goto (tgt := 66) hx hb dX1_clearColumn_157 (by decide) ?_
                    exact ih_66 (o + 1) Mi (by omega) (by omega) (clr_s hI2 hI3 (by omega) (by omega) h3) H locs hP hD hS ls (lv_sub hl [1, 2, 3, 4, 0] rfl)
                  · -- f 96
                    refine lv_iload hx hb dX1_clearColumn_96 (lv_at hl 4 rfl) ?_
                    refine lv_iload_n hx hb dX1_clearColumn_98 rfl (lv_at hl 1 rfl) ?_
                    refine x_icmp_eq (tgt := 148) hx hb (by omega) dX1_clearColumn_99 (by decide) (fun c_99 => ?_) (fun c_99 => ?_)
                    · -- t 148
                      refine x_iinc (v := ((i + 1 : Nat) : Int)) (lv' := [(7, .int (iI (((i + 1 : Nat) : Int)))), (0, .ref h), (1, .int (iI ((r0 : Int)))), (2, .int (iI ((sz : Int)))), (3, .int (iI ((cl : Int)))), (5, .int (iI ((o : Int)))), (6, .int (iI (((Mo o cl).val : Int))))]) hx hb dX1_clearColumn_148 hl (k := 6) rfl (by omega) (by decide) rfl (fun ls hl => ?_)
                      refine lv_goto (tgt := 89) hx hb dX1_clearColumn_151 (by decide) ?_
                      exact ih_89 (i + 1) Mi (by omega) (by omega) (cl2_e hI3 (by omega)) H locs hP hD hS ls (lv_sub hl [1, 2, 3, 4, 5, 6, 0] rfl)
                    · -- f 102
                      refine lv_aload_n hx hb dX1_clearColumn_102 rfl (lv_at hl 0 rfl) ?_
                      refine m_getm hx hb hts hown hK hP dX1_clearColumn_103 ?_
                      refine lv_iload hx hb dX1_clearColumn_106 (lv_at hl 4 rfl) ?_
                      refine x_bipush hx hb dX1_clearColumn_108 (by decide) ?_
                      refine x_imul hx hb dX1_clearColumn_110 ?_
                      refine lv_iload hx hb dX1_clearColumn_111 (lv_at hl 6 rfl) ?_
                      refine x_iadd hx hb dX1_clearColumn_113 ?_
                      refine lv_aload_n hx hb dX1_clearColumn_114 rfl (lv_at hl 0 rfl) ?_
                      refine lv_aload_n hx hb dX1_clearColumn_115 rfl (lv_at hl 0 rfl) ?_
                      refine m_getm hx hb hts hown hK hP dX1_clearColumn_116 ?_
                      refine lv_iload hx hb dX1_clearColumn_119 (lv_at hl 4 rfl) ?_
                      refine x_bipush hx hb dX1_clearColumn_121 (by decide) ?_
                      refine x_imul hx hb dX1_clearColumn_123 ?_
                      refine lv_iload hx hb dX1_clearColumn_124 (lv_at hl 6 rfl) ?_
                      refine x_iadd hx hb dX1_clearColumn_126 ?_
                      refine m_mld hx hb hK hP (o) (i) (by omega) dX1_clearColumn_127 ?_
                      refine lv_iload hx hb dX1_clearColumn_128 (lv_at hl 5 rfl) ?_
                      refine lv_aload_n hx hb dX1_clearColumn_130 rfl (lv_at hl 0 rfl) ?_
                      refine m_getm hx hb hts hown hK hP dX1_clearColumn_131 ?_
                      refine lv_iload_n hx hb dX1_clearColumn_134 rfl (lv_at hl 1 rfl) ?_
                      refine x_bipush hx hb dX1_clearColumn_135 (by decide) ?_
                      refine x_imul hx hb dX1_clearColumn_137 ?_
                      refine lv_iload hx hb dX1_clearColumn_138 (lv_at hl 6 rfl) ?_
                      refine x_iadd hx hb dX1_clearColumn_140 ?_
                      refine m_mld hx hb hK hP (r0) (i) (by omega) dX1_clearColumn_141 ?_
                      refine x_imul hx hb dX1_clearColumn_142 ?_
                      refine x_isub hx hb dX1_clearColumn_143 ?_
                      refine g_calli ⟨hx, hb, hml, hown, hts⟩ (metX1_mod l D d h qt qw qm qf T w Mi f (((Mi o i).val : Int) - ((Mo o cl).val : Int) * ((Mi r0 i).val : Int)) (x_b3 _ _ _)) (cwV 1 hts (lw_V q259 q261 qs28 q34 q262) rfl rfl rfl (by decide +kernel) ⟨Nat.le_of_ble_eq_true rfl, Nat.le_of_ble_eq_true rfl⟩) (va_recv hK hP (ci := 1) (q0 := 0) rfl rfl) hK hA hP hD hS rfl hl.1 rfl (Nat.le_of_ble_eq_true rfl) dX1_clearColumn_144 ⟨Nat.zero_le _, Nat.zero_le _⟩ (fun r u H locs hq hP hD hS => ?_)
                      obtain ⟨rfl, rfl⟩ := hq
                      rw [show toF (((Mi o i).val : Int) - ((Mo o cl).val : Int) * ((Mi r0 i).val : Int)) = Mi o i - Mo o cl * Mi r0 i from by rw [toF_sub, toF_mulV, toF_of]]
                      refine m_mst hx hb hK hP hD hS (o) (i) (Mi o i - Mo o cl * Mi r0 i) (rfl) (by omega) dX1_clearColumn_147 (fun H locs hP hD hS => ?_)
                      obtain ⟨M3, eM3⟩ : ∃ z, z = setB Mi (o) (i) (Mi o i - Mo o cl * Mi r0 i) := ⟨_, rfl⟩
                      rw [← eM3] at hP hD
                      refine x_iinc (v := ((i + 1 : Nat) : Int)) (lv' := [(7, .int (iI (((i + 1 : Nat) : Int)))), (0, .ref h), (1, .int (iI ((r0 : Int)))), (2, .int (iI ((sz : Int)))), (3, .int (iI ((cl : Int)))), (5, .int (iI ((o : Int)))), (6, .int (iI (((Mo o cl).val : Int))))]) hx hb dX1_clearColumn_148 hl (k := 6) rfl (by omega) (by decide) rfl (fun ls hl => ?_)
                      refine lv_goto (tgt := 89) hx hb dX1_clearColumn_151 (by decide) ?_
                      exact ih_89 (i + 1) M3 (by omega) (by omega) (cl2_s hI3 (by omega) (by omega) eM3) H locs hP hD hS ls (lv_sub hl [1, 2, 3, 4, 5, 6, 0] rfl)
              exact lp_89 18 0 Mo (by omega) (by omega) (cl2_0 _ _ _ _) H locs hP hD hS ls (lv_sub hl [2, 3, 4, 5, 6, 1, 0] rfl)
        exact lp_66 (sz + 1) 0 M2 (by omega) (by omega) (by rw [eM2]; exact clr_0 _ _ _ _ _) H locs hP hD hS ls (lv_sub hl [1, 2, 3, 4, 0] rfl)
      · -- f 27
        refine lv_aload_n hx hb dX1_clearColumn_27 rfl (lv_at hl 0 rfl) ?_
        refine m_getm hx hb hts hown hK hP dX1_clearColumn_28 ?_
        refine lv_iload_n hx hb dX1_clearColumn_31 rfl (lv_at hl 1 rfl) ?_
        refine x_bipush hx hb dX1_clearColumn_32 (by decide) ?_
        refine x_imul hx hb dX1_clearColumn_34 ?_
        refine lv_iload hx hb dX1_clearColumn_35 (lv_at hl 5 rfl) ?_
        refine x_iadd hx hb dX1_clearColumn_37 ?_
        refine lv_aload_n hx hb dX1_clearColumn_38 rfl (lv_at hl 0 rfl) ?_
        refine m_getm hx hb hts hown hK hP dX1_clearColumn_39 ?_
        refine lv_iload_n hx hb dX1_clearColumn_42 rfl (lv_at hl 1 rfl) ?_
        refine x_bipush hx hb dX1_clearColumn_43 (by decide) ?_
        refine x_imul hx hb dX1_clearColumn_45 ?_
        refine lv_iload hx hb dX1_clearColumn_46 (lv_at hl 5 rfl) ?_
        refine x_iadd hx hb dX1_clearColumn_48 ?_
        refine m_mld hx hb hK hP (r0) (i) (by omega) dX1_clearColumn_49 ?_
        refine lv_iload hx hb dX1_clearColumn_50 (lv_at hl 4 rfl) ?_
        refine x_imul hx hb dX1_clearColumn_52 ?_
        refine x_bipush hx hb dX1_clearColumn_53 (by decide) ?_
        refine x_irem hx hb (Mc r0 i * y) (toF_mulV _ _) (by have := fp_mul_lt (Mc r0 i) y; omega) dX1_clearColumn_55 ?_
        refine m_mst hx hb hK hP hD hS (r0) (i) (Mc r0 i * y) (rfl) (by omega) dX1_clearColumn_56 (fun H locs hP hD hS => ?_)
        obtain ⟨M1, eM1⟩ : ∃ z, z = setB Mc (r0) (i) (Mc r0 i * y) := ⟨_, rfl⟩
        rw [← eM1] at hP hD
        refine x_iinc (v := ((i + 1 : Nat) : Int)) (lv' := [(5, .int (iI (((i + 1 : Nat) : Int)))), (0, .ref h), (1, .int (iI ((r0 : Int)))), (2, .int (iI ((sz : Int)))), (3, .int (iI ((cl : Int)))), (4, .int (iI ((y.val : Int))))]) hx hb dX1_clearColumn_57 hl (k := 5) rfl (by omega) (by decide) rfl (fun ls hl => ?_)
        refine lv_goto (tgt := 20) hx hb dX1_clearColumn_60 (by decide) ?_
        exact ih_20 (i + 1) M1 (by omega) (by omega) (by rw [eM1]; exact fill_s hI (by omega) (by rw [fill_at hI (by omega) (by omega)])) H locs hP hD hS ls (lv_sub hl [1, 2, 3, 4, 5, 0] rfl)
  exact lp_20 18 0 M (by omega) (by omega) (fill_0 _ _ _ _ _) H locs hP hD hS ls (lv_sub hl [2, 3, 4, 5, 1, 0] rfl)
abbrev wsX1_eliminate : List Cond := ws_ yX1_eliminate cX1_eliminate 5 (some .int)
set_option maxHeartbeats 4000000 in
set_option maxRecDepth 100000 in
/-- eliminate(size) -/
theorem metX1_eliminate (l : Launch) (D : va_G) (d : ClassId) (h qt qw qm qf : Nat) (T : Nat → Sr) (w : Sr) (M : Nat → Sr) (f : Sr) (sz L : Nat) (h1 : sz ≤ 16) (h2 : L ≤ sz) (hInd : IndH sz M L) (hDep : DepH sz M L) : gMi l yX1_eliminate wsX1_eliminate (rK 2 49) D d (MW h qt qw qm qf d) (T, w, M, f) h [.int (iI ((sz : Int)))] (fun r u => ∃ M1, u = (T, w, M1, f) ∧ r = iI (L : Int) ∧ EInv sz M M1 sz L) := by
  refine g_entryi (by decide) (Nat.le_of_ble_eq_true rfl) ?_
  intro p e s m args below meth c A Q hx hb hml hown hts hK hA hret H locs hP hD hS ls hl
  have hl : lv_has ls 5 [(0, .ref h), (1, .int (iI ((sz : Int))))] := hl
  refine x_iconst hx hb dX1_eliminate_0 ?_
  refine lv_istore_n (lv' := [(2, .int (iI (0))), (0, .ref h), (1, .int (iI ((sz : Int))))]) hx hb dX1_eliminate_1 rfl hl (by decide) rfl (fun ls hl => ?_)
  refine x_iconst hx hb dX1_eliminate_2 ?_
  refine lv_istore_n (lv' := [(3, .int (iI (0))), (2, .int (iI (0))), (0, .ref h), (1, .int (iI ((sz : Int))))]) hx hb dX1_eliminate_3 rfl hl (by decide) rfl (fun ls hl => ?_)
  have lp_4 : ∀ (n : Nat) (cl rk : Nat) (Mc : Nat → Sr) (hi : cl ≤ sz) (hn : sz < cl + n) (hr : (cl ≤ L ∧ rk = cl) ∨ (L ≤ cl ∧ rk = L)) (hE : EInv sz M Mc cl rk) (H : Heap) (locs : List Loc), va_P D vwCl (MW h qt qw qm qf d (T, w, Mc, f)) H → va_D A (MW h qt qw qm qf d (T, w, Mc, f)) → va_S A s.heap H locs → ∀ ls : Array Slot, lv_has ls 5 [(0, .ref h), (1, .int (iI ((sz : Int)))), (2, .int (iI ((rk : Int)))), (3, .int (iI ((cl : Int))))] → W p l e (rK 2 49) s m args below meth c H locs 0 0 Q (F0 m 4 ls []) := by
    intro n
    induction n with
    | zero =>
      intro cl rk Mc hi hn hr hE
      exfalso
      omega
    | succ n ih_4 =>
      intro cl rk Mc hi hn hr hE H locs hP hD hS ls hl
      refine lv_iload_n hx hb dX1_eliminate_4 rfl (lv_at hl 3 rfl) ?_
      refine lv_iload_n hx hb dX1_eliminate_5 rfl (lv_at hl 1 rfl) ?_
      refine x_icmp_ge (tgt := 46) hx hb (by omega) dX1_eliminate_6 (by decide) (fun c_6 => ?_) (fun c_6 => ?_)
      · -- t 46
        refine lv_iload_n hx hb dX1_eliminate_46 rfl (lv_at hl 2 rfl) ?_
        have ec : cl = sz := by omega
        have er : rk = L := by omega
        rw [ec, er] at hE
        exact hret _ _ H locs _ _ (⟨Mc, rfl, by rw [er], hE⟩) hP hD hS dX1_eliminate_47
      · -- f 9
        refine lv_aload_n hx hb dX1_eliminate_9 rfl (lv_at hl 0 rfl) ?_
        refine lv_iload_n hx hb dX1_eliminate_10 rfl (lv_at hl 2 rfl) ?_
        refine lv_iload_n hx hb dX1_eliminate_11 rfl (lv_at hl 1 rfl) ?_
        refine lv_iload_n hx hb dX1_eliminate_12 rfl (lv_at hl 3 rfl) ?_
        refine g_calli ⟨hx, hb, hml, hown, hts⟩ (metX1_pivot l D d h qt qw qm qf T w Mc f rk sz cl (by omega) (by omega) (by omega)) (cwV 3 hts (lw_V q243 q245 qs24 q34 q246) rfl rfl rfl (by decide +kernel) ⟨Nat.le_of_ble_eq_true rfl, Nat.le_of_ble_eq_true rfl⟩) (va_recv hK hP (ci := 1) (q0 := 0) rfl rfl) hK hA hP hD hS rfl hl.1 rfl (Nat.le_of_ble_eq_true rfl) dX1_eliminate_13 ⟨Nat.zero_le _, Nat.zero_le _⟩ (fun r u H locs hq hP hD hS => ?_)
        obtain ⟨pv, rfl, rfl, hpv⟩ := hq
        have hpb := piv_bd hpv h1
        refine lv_istore (lv' := [(4, .int (iI (pv))), (0, .ref h), (1, .int (iI ((sz : Int)))), (2, .int (iI ((rk : Int)))), (3, .int (iI ((cl : Int))))]) hx hb dX1_eliminate_16 hl (by decide) rfl (fun ls hl => ?_)
        refine lv_iload hx hb dX1_eliminate_18 (lv_at hl 0 rfl) ?_
        refine x_if_lt (tgt := 40) hx hb (by omega) dX1_eliminate_20 (by decide) (fun c_20 => ?_) (fun c_20 => ?_)
        · -- t 40
          have hsk := el_skip hE hr h2 h1 hInd (piv_no hpv c_20)
          have hsk2 := hsk.2
          refine x_iinc (v := ((cl + 1 : Nat) : Int)) (lv' := [(3, .int (iI (((cl + 1 : Nat) : Int)))), (4, .int (iI (pv))), (0, .ref h), (1, .int (iI ((sz : Int)))), (2, .int (iI ((rk : Int))))]) hx hb dX1_eliminate_40 hl (k := 4) rfl (by omega) (by decide) rfl (fun ls hl => ?_)
          refine lv_goto (tgt := 4) hx hb dX1_eliminate_43 (by decide) ?_
          exact ih_4 (cl + 1) rk Mc (by omega) (by omega) (by omega) hsk.1 H locs hP hD hS ls (lv_sub hl [2, 3, 4, 0] rfl)
        · -- f 23
          obtain ⟨q, rfl, hq1, hq2, hq3⟩ := piv_yes hpv c_20
          have hlt := el_lt hE hr (by omega) h1 hDep hq1 hq2 hq3
          have hlt1 := hlt.1
          refine lv_aload_n hx hb dX1_eliminate_23 rfl (lv_at hl 1 rfl) ?_
          refine lv_iload_n hx hb dX1_eliminate_24 rfl (lv_at hl 3 rfl) ?_
          refine lv_iload hx hb dX1_eliminate_25 (lv_at hl 0 rfl) ?_
          refine g_callv ⟨hx, hb, hml, hown, hts⟩ (metX1_exchange l D d h qt qw qm qf T w Mc f rk q (by omega) (by omega)) (cwV 2 hts (lw_V q247 q249 qs25 q34 q250) rfl rfl rfl (by decide +kernel) ⟨Nat.le_of_ble_eq_true rfl, Nat.le_of_ble_eq_true rfl⟩) (va_recv hK hP (ci := 1) (q0 := 0) rfl rfl) hK hA hP hD hS rfl hl.1 rfl (Nat.le_of_ble_eq_true rfl) dX1_eliminate_27 ⟨Nat.zero_le _, Nat.zero_le _⟩ (fun u H locs hq hP hD hS => ?_)
          obtain ⟨M1, rfl, eM1⟩ := hq
          refine lv_aload_n hx hb dX1_eliminate_30 rfl (lv_at hl 1 rfl) ?_
          refine lv_iload_n hx hb dX1_eliminate_31 rfl (lv_at hl 3 rfl) ?_
          refine lv_iload_n hx hb dX1_eliminate_32 rfl (lv_at hl 2 rfl) ?_
          refine lv_iload_n hx hb dX1_eliminate_33 rfl (lv_at hl 4 rfl) ?_
          refine g_callv ⟨hx, hb, hml, hown, hts⟩ (metX1_clearColumn l D d h qt qw qm qf T w M1 f rk sz cl (by omega) (by omega) (by omega) (by rw [eM1, exch_1]; exact hq3)) (cwV 3 hts (lw_V q251 q253 qs26 q34 q254) rfl rfl rfl (by decide +kernel) ⟨Nat.le_of_ble_eq_true rfl, Nat.le_of_ble_eq_true rfl⟩) (va_recv hK hP (ci := 1) (q0 := 0) rfl rfl) hK hA hP hD hS rfl hl.1 rfl (Nat.le_of_ble_eq_true rfl) dX1_eliminate_34 ⟨Nat.zero_le _, Nat.zero_le _⟩ (fun u H locs hq hP hD hS => ?_)
          obtain ⟨M2, rfl, y, hy, eM2⟩ := hq
          refine x_iinc (v := ((rk + 1 : Nat) : Int)) (lv' := [(2, .int (iI (((rk + 1 : Nat) : Int)))), (4, .int (iI ((q : Int)))), (0, .ref h), (1, .int (iI ((sz : Int)))), (3, .int (iI ((cl : Int))))]) hx hb dX1_eliminate_37 hl (k := 3) rfl (by omega) (by decide) rfl (fun ls hl => ?_)
          refine x_iinc (v := ((cl + 1 : Nat) : Int)) (lv' := [(3, .int (iI (((cl + 1 : Nat) : Int)))), (2, .int (iI (((rk + 1 : Nat) : Int)))), (4, .int (iI ((q : Int)))), (0, .ref h), (1, .int (iI ((sz : Int))))]) hx hb dX1_eliminate_40 hl (k := 4) rfl (by omega) (by decide) rfl (fun ls hl => ?_)
          refine lv_goto (tgt := 4) hx hb dX1_eliminate_43 (by decide) ?_
          exact ih_4 (cl + 1) (rk + 1) M2 (by omega) (by omega) (by omega) (el_take hE hlt.2 hq1 hq2 eM1 hy eM2) H locs hP hD hS ls (lv_sub hl [3, 4, 1, 0] rfl)
  exact lp_4 (sz + 1) 0 0 M (by omega) (by omega) (by omega) (e_start _ _) H locs hP hD hS ls (lv_sub hl [2, 3, 1, 0] rfl)
end
section
/-! RecurrenceEngineModel: order, later terms, define, settle -/
set_option maxRecDepth 100000
abbrev wsX1_rank : List Cond := ws_ yX1_rank cX1_rank 3 (some .int)
set_option maxHeartbeats 4000000 in
set_option maxRecDepth 100000 in
/-- rank(): the order of the sequence in work -/
theorem metX1_rank (l : Launch) (D : va_G) (d : ClassId) (h qt qw qm qf : Nat) (T : Nat → Sr) (w : Sr) (M : Nat → Sr) (f : Sr) (a : Sr) (L : Nat) (hO : Ord a L) (hL : L ≤ 16) (hw : W32 w a) : gMi l yX1_rank wsX1_rank (rK 3 73) D d (MW h qt qw qm qf d) (T, w, M, f) h [] (fun r u => ∃ M1, u = (T, w, M1, f) ∧ r = iI (L : Int)) := by
  refine g_entryi (by decide) (Nat.le_of_ble_eq_true rfl) ?_
  intro p e s m args below meth c A Q hx hb hml hown hts hK hA hret H locs hP hD hS ls hl
  have hl : lv_has ls 3 [(0, .ref h)] := hl
  refine x_iconst hx hb dX1_rank_0 ?_
  refine lv_istore_n (lv' := [(1, .int (iI (0))), (0, .ref h)]) hx hb dX1_rank_1 rfl hl (by decide) rfl (fun ls hl => ?_)
  have lp_2 : ∀ (n : Nat) (i : Nat) (Mc : Nat → Sr) (hi : i ≤ 16) (hn : 16 < i + n) (hI : HkI w i Mc) (H : Heap) (locs : List Loc), va_P D vwCl (MW h qt qw qm qf d (T, w, Mc, f)) H → va_D A (MW h qt qw qm qf d (T, w, Mc, f)) → va_S A s.heap H locs → ∀ ls : Array Slot, lv_has ls 3 [(0, .ref h), (1, .int (iI ((i : Int))))] → W p l e (rK 3 73) s m args below meth c H locs 0 0 Q (F0 m 2 ls []) := by
    intro n
    induction n with
    | zero =>
      intro i Mc hi hn hI
      exfalso
      omega
    | succ n ih_2 =>
      intro i Mc hi hn hI H locs hP hD hS ls hl
      refine lv_iload_n hx hb dX1_rank_2 rfl (lv_at hl 1 rfl) ?_
      refine x_bipush hx hb dX1_rank_3 (by decide) ?_
      refine x_icmp_ge (tgt := 60) hx hb (by omega) dX1_rank_5 (by decide) (fun c_5 => ?_) (fun c_5 => ?_)
      · -- t 60
        have hM9 : ∀ k j, k < 16 → j < 16 → Mc k j = a (k + j) := fun k j q1 q2 => by rw [hI k j (by omega) (by omega), if_pos q2, hw _ (by omega)]
        refine lv_aload_n hx hb dX1_rank_60 rfl (lv_at hl 0 rfl) ?_
        refine x_bipush hx hb dX1_rank_61 (by decide) ?_
        refine g_calli ⟨hx, hb, hml, hown, hts⟩ (metX1_eliminate l D d h qt qw qm qf T w Mc f 16 L (by omega) hL (h_ind hO hL (by omega) (fun k j q1 q2 => hM9 k j q1 (by omega))) (h_dep hO hM9)) (cwV 1 hts (lw_V q239 q241 qs23 q34 q242) rfl rfl rfl (by decide +kernel) ⟨Nat.le_of_ble_eq_true rfl, Nat.le_of_ble_eq_true rfl⟩) (va_recv hK hP (ci := 1) (q0 := 0) rfl rfl) hK hA hP hD hS rfl hl.1 rfl (Nat.le_of_ble_eq_true rfl) dX1_rank_63 ⟨Nat.zero_le _, Nat.zero_le _⟩ (fun r u H locs hq hP hD hS => ?_)
        obtain ⟨M3, rfl, rfl, hE⟩ := hq
        exact hret _ _ H locs _ _ (⟨M3, rfl, rfl⟩) hP hD hS dX1_rank_66
      · -- f 8
        refine x_iconst hx hb dX1_rank_8 ?_
        refine lv_istore_n (lv' := [(2, .int (iI (0))), (0, .ref h), (1, .int (iI ((i : Int))))]) hx hb dX1_rank_9 rfl hl (by decide) rfl (fun ls hl => ?_)
        have lp_10 : ∀ (n : Nat) (j : Nat) (Mi : Nat → Sr) (hi2 : j ≤ 16) (hn2 : 16 < j + n) (hI2 : HkJ w i j Mi) (H : Heap) (locs : List Loc), va_P D vwCl (MW h qt qw qm qf d (T, w, Mi, f)) H → va_D A (MW h qt qw qm qf d (T, w, Mi, f)) → va_S A s.heap H locs → ∀ ls : Array Slot, lv_has ls 3 [(0, .ref h), (1, .int (iI ((i : Int)))), (2, .int (iI ((j : Int))))] → W p l e (rK 3 73) s m args below meth c H locs 0 0 Q (F0 m 10 ls []) := by
          intro n
          induction n with
          | zero =>
            intro j Mi hi2 hn2 hI2
            exfalso
            omega
          | succ n ih_10 =>
            intro j Mi hi2 hn2 hI2 H locs hP hD hS ls hl
            refine lv_iload_n hx hb dX1_rank_10 rfl (lv_at hl 2 rfl) ?_
            refine x_bipush hx hb dX1_rank_11 (by decide) ?_
            refine x_icmp_ge (tgt := 41) hx hb (by omega) dX1_rank_13 (by decide) (fun c_13 => ?_) (fun c_13 => ?_)
            · -- t 41
              refine lv_aload_n hx hb dX1_rank_41 rfl (lv_at hl 0 rfl) ?_
              refine m_getm hx hb hts hown hK hP dX1_rank_42 ?_
              refine lv_iload_n hx hb dX1_rank_45 rfl (lv_at hl 1 rfl) ?_
              refine x_bipush hx hb dX1_rank_46 (by decide) ?_
              refine x_imul hx hb dX1_rank_48 ?_
              refine x_bipush hx hb dX1_rank_49 (by decide) ?_
              refine x_iadd hx hb dX1_rank_51 ?_
              refine x_iconst hx hb dX1_rank_52 ?_
              refine m_mst hx hb hK hP hD hS (i) (16) (0) (rfl) (by omega) dX1_rank_53 (fun H locs hP hD hS => ?_)
              obtain ⟨M2, eM2⟩ : ∃ z, z = setB Mi (i) (16) (0) := ⟨_, rfl⟩
              rw [← eM2] at hP hD
              refine x_iinc (v := ((i + 1 : Nat) : Int)) (lv' := [(1, .int (iI (((i + 1 : Nat) : Int)))), (0, .ref h), (2, .int (iI ((j : Int))))]) hx hb dX1_rank_54 hl (k := 1) rfl (by omega) (by decide) rfl (fun ls hl => ?_)
              refine lv_goto (tgt := 2) hx hb dX1_rank_57 (by decide) ?_
              exact ih_2 (i + 1) M2 (by omega) (by omega) (hk_s hI2 (by omega) eM2) H locs hP hD hS ls (lv_sub hl [1, 0] rfl)
            · -- f 16
              refine lv_aload_n hx hb dX1_rank_16 rfl (lv_at hl 0 rfl) ?_
              refine m_getm hx hb hts hown hK hP dX1_rank_17 ?_
              refine lv_iload_n hx hb dX1_rank_20 rfl (lv_at hl 1 rfl) ?_
              refine x_bipush hx hb dX1_rank_21 (by decide) ?_
              refine x_imul hx hb dX1_rank_23 ?_
              refine lv_iload_n hx hb dX1_rank_24 rfl (lv_at hl 2 rfl) ?_
              refine x_iadd hx hb dX1_rank_25 ?_
              refine lv_aload_n hx hb dX1_rank_26 rfl (lv_at hl 0 rfl) ?_
              refine m_getw hx hb hts hown hK hP dX1_rank_27 ?_
              refine lv_iload_n hx hb dX1_rank_30 rfl (lv_at hl 1 rfl) ?_
              refine lv_iload_n hx hb dX1_rank_31 rfl (lv_at hl 2 rfl) ?_
              refine x_iadd hx hb dX1_rank_32 ?_
              refine m_wld hx hb hK hP (i + j) (by omega) dX1_rank_33 ?_
              refine m_mst hx hb hK hP hD hS (i) (j) (w (i + j)) (rfl) (by omega) dX1_rank_34 (fun H locs hP hD hS => ?_)
              obtain ⟨M1, eM1⟩ : ∃ z, z = setB Mi (i) (j) (w (i + j)) := ⟨_, rfl⟩
              rw [← eM1] at hP hD
              refine x_iinc (v := ((j + 1 : Nat) : Int)) (lv' := [(2, .int (iI (((j + 1 : Nat) : Int)))), (0, .ref h), (1, .int (iI ((i : Int))))]) hx hb dX1_rank_35 hl (k := 2) rfl (by omega) (by decide) rfl (fun ls hl => ?_)
              refine lv_goto (tgt := 10) hx hb dX1_rank_38 (by decide) ?_
              exact ih_10 (j + 1) M1 (by omega) (by omega) (hkj_s hI2 eM1) H locs hP hD hS ls (lv_sub hl [1, 2, 0] rfl)
        exact lp_10 17 0 Mc (by omega) (by omega) (hkj_0 hI) H locs hP hD hS ls (lv_sub hl [1, 2, 0] rfl)
  exact lp_2 17 0 M (by omega) (by omega) (hk_0 _ _) H locs hP hD hS ls (lv_sub hl [1, 0] rfl)
abbrev wsX1_extend : List Cond := ws_ yX1_extend cX1_extend 6 none
set_option maxHeartbeats 4000000 in
set_option maxRecDepth 100000 in
/-- extend(last) -/
theorem metX1_extend (l : Launch) (D : va_G) (d : ClassId) (h qt qw qm qf : Nat) (T : Nat → Sr) (w : Sr) (M : Nat → Sr) (f : Sr) (last : Nat) (a : Sr) (L : Nat) (hla : last ≤ 400) (hO : Ord a L) (hL : L ≤ 8) (hw : W32 w a) : gMv l yX1_extend wsX1_extend (rK 4 95) D d (MW h qt qw qm qf d) (T, w, M, f) h [.int (iI ((last : Int)))] (fun u => ∃ w1 M1 f1, u = (T, w1, M1, f1) ∧ ∀ n, n < 32 ∨ n ≤ last → w1 n = a n) := by
  refine g_entryv (by decide) (Nat.le_of_ble_eq_true rfl) ?_
  intro p e s m args below meth c A Q hx hb hml hown hts hK hA hret H locs hP hD hS ls hl
  have hl : lv_has ls 6 [(0, .ref h), (1, .int (iI ((last : Int))))] := hl
  refine lv_aload_n hx hb dX1_extend_0 rfl (lv_at hl 0 rfl) ?_
  refine g_calli ⟨hx, hb, hml, hown, hts⟩ (metX1_rank l D d h qt qw qm qf T w M f a L hO (by omega) hw) (cwV 0 hts (lw_V q235 q237 qs22 q34 q238) rfl rfl rfl (by decide +kernel) ⟨Nat.le_of_ble_eq_true rfl, Nat.le_of_ble_eq_true rfl⟩) (va_recv hK hP (ci := 1) (q0 := 0) rfl rfl) hK hA hP hD hS rfl hl.1 rfl (Nat.le_of_ble_eq_true rfl) dX1_extend_1 ⟨Nat.zero_le _, Nat.zero_le _⟩ (fun r u H locs hq hP hD hS => ?_)
  obtain ⟨M1, rfl, rfl⟩ := hq
  refine lv_istore_n (lv' := [(2, .int (iI ((L : Int)))), (0, .ref h), (1, .int (iI ((last : Int))))]) hx hb dX1_extend_4 rfl hl (by decide) rfl (fun ls hl => ?_)
  refine x_iconst hx hb dX1_extend_5 ?_
  refine lv_istore_n (lv' := [(3, .int (iI (0))), (2, .int (iI ((L : Int)))), (0, .ref h), (1, .int (iI ((last : Int))))]) hx hb dX1_extend_6 rfl hl (by decide) rfl (fun ls hl => ?_)
  have lp_7 : ∀ (n : Nat) (i : Nat) (Mc : Nat → Sr) (hi : i ≤ L) (hn : L < i + n) (hI : ExI w L i Mc) (H : Heap) (locs : List Loc), va_P D vwCl (MW h qt qw qm qf d (T, w, Mc, f)) H → va_D A (MW h qt qw qm qf d (T, w, Mc, f)) → va_S A s.heap H locs → ∀ ls : Array Slot, lv_has ls 6 [(0, .ref h), (1, .int (iI ((last : Int)))), (2, .int (iI ((L : Int)))), (3, .int (iI ((i : Int))))] → W p l e (rK 4 95) s m args below meth c H locs 0 0 Q (F0 m 7 ls []) := by
    intro n
    induction n with
    | zero =>
      intro i Mc hi hn hI
      exfalso
      omega
    | succ n ih_7 =>
      intro i Mc hi hn hI H locs hP hD hS ls hl
      refine lv_iload_n hx hb dX1_extend_7 rfl (lv_at hl 3 rfl) ?_
      refine lv_iload_n hx hb dX1_extend_8 rfl (lv_at hl 2 rfl) ?_
      refine x_icmp_ge (tgt := 85) hx hb (by omega) dX1_extend_9 (by decide) (fun c_9 => ?_) (fun c_9 => ?_)
      · -- t 85
        have hiL : i = L := by omega
        rw [hiL] at hI
        have hM9 : ∀ k j, k < L → j < L → Mc k j = a (k + j) := fun k j q1 q2 => by rw [hI k q1 j (by omega), if_pos q2, hw _ (by omega)]
        have hM8 : ∀ k, k < L → Mc k 16 = a (k + L) := fun k q1 => by rw [hI k q1 16 (by omega), if_neg (by omega), if_pos rfl, hw _ (by omega)]
        refine lv_aload_n hx hb dX1_extend_85 rfl (lv_at hl 0 rfl) ?_
        refine lv_iload_n hx hb dX1_extend_86 rfl (lv_at hl 2 rfl) ?_
        refine g_calli ⟨hx, hb, hml, hown, hts⟩ (metX1_eliminate l D d h qt qw qm qf T w Mc f L L (by omega) (Nat.le_refl L) (h_ind hO (Nat.le_refl L) (by omega) hM9) (fun j q1 q2 => absurd q2 (by omega))) (cwV 1 hts (lw_V q239 q241 qs23 q34 q242) rfl rfl rfl (by decide +kernel) ⟨Nat.le_of_ble_eq_true rfl, Nat.le_of_ble_eq_true rfl⟩) (va_recv hK hP (ci := 1) (q0 := 0) rfl rfl) hK hA hP hD hS rfl hl.1 rfl (Nat.le_of_ble_eq_true rfl) dX1_extend_87 ⟨Nat.zero_le _, Nat.zero_le _⟩ (fun r u H locs hq hP hD hS => ?_)
        obtain ⟨M4, rfl, rfl, hE⟩ := hq
        obtain ⟨ff, hf⟩ := hO.1
        have hsol := e_solve (by omega) hE (h_sol (by omega) hf hM9 hM8)
        refine lv_pop hx hb dX1_extend_90 rfl ?_
        refine x_iconst hx hb dX1_extend_91 ?_
        refine lv_istore_n (lv' := [(3, .int (iI (0))), (0, .ref h), (1, .int (iI ((last : Int)))), (2, .int (iI ((L : Int))))]) hx hb dX1_extend_92 rfl hl (by decide) rfl (fun ls hl => ?_)
        have lp_93 : ∀ (n : Nat) (i2 : Nat) (fc : Sr) (hi3 : i2 ≤ L) (hn3 : L < i2 + n) (hF : WI fc ff i2) (H : Heap) (locs : List Loc), va_P D vwCl (MW h qt qw qm qf d (T, w, M4, fc)) H → va_D A (MW h qt qw qm qf d (T, w, M4, fc)) → va_S A s.heap H locs → ∀ ls : Array Slot, lv_has ls 6 [(0, .ref h), (1, .int (iI ((last : Int)))), (2, .int (iI ((L : Int)))), (3, .int (iI ((i2 : Int))))] → W p l e (rK 4 95) s m args below meth c H locs 0 0 Q (F0 m 93 ls []) := by
          intro n
          induction n with
          | zero =>
            intro i2 fc hi3 hn3 hF
            exfalso
            omega
          | succ n ih_93 =>
            intro i2 fc hi3 hn3 hF H locs hP hD hS ls hl
            refine lv_iload_n hx hb dX1_extend_93 rfl (lv_at hl 3 rfl) ?_
            refine lv_iload_n hx hb dX1_extend_94 rfl (lv_at hl 2 rfl) ?_
            refine x_icmp_ge (tgt := 122) hx hb (by omega) dX1_extend_95 (by decide) (fun c_95 => ?_) (fun c_95 => ?_)
            · -- t 122
              have hiL2 : i2 = L := by omega
              rw [hiL2] at hF
              refine x_bipush hx hb dX1_extend_122 (by decide) ?_
              refine lv_istore_n (lv' := [(3, .int (iI (32))), (0, .ref h), (1, .int (iI ((last : Int)))), (2, .int (iI ((L : Int))))]) hx hb dX1_extend_124 rfl hl (by decide) rfl (fun ls hl => ?_)
              have lp_125 : ∀ (n : Nat) (mm : Nat) (wc : Sr) (hi4 : 32 ≤ mm ∧ mm ≤ 401) (hn4 : 401 < mm + n) (hW : WI wc a mm) (H : Heap) (locs : List Loc), va_P D vwCl (MW h qt qw qm qf d (T, wc, M4, fc)) H → va_D A (MW h qt qw qm qf d (T, wc, M4, fc)) → va_S A s.heap H locs → ∀ ls : Array Slot, lv_has ls 6 [(0, .ref h), (1, .int (iI ((last : Int)))), (2, .int (iI ((L : Int)))), (3, .int (iI ((mm : Int))))] → W p l e (rK 4 95) s m args below meth c H locs 0 0 Q (F0 m 125 ls []) := by
                intro n
                induction n with
                | zero =>
                  intro mm wc hi4 hn4 hW
                  exfalso
                  omega
                | succ n ih_125 =>
                  intro mm wc hi4 hn4 hW H locs hP hD hS ls hl
                  refine lv_iload_n hx hb dX1_extend_125 rfl (lv_at hl 3 rfl) ?_
                  refine lv_iload_n hx hb dX1_extend_126 rfl (lv_at hl 1 rfl) ?_
                  refine x_icmp_gt (tgt := 189) hx hb (by omega) dX1_extend_127 (by decide) (fun c_127 => ?_) (fun c_127 => ?_)
                  · -- t 189
                    exact hret _ H locs _ _ (⟨wc, M4, fc, rfl, fun j hj => hW j (by omega)⟩) hP hD hS dX1_extend_189
                  · -- f 130
                    refine x_iconst hx hb dX1_extend_130 ?_
                    refine lv_istore (lv' := [(4, .int (iI (0))), (0, .ref h), (1, .int (iI ((last : Int)))), (2, .int (iI ((L : Int)))), (3, .int (iI ((mm : Int))))]) hx hb dX1_extend_131 hl (by decide) rfl (fun ls hl => ?_)
                    refine x_iconst hx hb dX1_extend_133 ?_
                    refine lv_istore (lv' := [(5, .int (iI (0))), (4, .int (iI (0))), (0, .ref h), (1, .int (iI ((last : Int)))), (2, .int (iI ((L : Int)))), (3, .int (iI ((mm : Int))))]) hx hb dX1_extend_134 hl (by decide) rfl (fun ls hl => ?_)
                    have lp_136 : ∀ (n : Nat) (k : Nat) (X : Int) (hi5 : k ≤ L) (hn5 : L < k + n) (hX : 0 ≤ X ∧ X ≤ 10000 * (k : Int)) (hT : toF X = su (fun j => fc j * wc (mm - L + j)) k) (H : Heap) (locs : List Loc), va_P D vwCl (MW h qt qw qm qf d (T, wc, M4, fc)) H → va_D A (MW h qt qw qm qf d (T, wc, M4, fc)) → va_S A s.heap H locs → ∀ ls : Array Slot, lv_has ls 6 [(0, .ref h), (1, .int (iI ((last : Int)))), (2, .int (iI ((L : Int)))), (3, .int (iI ((mm : Int)))), (4, .int (iI (X))), (5, .int (iI ((k : Int))))] → W p l e (rK 4 95) s m args below meth c H locs 0 0 Q (F0 m 136 ls []) := by
                      intro n
                      induction n with
                      | zero =>
                        intro k X hi5 hn5 hX hT
                        exfalso
                        omega
                      | succ n ih_136 =>
                        intro k X hi5 hn5 hX hT H locs hP hD hS ls hl
                        refine lv_iload hx hb dX1_extend_136 (lv_at hl 5 rfl) ?_
                        refine lv_iload_n hx hb dX1_extend_138 rfl (lv_at hl 2 rfl) ?_
                        refine x_icmp_ge (tgt := 172) hx hb (by omega) dX1_extend_139 (by decide) (fun c_139 => ?_) (fun c_139 => ?_)
                        · -- t 172
                          have hkL : k = L := by omega
                          rw [hkL] at hT
                          have hv9 : toF X = a mm := by rw [hT]; exact ext_v hf hF hW (by omega)
                          refine lv_aload_n hx hb dX1_extend_172 rfl (lv_at hl 0 rfl) ?_
                          refine m_getw hx hb hts hown hK hP dX1_extend_173 ?_
                          refine lv_iload_n hx hb dX1_extend_176 rfl (lv_at hl 3 rfl) ?_
                          refine lv_iload hx hb dX1_extend_177 (lv_at hl 4 rfl) ?_
                          refine x_bipush hx hb dX1_extend_179 (by decide) ?_
                          refine x_irem hx hb (a mm) (hv9) (by omega) dX1_extend_181 ?_
                          refine m_wst hx hb hK hP hD hS (mm) (a mm) (rfl) (by omega) dX1_extend_182 (fun H locs hP hD hS => ?_)
                          obtain ⟨w2, ew2⟩ : ∃ z, z = setS wc (mm) (a mm) := ⟨_, rfl⟩
                          rw [← ew2] at hP hD
                          refine x_iinc (v := ((mm + 1 : Nat) : Int)) (lv' := [(3, .int (iI (((mm + 1 : Nat) : Int)))), (0, .ref h), (1, .int (iI ((last : Int)))), (2, .int (iI ((L : Int)))), (4, .int (iI (X))), (5, .int (iI ((k : Int))))]) hx hb dX1_extend_183 hl (k := 3) rfl (by omega) (by decide) rfl (fun ls hl => ?_)
                          refine lv_goto (tgt := 125) hx hb dX1_extend_186 (by decide) ?_
                          exact ih_125 (mm + 1) w2 (by omega) (by omega) (wi_s hW ew2 rfl) H locs hP hD hS ls (lv_sub hl [1, 2, 3, 0] rfl)
                        · -- f 142
                          refine lv_iload hx hb dX1_extend_142 (lv_at hl 4 rfl) ?_
                          refine lv_aload_n hx hb dX1_extend_144 rfl (lv_at hl 0 rfl) ?_
                          refine m_getf hx hb hts hown hK hP dX1_extend_145 ?_
                          refine lv_iload hx hb dX1_extend_148 (lv_at hl 5 rfl) ?_
                          refine m_fld hx hb hK hP (k) (by omega) dX1_extend_150 ?_
                          refine lv_aload_n hx hb dX1_extend_151 rfl (lv_at hl 0 rfl) ?_
                          refine m_getw hx hb hts hown hK hP dX1_extend_152 ?_
                          refine lv_iload_n hx hb dX1_extend_155 rfl (lv_at hl 3 rfl) ?_
                          refine lv_iload_n hx hb dX1_extend_156 rfl (lv_at hl 2 rfl) ?_
                          refine x_isub hx hb dX1_extend_157 ?_
                          refine lv_iload hx hb dX1_extend_158 (lv_at hl 5 rfl) ?_
                          refine x_iadd hx hb dX1_extend_160 ?_
                          refine m_wld hx hb hK hP (mm - L + k) (by omega) dX1_extend_161 ?_
                          refine x_imul hx hb dX1_extend_162 ?_
                          refine x_iadd hx hb dX1_extend_163 ?_
                          refine lv_istore (lv' := [(4, .int (iI ((X + (((fc (k)).val : Int) * ((wc (mm - L + k)).val : Int)))))), (0, .ref h), (1, .int (iI ((last : Int)))), (2, .int (iI ((L : Int)))), (3, .int (iI ((mm : Int)))), (5, .int (iI ((k : Int))))]) hx hb dX1_extend_164 hl (by decide) rfl (fun ls hl => ?_)
                          refine x_iinc (v := ((k + 1 : Nat) : Int)) (lv' := [(5, .int (iI (((k + 1 : Nat) : Int)))), (4, .int (iI ((X + (((fc (k)).val : Int) * ((wc (mm - L + k)).val : Int)))))), (0, .ref h), (1, .int (iI ((last : Int)))), (2, .int (iI ((L : Int)))), (3, .int (iI ((mm : Int))))]) hx hb dX1_extend_166 hl (k := 5) rfl (by omega) (by decide) rfl (fun ls hl => ?_)
                          refine lv_goto (tgt := 136) hx hb dX1_extend_169 (by decide) ?_
                          exact ih_136 (k + 1) (X + ((fc k).val : Int) * ((wc (mm - L + k)).val : Int)) (by omega) (by omega) (by have := fp_mul_lt (fc k) (wc (mm - L + k)); omega) (by rw [toF_add, toF_mulV, hT, su_s]) H locs hP hD hS ls (lv_sub hl [2, 3, 4, 5, 1, 0] rfl)
                    exact lp_136 (L + 1) 0 0 (by omega) (by omega) (by omega) (by rw [toF_0, su_0]) H locs hP hD hS ls (lv_sub hl [2, 3, 4, 5, 1, 0] rfl)
              exact lp_125 402 32 w (by omega) (by omega) hw H locs hP hD hS ls (lv_sub hl [1, 2, 3, 0] rfl)
            · -- f 98
              refine lv_aload_n hx hb dX1_extend_98 rfl (lv_at hl 0 rfl) ?_
              refine m_getf hx hb hts hown hK hP dX1_extend_99 ?_
              refine lv_iload_n hx hb dX1_extend_102 rfl (lv_at hl 3 rfl) ?_
              refine lv_aload_n hx hb dX1_extend_103 rfl (lv_at hl 0 rfl) ?_
              refine m_getm hx hb hts hown hK hP dX1_extend_104 ?_
              refine lv_iload_n hx hb dX1_extend_107 rfl (lv_at hl 3 rfl) ?_
              refine x_bipush hx hb dX1_extend_108 (by decide) ?_
              refine x_imul hx hb dX1_extend_110 ?_
              refine x_bipush hx hb dX1_extend_111 (by decide) ?_
              refine x_iadd hx hb dX1_extend_113 ?_
              refine m_mld hx hb hK hP (i2) (16) (by omega) dX1_extend_114 ?_
              refine m_fst hx hb hK hP hD hS (i2) (M4 i2 16) (rfl) (by omega) dX1_extend_115 (fun H locs hP hD hS => ?_)
              obtain ⟨f1, ef1⟩ : ∃ z, z = setS fc (i2) (M4 i2 16) := ⟨_, rfl⟩
              rw [← ef1] at hP hD
              refine x_iinc (v := ((i2 + 1 : Nat) : Int)) (lv' := [(3, .int (iI (((i2 + 1 : Nat) : Int)))), (0, .ref h), (1, .int (iI ((last : Int)))), (2, .int (iI ((L : Int))))]) hx hb dX1_extend_116 hl (k := 3) rfl (by omega) (by decide) rfl (fun ls hl => ?_)
              refine lv_goto (tgt := 93) hx hb dX1_extend_119 (by decide) ?_
              exact ih_93 (i2 + 1) f1 (by omega) (by omega) (wi_s hF ef1 (hsol i2 (by omega))) H locs hP hD hS ls (lv_sub hl [1, 2, 3, 0] rfl)
        exact lp_93 (L + 1) 0 f (by omega) (by omega) (wi_0 _ _) H locs hP hD hS ls (lv_sub hl [1, 2, 3, 0] rfl)
      · -- f 12
        refine x_iconst hx hb dX1_extend_12 ?_
        refine lv_istore (lv' := [(4, .int (iI (0))), (0, .ref h), (1, .int (iI ((last : Int)))), (2, .int (iI ((L : Int)))), (3, .int (iI ((i : Int))))]) hx hb dX1_extend_13 hl (by decide) rfl (fun ls hl => ?_)
        have lp_15 : ∀ (n : Nat) (j : Nat) (Mi : Nat → Sr) (hi2 : j ≤ 17) (hn2 : 17 < j + n) (hI2 : ExJ w L i j Mi) (H : Heap) (locs : List Loc), va_P D vwCl (MW h qt qw qm qf d (T, w, Mi, f)) H → va_D A (MW h qt qw qm qf d (T, w, Mi, f)) → va_S A s.heap H locs → ∀ ls : Array Slot, lv_has ls 6 [(0, .ref h), (1, .int (iI ((last : Int)))), (2, .int (iI ((L : Int)))), (3, .int (iI ((i : Int)))), (4, .int (iI ((j : Int))))] → W p l e (rK 4 95) s m args below meth c H locs 0 0 Q (F0 m 15 ls []) := by
          intro n
          induction n with
          | zero =>
            intro j Mi hi2 hn2 hI2
            exfalso
            omega
          | succ n ih_15 =>
            intro j Mi hi2 hn2 hI2 H locs hP hD hS ls hl
            refine lv_iload hx hb dX1_extend_15 (lv_at hl 4 rfl) ?_
            refine x_bipush hx hb dX1_extend_17 (by decide) ?_
            refine x_icmp_ge (tgt := 59) hx hb (by omega) dX1_extend_19 (by decide) (fun c_19 => ?_) (fun c_19 => ?_)
            · -- t 59
              refine lv_aload_n hx hb dX1_extend_59 rfl (lv_at hl 0 rfl) ?_
              refine m_getm hx hb hts hown hK hP dX1_extend_60 ?_
              refine lv_iload_n hx hb dX1_extend_63 rfl (lv_at hl 3 rfl) ?_
              refine x_bipush hx hb dX1_extend_64 (by decide) ?_
              refine x_imul hx hb dX1_extend_66 ?_
              refine x_bipush hx hb dX1_extend_67 (by decide) ?_
              refine x_iadd hx hb dX1_extend_69 ?_
              refine lv_aload_n hx hb dX1_extend_70 rfl (lv_at hl 0 rfl) ?_
              refine m_getw hx hb hts hown hK hP dX1_extend_71 ?_
              refine lv_iload_n hx hb dX1_extend_74 rfl (lv_at hl 3 rfl) ?_
              refine lv_iload_n hx hb dX1_extend_75 rfl (lv_at hl 2 rfl) ?_
              refine x_iadd hx hb dX1_extend_76 ?_
              refine m_wld hx hb hK hP (i + L) (by omega) dX1_extend_77 ?_
              refine m_mst hx hb hK hP hD hS (i) (16) (w (i + L)) (rfl) (by omega) dX1_extend_78 (fun H locs hP hD hS => ?_)
              obtain ⟨M3, eM3⟩ : ∃ z, z = setB Mi (i) (16) (w (i + L)) := ⟨_, rfl⟩
              rw [← eM3] at hP hD
              refine x_iinc (v := ((i + 1 : Nat) : Int)) (lv' := [(3, .int (iI (((i + 1 : Nat) : Int)))), (0, .ref h), (1, .int (iI ((last : Int)))), (2, .int (iI ((L : Int)))), (4, .int (iI ((j : Int))))]) hx hb dX1_extend_79 hl (k := 3) rfl (by omega) (by decide) rfl (fun ls hl => ?_)
              refine lv_goto (tgt := 7) hx hb dX1_extend_82 (by decide) ?_
              exact ih_7 (i + 1) M3 (by omega) (by omega) (ex_s hI2 (by omega) hL eM3) H locs hP hD hS ls (lv_sub hl [1, 2, 3, 0] rfl)
            · -- f 22
              refine lv_aload_n hx hb dX1_extend_22 rfl (lv_at hl 0 rfl) ?_
              refine m_getm hx hb hts hown hK hP dX1_extend_23 ?_
              refine lv_iload_n hx hb dX1_extend_26 rfl (lv_at hl 3 rfl) ?_
              refine x_bipush hx hb dX1_extend_27 (by decide) ?_
              refine x_imul hx hb dX1_extend_29 ?_
              refine lv_iload hx hb dX1_extend_30 (lv_at hl 4 rfl) ?_
              refine x_iadd hx hb dX1_extend_32 ?_
              refine lv_iload hx hb dX1_extend_33 (lv_at hl 4 rfl) ?_
              refine lv_iload_n hx hb dX1_extend_35 rfl (lv_at hl 2 rfl) ?_
              refine x_icmp_ge (tgt := 51) hx hb (by omega) dX1_extend_36 (by decide) (fun c_36 => ?_) (fun c_36 => ?_)
              · -- t 51
                refine x_iconst hx hb dX1_extend_51 ?_
                refine m_mst hx hb hK hP hD hS (i) (j) (0) (rfl) (by omega) dX1_extend_52 (fun H locs hP hD hS => ?_)
                obtain ⟨M2, eM2⟩ : ∃ z, z = setB Mi (i) (j) (0) := ⟨_, rfl⟩
                rw [← eM2] at hP hD
                refine x_iinc (v := ((j + 1 : Nat) : Int)) (lv' := [(4, .int (iI (((j + 1 : Nat) : Int)))), (0, .ref h), (1, .int (iI ((last : Int)))), (2, .int (iI ((L : Int)))), (3, .int (iI ((i : Int))))]) hx hb dX1_extend_53 hl (k := 4) rfl (by omega) (by decide) rfl (fun ls hl => ?_)
                refine lv_goto (tgt := 15) hx hb dX1_extend_56 (by decide) ?_
                exact ih_15 (j + 1) M2 (by omega) (by omega) (exj_s hI2 eM2 (by rw [if_neg (by omega)])) H locs hP hD hS ls (lv_sub hl [1, 2, 3, 4, 0] rfl)
              · -- f 39
                refine lv_aload_n hx hb dX1_extend_39 rfl (lv_at hl 0 rfl) ?_
                refine m_getw hx hb hts hown hK hP dX1_extend_40 ?_
                refine lv_iload_n hx hb dX1_extend_43 rfl (lv_at hl 3 rfl) ?_
                refine lv_iload hx hb dX1_extend_44 (lv_at hl 4 rfl) ?_
                refine x_iadd hx hb dX1_extend_46 ?_
                refine m_wld hx hb hK hP (i + j) (by omega) dX1_extend_47 ?_
                refine lv_goto (tgt := 52) hx hb dX1_extend_48 (by decide) ?_
                refine m_mst hx hb hK hP hD hS (i) (j) (w (i + j)) (rfl) (by omega) dX1_extend_52 (fun H locs hP hD hS => ?_)
                obtain ⟨M2, eM2⟩ : ∃ z, z = setB Mi (i) (j) (w (i + j)) := ⟨_, rfl⟩
                rw [← eM2] at hP hD
                refine x_iinc (v := ((j + 1 : Nat) : Int)) (lv' := [(4, .int (iI (((j + 1 : Nat) : Int)))), (0, .ref h), (1, .int (iI ((last : Int)))), (2, .int (iI ((L : Int)))), (3, .int (iI ((i : Int))))]) hx hb dX1_extend_53 hl (k := 4) rfl (by omega) (by decide) rfl (fun ls hl => ?_)
                refine lv_goto (tgt := 15) hx hb dX1_extend_56 (by decide) ?_
                exact ih_15 (j + 1) M2 (by omega) (by omega) (exj_s hI2 eM2 (by rw [if_pos (by omega)])) H locs hP hD hS ls (lv_sub hl [1, 2, 3, 4, 0] rfl)
        exact lp_15 18 0 Mc (by omega) (by omega) (exj_0 hI) H locs hP hD hS ls (lv_sub hl [1, 2, 3, 4, 0] rfl)
  exact lp_7 (L + 1) 0 M1 (by omega) (by omega) (ex_0 _ _ _) H locs hP hD hS ls (lv_sub hl [2, 3, 1, 0] rfl)
abbrev wsX1_digit : List Cond := ws_ yX1_digit cX1_digit 5 (some .int)
set_option maxHeartbeats 4000000 in
set_option maxRecDepth 100000 in
/-- digit(x, place) -/
theorem metX1_digit (l : Launch) (D : va_G) (d : ClassId) (h qt qw qm qf : Nat) (T : Nat → Sr) (w : Sr) (M : Nat → Sr) (f : Sr) (z : Int) (hz : -2147483648 ≤ z ∧ z < 2147483648) (pl : Nat) (hp : pl ≤ 31) : gMi l yX1_digit wsX1_digit (rK 0 0) D d (MW h qt qw qm qf d) (T, w, M, f) h [.int (iI (z)), .int (iI ((pl : Int)))] (fun r u => r = iI ((dg (z % 2147483648) pl).val : Int) ∧ u = (T, w, M, f)) := by
  refine g_entryi (by decide) (Nat.le_of_ble_eq_true rfl) ?_
  intro p e s m args below meth c A Q hx hb hml hown hts hK hA hret H locs hP hD hS ls hl
  have hl : lv_has ls 5 [(0, .ref h), (1, .int (iI (z))), (2, .int (iI ((pl : Int))))] := hl
  refine lv_iload_n hx hb dX1_digit_0 rfl (lv_at hl 1 rfl) ?_
  refine x_ldc (z := 2147483647) hx hb hown (hts _ q222) (by decide) dX1_digit_1 ?_
  refine x_iand31 hx hb hz dX1_digit_3 ?_
  refine lv_istore_n (lv' := [(3, .int (iI ((z % 2147483648)))), (0, .ref h), (1, .int (iI (z))), (2, .int (iI ((pl : Int))))]) hx hb dX1_digit_4 rfl hl (by decide) rfl (fun ls hl => ?_)
  refine x_iconst hx hb dX1_digit_5 ?_
  refine lv_istore (lv' := [(4, .int (iI (0))), (3, .int (iI ((z % 2147483648)))), (0, .ref h), (1, .int (iI (z))), (2, .int (iI ((pl : Int))))]) hx hb dX1_digit_6 hl (by decide) rfl (fun ls hl => ?_)
  have lp_8 : ∀ (n : Nat) (i : Nat) (hi : i ≤ pl) (hn : pl < i + n) (H : Heap) (locs : List Loc), va_P D vwCl (MW h qt qw qm qf d (T, w, M, f)) H → va_D A (MW h qt qw qm qf d (T, w, M, f)) → va_S A s.heap H locs → ∀ ls : Array Slot, lv_has ls 5 [(0, .ref h), (1, .int (iI (z))), (2, .int (iI ((pl : Int)))), (3, .int (iI (dgq (z % 2147483648) i))), (4, .int (iI ((i : Int))))] → W p l e (rK 0 0) s m args below meth c H locs 0 0 Q (F0 m 8 ls []) := by
    intro n
    induction n with
    | zero =>
      intro i hi hn
      exfalso
      omega
    | succ n ih_8 =>
      intro i hi hn H locs hP hD hS ls hl
      refine lv_iload hx hb dX1_digit_8 (lv_at hl 4 rfl) ?_
      refine lv_iload_n hx hb dX1_digit_10 rfl (lv_at hl 2 rfl) ?_
      refine x_icmp_ge (tgt := 25) hx hb (by omega) dX1_digit_11 (by decide) (fun c_11 => ?_) (fun c_11 => ?_)
      · -- t 25
        refine lv_iload_n hx hb dX1_digit_25 rfl (lv_at hl 3 rfl) ?_
        refine x_bipush hx hb dX1_digit_26 (by decide) ?_
        refine x_irem hx hb (dg (z % 2147483648) i) (rfl) (dgq_bd (by omega) i) dX1_digit_28 ?_
        have hip : i = pl := by omega
        exact hret _ _ H locs _ _ (⟨by rw [hip], rfl⟩) hP hD hS dX1_digit_29
      · -- f 14
        refine lv_iload_n hx hb dX1_digit_14 rfl (lv_at hl 3 rfl) ?_
        refine x_bipush hx hb dX1_digit_15 (by decide) ?_
        refine x_idiv hx hb (dgq_bd (by omega) i) dX1_digit_17 ?_
        refine lv_istore_n (lv' := [(3, .int (iI ((dgq (z % 2147483648) i / 101)))), (0, .ref h), (1, .int (iI (z))), (2, .int (iI ((pl : Int)))), (4, .int (iI ((i : Int))))]) hx hb dX1_digit_18 rfl hl (by decide) rfl (fun ls hl => ?_)
        refine x_iinc (v := ((i + 1 : Nat) : Int)) (lv' := [(4, .int (iI (((i + 1 : Nat) : Int)))), (3, .int (iI ((dgq (z % 2147483648) i / 101)))), (0, .ref h), (1, .int (iI (z))), (2, .int (iI ((pl : Int))))]) hx hb dX1_digit_19 hl (k := 4) rfl (by omega) (by decide) rfl (fun ls hl => ?_)
        refine lv_goto (tgt := 8) hx hb dX1_digit_22 (by decide) ?_
        exact ih_8 (i + 1) (by omega) (by omega) H locs hP hD hS ls (lv_sub hl [2, 3, 4, 1, 0] rfl)
  exact lp_8 (pl + 1) 0 (by omega) (by omega) H locs hP hD hS ls (lv_sub hl [2, 3, 4, 1, 0] rfl)
abbrev wsX1_define : List Cond := ws_ yX1_define cX1_define 9 (some .int)
set_option maxHeartbeats 4000000 in
set_option maxRecDepth 100000 in
/-- define(s, k, coefficients, beginning) -/
theorem metX1_define (l : Launch) (D : va_G) (d : ClassId) (h qt qw qm qf : Nat) (T : Nat → Sr) (w : Sr) (M : Nat → Sr) (f : Sr) (a : Nat → Sr) (hM : MInv T a) (z1 : Int) (hz1 : -2147483648 ≤ z1 ∧ z1 < 2147483648) (z2 : Int) (hz2 : -2147483648 ≤ z2 ∧ z2 < 2147483648) (z3 : Int) (hz3 : -2147483648 ≤ z3 ∧ z3 < 2147483648) (z4 : Int) (hz4 : -2147483648 ≤ z4 ∧ z4 < 2147483648) (an : Sr) (hDef : ∀ s0 k0 : Nat, s0 < 4 → 1 ≤ k0 → k0 ≤ 4 → z1 = (s0 : Int) → z2 = (k0 : Int) → DefS k0 (z3 % 2147483648) (z4 % 2147483648) an) : gMi l yX1_define wsX1_define (rK 6 150) D d (MW h qt qw qm qf d) (T, w, M, f) h [.int (iI (z1)), .int (iI (z2)), .int (iI (z3)), .int (iI (z4))] (fun r u => ∃ T1 w1 M1 f1, u = (T1, w1, M1, f1) ∧ (((z1 < 0 ∨ 3 < z1) ∧ r = iI (-1) ∧ T1 = T) ∨ ((0 ≤ z1 ∧ z1 ≤ 3) ∧ (z2 < 1 ∨ 4 < z2) ∧ r = iI (-2) ∧ T1 = T) ∨ (∃ s0 k0 : Nat, s0 < 4 ∧ 1 ≤ k0 ∧ k0 ≤ 4 ∧ z1 = (s0 : Int) ∧ z2 = (k0 : Int) ∧ r = iI 0 ∧ MInv T1 (upA a s0 an)))) := by
  refine g_entryi (by decide) (Nat.le_of_ble_eq_true rfl) ?_
  intro p e s m args below meth c A Q hx hb hml hown hts hK hA hret H locs hP hD hS ls hl
  have hl : lv_has ls 9 [(0, .ref h), (1, .int (iI (z1))), (2, .int (iI (z2))), (3, .int (iI (z3))), (4, .int (iI (z4)))] := hl
  refine lv_aload_n hx hb dX1_define_0 rfl (lv_at hl 0 rfl) ?_
  refine lv_iload_n hx hb dX1_define_1 rfl (lv_at hl 1 rfl) ?_
  refine g_calli ⟨hx, hb, hml, hown, hts⟩ (metX1_bad l D d h qt qw qm qf T w M f z1 hz1) (cwV 1 hts (lw_V q214 q216 qs18 q34 q217) rfl rfl rfl (by decide +kernel) ⟨Nat.le_of_ble_eq_true rfl, Nat.le_of_ble_eq_true rfl⟩) (va_recv hK hP (ci := 1) (q0 := 0) rfl rfl) hK hA hP hD hS rfl hl.1 rfl (Nat.le_of_ble_eq_true rfl) dX1_define_2 ⟨Nat.zero_le _, Nat.zero_le _⟩ (fun r u H locs hq hP hD hS => ?_)
  obtain ⟨rfl, rfl⟩ := hq
  refine x_if_eq (tgt := 10) hx hb (by have := bd_bd z1; omega) dX1_define_5 (by decide) (fun c_5 => ?_) (fun c_5 => ?_)
  · -- t 10
    obtain ⟨s0, rfl⟩ : ∃ q : Nat, z1 = (q : Int) := ⟨z1.toNat, by have := bd_y (by assumption : bd z1 = 0); omega⟩
    have hs04 : s0 < 4 := by have := bd_y (by assumption : bd (s0 : Int) = 0); omega
    refine lv_iload_n hx hb dX1_define_10 rfl (lv_at hl 2 rfl) ?_
    refine x_iconst hx hb dX1_define_11 ?_
    refine x_icmp_lt (tgt := 20) hx hb (by omega) dX1_define_12 (by decide) (fun c_12 => ?_) (fun c_12 => ?_)
    · -- t 20
      refine x_bipush hx hb dX1_define_20 (by decide) ?_
      exact hret _ _ H locs _ _ (⟨T, w, M, f, rfl, Or.inr (Or.inl ⟨by omega, by omega, rfl, rfl⟩)⟩) hP hD hS dX1_define_22
    · -- f 15
      refine lv_iload_n hx hb dX1_define_15 rfl (lv_at hl 2 rfl) ?_
      refine x_iconst hx hb dX1_define_16 ?_
      refine x_icmp_le (tgt := 23) hx hb (by omega) dX1_define_17 (by decide) (fun c_17 => ?_) (fun c_17 => ?_)
      · -- t 23
        obtain ⟨k0, rfl⟩ : ∃ q : Nat, z2 = (q : Int) := ⟨z2.toNat, by omega⟩
        have hDf := hDef s0 k0 hs04 (by omega) (by omega) rfl rfl
        refine x_iconst hx hb dX1_define_23 ?_
        refine lv_istore (lv' := [(5, .int (iI (0))), (0, .ref h), (1, .int (iI ((s0 : Int)))), (2, .int (iI ((k0 : Int)))), (3, .int (iI (z3))), (4, .int (iI (z4)))]) hx hb dX1_define_24 hl (by decide) rfl (fun ls hl => ?_)
        have lp_26 : ∀ (n : Nat) (mm : Nat) (wc : Sr) (hi : mm ≤ 32) (hn : 32 < mm + n) (hW : WI wc an mm) (H : Heap) (locs : List Loc), va_P D vwCl (MW h qt qw qm qf d (T, wc, M, f)) H → va_D A (MW h qt qw qm qf d (T, wc, M, f)) → va_S A s.heap H locs → ∀ ls : Array Slot, lv_has ls 9 [(0, .ref h), (1, .int (iI ((s0 : Int)))), (2, .int (iI ((k0 : Int)))), (3, .int (iI (z3))), (4, .int (iI (z4))), (5, .int (iI ((mm : Int))))] → W p l e (rK 6 150) s m args below meth c H locs 0 0 Q (F0 m 26 ls []) := by
          intro n
          induction n with
          | zero =>
            intro mm wc hi hn hW
            exfalso
            omega
          | succ n ih_26 =>
            intro mm wc hi hn hW H locs hP hD hS ls hl
            refine lv_iload hx hb dX1_define_26 (lv_at hl 5 rfl) ?_
            refine x_bipush hx hb dX1_define_28 (by decide) ?_
            refine x_icmp_ge (tgt := 121) hx hb (by omega) dX1_define_30 (by decide) (fun c_30 => ?_) (fun c_30 => ?_)
            · -- t 121
              refine lv_aload_n hx hb dX1_define_121 rfl (lv_at hl 0 rfl) ?_
              refine lv_iload_n hx hb dX1_define_122 rfl (lv_at hl 1 rfl) ?_
              refine g_callv ⟨hx, hb, hml, hown, hts⟩ (metX1_store l D d h qt qw qm qf T wc M f s0 hs04) (cwV 1 hts (lw_V q223 q225 qs20 q34 q226) rfl rfl rfl (by decide +kernel) ⟨Nat.le_of_ble_eq_true rfl, Nat.le_of_ble_eq_true rfl⟩) (va_recv hK hP (ci := 1) (q0 := 0) rfl rfl) hK hA hP hD hS rfl hl.1 rfl (Nat.le_of_ble_eq_true rfl) dX1_define_123 ⟨Nat.zero_le _, Nat.zero_le _⟩ (fun u H locs hq hP hD hS => ?_)
              obtain ⟨T1, rfl, eT1⟩ := hq
              refine x_iconst hx hb dX1_define_126 ?_
              exact hret _ _ H locs _ _ (⟨T1, wc, M, f, rfl, Or.inr (Or.inr ⟨s0, k0, hs04, by omega, by omega, rfl, rfl, rfl, by rw [eT1]; exact minv_set hM (wi_32 hW (by omega))⟩)⟩) hP hD hS dX1_define_127
            · -- f 33
              refine lv_iload hx hb dX1_define_33 (lv_at hl 5 rfl) ?_
              refine lv_iload_n hx hb dX1_define_35 rfl (lv_at hl 2 rfl) ?_
              refine x_icmp_ge (tgt := 50) hx hb (by omega) dX1_define_36 (by decide) (fun c_36 => ?_) (fun c_36 => ?_)
              · -- t 50
                refine x_iconst hx hb dX1_define_50 ?_
                refine lv_istore (lv' := [(6, .int (iI (0))), (0, .ref h), (1, .int (iI ((s0 : Int)))), (2, .int (iI ((k0 : Int)))), (3, .int (iI (z3))), (4, .int (iI (z4))), (5, .int (iI ((mm : Int))))]) hx hb dX1_define_51 hl (by decide) rfl (fun ls hl => ?_)
                refine x_iconst hx hb dX1_define_53 ?_
                refine lv_istore (lv' := [(7, .int (iI (1))), (6, .int (iI (0))), (0, .ref h), (1, .int (iI ((s0 : Int)))), (2, .int (iI ((k0 : Int)))), (3, .int (iI (z3))), (4, .int (iI (z4))), (5, .int (iI ((mm : Int))))]) hx hb dX1_define_54 hl (by decide) rfl (fun ls hl => ?_)
                have lp_56 : ∀ (n : Nat) (i : Nat) (X : Int) (hi2 : 1 ≤ i ∧ i ≤ k0 + 1) (hn2 : k0 + 1 < i + n) (hX : 0 ≤ X ∧ X ≤ 100 + 10000 * ((i : Int) - 1)) (hT : toF X = DfT k0 (z3 % 2147483648) (z4 % 2147483648) an mm i) (H : Heap) (locs : List Loc), va_P D vwCl (MW h qt qw qm qf d (T, wc, M, f)) H → va_D A (MW h qt qw qm qf d (T, wc, M, f)) → va_S A s.heap H locs → ∀ ls : Array Slot, lv_has ls 9 [(0, .ref h), (1, .int (iI ((s0 : Int)))), (2, .int (iI ((k0 : Int)))), (3, .int (iI (z3))), (4, .int (iI (z4))), (5, .int (iI ((mm : Int)))), (6, .int (iI (X))), (7, .int (iI ((i : Int))))] → W p l e (rK 6 150) s m args below meth c H locs 0 0 Q (F0 m 56 ls []) := by
                  intro n
                  induction n with
                  | zero =>
                    intro i X hi2 hn2 hX hT
                    exfalso
                    omega
                  | succ n ih_56 =>
                    intro i X hi2 hn2 hX hT H locs hP hD hS ls hl
                    refine lv_iload hx hb dX1_define_56 (lv_at hl 7 rfl) ?_
                    refine lv_iload_n hx hb dX1_define_58 rfl (lv_at hl 2 rfl) ?_
                    refine x_icmp_gt (tgt := 103) hx hb (by omega) dX1_define_59 (by decide) (fun c_59 => ?_) (fun c_59 => ?_)
                    · -- t 103
                      have hv9 : toF X = an mm := dft_end hDf (by omega) hT
                      refine lv_aload_n hx hb dX1_define_103 rfl (lv_at hl 0 rfl) ?_
                      refine m_getw hx hb hts hown hK hP dX1_define_104 ?_
                      refine lv_iload hx hb dX1_define_107 (lv_at hl 5 rfl) ?_
                      refine lv_iload hx hb dX1_define_109 (lv_at hl 6 rfl) ?_
                      refine x_bipush hx hb dX1_define_111 (by decide) ?_
                      refine x_irem hx hb (an mm) (hv9) (by omega) dX1_define_113 ?_
                      refine m_wst hx hb hK hP hD hS (mm) (an mm) (rfl) (by omega) dX1_define_114 (fun H locs hP hD hS => ?_)
                      obtain ⟨w2, ew2⟩ : ∃ z, z = setS wc (mm) (an mm) := ⟨_, rfl⟩
                      rw [← ew2] at hP hD
                      refine x_iinc (v := ((mm + 1 : Nat) : Int)) (lv' := [(5, .int (iI (((mm + 1 : Nat) : Int)))), (0, .ref h), (1, .int (iI ((s0 : Int)))), (2, .int (iI ((k0 : Int)))), (3, .int (iI (z3))), (4, .int (iI (z4))), (6, .int (iI (X))), (7, .int (iI ((i : Int))))]) hx hb dX1_define_115 hl (k := 5) rfl (by omega) (by decide) rfl (fun ls hl => ?_)
                      refine lv_goto (tgt := 26) hx hb dX1_define_118 (by decide) ?_
                      exact ih_26 (mm + 1) w2 (by omega) (by omega) (wi_s hW ew2 rfl) H locs hP hD hS ls (lv_sub hl [1, 2, 3, 4, 5, 0] rfl)
                    · -- f 62
                      refine lv_iload hx hb dX1_define_62 (lv_at hl 5 rfl) ?_
                      refine lv_iload_n hx hb dX1_define_64 rfl (lv_at hl 2 rfl) ?_
                      refine x_icmp_lt (tgt := 97) hx hb (by omega) dX1_define_65 (by decide) (fun c_65 => ?_) (fun c_65 => ?_)
                      · -- t 97
                        refine x_iinc (v := ((i + 1 : Nat) : Int)) (lv' := [(7, .int (iI (((i + 1 : Nat) : Int)))), (0, .ref h), (1, .int (iI ((s0 : Int)))), (2, .int (iI ((k0 : Int)))), (3, .int (iI (z3))), (4, .int (iI (z4))), (5, .int (iI ((mm : Int)))), (6, .int (iI (X)))]) hx hb dX1_define_97 hl (k := 7) rfl (by omega) (by decide) rfl (fun ls hl => ?_)
                        refine lv_goto (tgt := 56) hx hb dX1_define_100 (by decide) ?_
                        exact ih_56 (i + 1) X (by omega) (by omega) (by omega) (dft_k (by omega) hT) H locs hP hD hS ls (lv_sub hl [1, 2, 3, 4, 5, 6, 7, 0] rfl)
                      · -- f 68
                        refine lv_aload_n hx hb dX1_define_68 rfl (lv_at hl 0 rfl) ?_
                        refine lv_iload_n hx hb dX1_define_69 rfl (lv_at hl 3 rfl) ?_
                        refine lv_iload hx hb dX1_define_70 (lv_at hl 7 rfl) ?_
                        refine x_iconst hx hb dX1_define_72 ?_
                        refine x_isub hx hb dX1_define_73 ?_
                        refine x_top (((i - 1 : Nat) : Int)) (by omega) ?_
                        refine g_calli ⟨hx, hb, hml, hown, hts⟩ (metX1_digit l D d h qt qw qm qf T wc M f z3 hz3 (i - 1) (by omega)) (cwV 2 hts (lw_V q218 q220 qs19 q34 q221) rfl rfl rfl (by decide +kernel) ⟨Nat.le_of_ble_eq_true rfl, Nat.le_of_ble_eq_true rfl⟩) (va_recv hK hP (ci := 1) (q0 := 0) rfl rfl) hK hA hP hD hS rfl hl.1 rfl (Nat.le_of_ble_eq_true rfl) dX1_define_74 ⟨Nat.zero_le _, Nat.zero_le _⟩ (fun r u H locs hq hP hD hS => ?_)
                        obtain ⟨rfl, rfl⟩ := hq
                        refine lv_istore (lv' := [(8, .int (iI (((dg (z3 % 2147483648) (i - 1)).val : Int)))), (0, .ref h), (1, .int (iI ((s0 : Int)))), (2, .int (iI ((k0 : Int)))), (3, .int (iI (z3))), (4, .int (iI (z4))), (5, .int (iI ((mm : Int)))), (6, .int (iI (X))), (7, .int (iI ((i : Int))))]) hx hb dX1_define_77 hl (by decide) rfl (fun ls hl => ?_)
                        refine lv_iload hx hb dX1_define_79 (lv_at hl 7 rfl) ?_
                        refine lv_iload hx hb dX1_define_81 (lv_at hl 0 rfl) ?_
                        refine lv_aload_n hx hb dX1_define_83 rfl (lv_at hl 1 rfl) ?_
                        refine m_getw hx hb hts hown hK hP dX1_define_84 ?_
                        refine lv_iload hx hb dX1_define_87 (lv_at hl 6 rfl) ?_
                        refine lv_iload hx hb dX1_define_89 (lv_at hl 8 rfl) ?_
                        refine x_isub hx hb dX1_define_91 ?_
                        refine m_wld hx hb hK hP (mm - i) (by omega) dX1_define_92 ?_
                        refine x_imul hx hb dX1_define_93 ?_
                        refine x_iadd hx hb dX1_define_94 ?_
                        refine lv_istore (lv' := [(6, .int (iI ((X + (((dg (z3 % 2147483648) (i - 1)).val : Int) * ((wc (mm - i)).val : Int)))))), (8, .int (iI (((dg (z3 % 2147483648) (i - 1)).val : Int)))), (0, .ref h), (1, .int (iI ((s0 : Int)))), (2, .int (iI ((k0 : Int)))), (3, .int (iI (z3))), (4, .int (iI (z4))), (5, .int (iI ((mm : Int)))), (7, .int (iI ((i : Int))))]) hx hb dX1_define_95 hl (by decide) rfl (fun ls hl => ?_)
                        refine x_iinc (v := ((i + 1 : Nat) : Int)) (lv' := [(7, .int (iI (((i + 1 : Nat) : Int)))), (6, .int (iI ((X + (((dg (z3 % 2147483648) (i - 1)).val : Int) * ((wc (mm - i)).val : Int)))))), (8, .int (iI (((dg (z3 % 2147483648) (i - 1)).val : Int)))), (0, .ref h), (1, .int (iI ((s0 : Int)))), (2, .int (iI ((k0 : Int)))), (3, .int (iI (z3))), (4, .int (iI (z4))), (5, .int (iI ((mm : Int))))]) hx hb dX1_define_97 hl (k := 8) rfl (by omega) (by decide) rfl (fun ls hl => ?_)
                        refine lv_goto (tgt := 56) hx hb dX1_define_100 (by decide) ?_
                        exact ih_56 (i + 1) (X + ((dg (z3 % 2147483648) (i - 1)).val : Int) * ((wc (mm - i)).val : Int)) (by omega) (by omega) (by have := fp_mul_lt (dg (z3 % 2147483648) (i - 1)) (wc (mm - i)); omega) (dft_s (by omega) (by omega) hT rfl (hW _ (by omega))) H locs hP hD hS ls (lv_sub hl [3, 4, 5, 6, 7, 8, 1, 0] rfl)
                exact lp_56 (k0 + 1) 1 0 (by omega) (by omega) (by omega) (dft_0n (by omega)) H locs hP hD hS ls (lv_sub hl [2, 3, 4, 5, 6, 7, 1, 0] rfl)
              · -- f 39
                refine lv_aload_n hx hb dX1_define_39 rfl (lv_at hl 0 rfl) ?_
                refine lv_iload hx hb dX1_define_40 (lv_at hl 4 rfl) ?_
                refine lv_iload hx hb dX1_define_42 (lv_at hl 5 rfl) ?_
                refine g_calli ⟨hx, hb, hml, hown, hts⟩ (metX1_digit l D d h qt qw qm qf T wc M f z4 hz4 mm (by omega)) (cwV 2 hts (lw_V q218 q220 qs19 q34 q221) rfl rfl rfl (by decide +kernel) ⟨Nat.le_of_ble_eq_true rfl, Nat.le_of_ble_eq_true rfl⟩) (va_recv hK hP (ci := 1) (q0 := 0) rfl rfl) hK hA hP hD hS rfl hl.1 rfl (Nat.le_of_ble_eq_true rfl) dX1_define_44 ⟨Nat.zero_le _, Nat.zero_le _⟩ (fun r u H locs hq hP hD hS => ?_)
                obtain ⟨rfl, rfl⟩ := hq
                refine lv_goto (tgt := 51) hx hb dX1_define_47 (by decide) ?_
                refine lv_istore (lv' := [(6, .int (iI (((dg (z4 % 2147483648) mm).val : Int)))), (0, .ref h), (1, .int (iI ((s0 : Int)))), (2, .int (iI ((k0 : Int)))), (3, .int (iI (z3))), (4, .int (iI (z4))), (5, .int (iI ((mm : Int))))]) hx hb dX1_define_51 hl (by decide) rfl (fun ls hl => ?_)
                refine x_iconst hx hb dX1_define_53 ?_
                refine lv_istore (lv' := [(7, .int (iI (1))), (6, .int (iI (((dg (z4 % 2147483648) mm).val : Int)))), (0, .ref h), (1, .int (iI ((s0 : Int)))), (2, .int (iI ((k0 : Int)))), (3, .int (iI (z3))), (4, .int (iI (z4))), (5, .int (iI ((mm : Int))))]) hx hb dX1_define_54 hl (by decide) rfl (fun ls hl => ?_)
                have lp_56 : ∀ (n : Nat) (i : Nat) (X : Int) (hi2 : 1 ≤ i ∧ i ≤ k0 + 1) (hn2 : k0 + 1 < i + n) (hX : 0 ≤ X ∧ X ≤ 100 + 10000 * ((i : Int) - 1)) (hT : toF X = DfT k0 (z3 % 2147483648) (z4 % 2147483648) an mm i) (H : Heap) (locs : List Loc), va_P D vwCl (MW h qt qw qm qf d (T, wc, M, f)) H → va_D A (MW h qt qw qm qf d (T, wc, M, f)) → va_S A s.heap H locs → ∀ ls : Array Slot, lv_has ls 9 [(0, .ref h), (1, .int (iI ((s0 : Int)))), (2, .int (iI ((k0 : Int)))), (3, .int (iI (z3))), (4, .int (iI (z4))), (5, .int (iI ((mm : Int)))), (6, .int (iI (X))), (7, .int (iI ((i : Int))))] → W p l e (rK 6 150) s m args below meth c H locs 0 0 Q (F0 m 56 ls []) := by
                  intro n
                  induction n with
                  | zero =>
                    intro i X hi2 hn2 hX hT
                    exfalso
                    omega
                  | succ n ih_56 =>
                    intro i X hi2 hn2 hX hT H locs hP hD hS ls hl
                    refine lv_iload hx hb dX1_define_56 (lv_at hl 7 rfl) ?_
                    refine lv_iload_n hx hb dX1_define_58 rfl (lv_at hl 2 rfl) ?_
                    refine x_icmp_gt (tgt := 103) hx hb (by omega) dX1_define_59 (by decide) (fun c_59 => ?_) (fun c_59 => ?_)
                    · -- t 103
                      have hv9 : toF X = an mm := dft_end hDf (by omega) hT
                      refine lv_aload_n hx hb dX1_define_103 rfl (lv_at hl 0 rfl) ?_
                      refine m_getw hx hb hts hown hK hP dX1_define_104 ?_
                      refine lv_iload hx hb dX1_define_107 (lv_at hl 5 rfl) ?_
                      refine lv_iload hx hb dX1_define_109 (lv_at hl 6 rfl) ?_
                      refine x_bipush hx hb dX1_define_111 (by decide) ?_
                      refine x_irem hx hb (an mm) (hv9) (by omega) dX1_define_113 ?_
                      refine m_wst hx hb hK hP hD hS (mm) (an mm) (rfl) (by omega) dX1_define_114 (fun H locs hP hD hS => ?_)
                      obtain ⟨w2, ew2⟩ : ∃ z, z = setS wc (mm) (an mm) := ⟨_, rfl⟩
                      rw [← ew2] at hP hD
                      refine x_iinc (v := ((mm + 1 : Nat) : Int)) (lv' := [(5, .int (iI (((mm + 1 : Nat) : Int)))), (0, .ref h), (1, .int (iI ((s0 : Int)))), (2, .int (iI ((k0 : Int)))), (3, .int (iI (z3))), (4, .int (iI (z4))), (6, .int (iI (X))), (7, .int (iI ((i : Int))))]) hx hb dX1_define_115 hl (k := 5) rfl (by omega) (by decide) rfl (fun ls hl => ?_)
                      refine lv_goto (tgt := 26) hx hb dX1_define_118 (by decide) ?_
                      exact ih_26 (mm + 1) w2 (by omega) (by omega) (wi_s hW ew2 rfl) H locs hP hD hS ls (lv_sub hl [1, 2, 3, 4, 5, 0] rfl)
                    · -- f 62
                      refine lv_iload hx hb dX1_define_62 (lv_at hl 5 rfl) ?_
                      refine lv_iload_n hx hb dX1_define_64 rfl (lv_at hl 2 rfl) ?_
                      refine x_icmp_lt (tgt := 97) hx hb (by omega) dX1_define_65 (by decide) (fun c_65 => ?_) (fun c_65 => ?_)
                      · -- t 97
                        refine x_iinc (v := ((i + 1 : Nat) : Int)) (lv' := [(7, .int (iI (((i + 1 : Nat) : Int)))), (0, .ref h), (1, .int (iI ((s0 : Int)))), (2, .int (iI ((k0 : Int)))), (3, .int (iI (z3))), (4, .int (iI (z4))), (5, .int (iI ((mm : Int)))), (6, .int (iI (X)))]) hx hb dX1_define_97 hl (k := 7) rfl (by omega) (by decide) rfl (fun ls hl => ?_)
                        refine lv_goto (tgt := 56) hx hb dX1_define_100 (by decide) ?_
                        exact ih_56 (i + 1) X (by omega) (by omega) (by omega) (dft_k (by omega) hT) H locs hP hD hS ls (lv_sub hl [1, 2, 3, 4, 5, 6, 7, 0] rfl)
                      · -- f 68
                        refine lv_aload_n hx hb dX1_define_68 rfl (lv_at hl 0 rfl) ?_
                        refine lv_iload_n hx hb dX1_define_69 rfl (lv_at hl 3 rfl) ?_
                        refine lv_iload hx hb dX1_define_70 (lv_at hl 7 rfl) ?_
                        refine x_iconst hx hb dX1_define_72 ?_
                        refine x_isub hx hb dX1_define_73 ?_
                        refine x_top (((i - 1 : Nat) : Int)) (by omega) ?_
                        refine g_calli ⟨hx, hb, hml, hown, hts⟩ (metX1_digit l D d h qt qw qm qf T wc M f z3 hz3 (i - 1) (by omega)) (cwV 2 hts (lw_V q218 q220 qs19 q34 q221) rfl rfl rfl (by decide +kernel) ⟨Nat.le_of_ble_eq_true rfl, Nat.le_of_ble_eq_true rfl⟩) (va_recv hK hP (ci := 1) (q0 := 0) rfl rfl) hK hA hP hD hS rfl hl.1 rfl (Nat.le_of_ble_eq_true rfl) dX1_define_74 ⟨Nat.zero_le _, Nat.zero_le _⟩ (fun r u H locs hq hP hD hS => ?_)
                        obtain ⟨rfl, rfl⟩ := hq
                        refine lv_istore (lv' := [(8, .int (iI (((dg (z3 % 2147483648) (i - 1)).val : Int)))), (0, .ref h), (1, .int (iI ((s0 : Int)))), (2, .int (iI ((k0 : Int)))), (3, .int (iI (z3))), (4, .int (iI (z4))), (5, .int (iI ((mm : Int)))), (6, .int (iI (X))), (7, .int (iI ((i : Int))))]) hx hb dX1_define_77 hl (by decide) rfl (fun ls hl => ?_)
                        refine lv_iload hx hb dX1_define_79 (lv_at hl 7 rfl) ?_
                        refine lv_iload hx hb dX1_define_81 (lv_at hl 0 rfl) ?_
                        refine lv_aload_n hx hb dX1_define_83 rfl (lv_at hl 1 rfl) ?_
                        refine m_getw hx hb hts hown hK hP dX1_define_84 ?_
                        refine lv_iload hx hb dX1_define_87 (lv_at hl 6 rfl) ?_
                        refine lv_iload hx hb dX1_define_89 (lv_at hl 8 rfl) ?_
                        refine x_isub hx hb dX1_define_91 ?_
                        refine m_wld hx hb hK hP (mm - i) (by omega) dX1_define_92 ?_
                        refine x_imul hx hb dX1_define_93 ?_
                        refine x_iadd hx hb dX1_define_94 ?_
                        refine lv_istore (lv' := [(6, .int (iI ((X + (((dg (z3 % 2147483648) (i - 1)).val : Int) * ((wc (mm - i)).val : Int)))))), (8, .int (iI (((dg (z3 % 2147483648) (i - 1)).val : Int)))), (0, .ref h), (1, .int (iI ((s0 : Int)))), (2, .int (iI ((k0 : Int)))), (3, .int (iI (z3))), (4, .int (iI (z4))), (5, .int (iI ((mm : Int)))), (7, .int (iI ((i : Int))))]) hx hb dX1_define_95 hl (by decide) rfl (fun ls hl => ?_)
                        refine x_iinc (v := ((i + 1 : Nat) : Int)) (lv' := [(7, .int (iI (((i + 1 : Nat) : Int)))), (6, .int (iI ((X + (((dg (z3 % 2147483648) (i - 1)).val : Int) * ((wc (mm - i)).val : Int)))))), (8, .int (iI (((dg (z3 % 2147483648) (i - 1)).val : Int)))), (0, .ref h), (1, .int (iI ((s0 : Int)))), (2, .int (iI ((k0 : Int)))), (3, .int (iI (z3))), (4, .int (iI (z4))), (5, .int (iI ((mm : Int))))]) hx hb dX1_define_97 hl (k := 8) rfl (by omega) (by decide) rfl (fun ls hl => ?_)
                        refine lv_goto (tgt := 56) hx hb dX1_define_100 (by decide) ?_
                        exact ih_56 (i + 1) (X + ((dg (z3 % 2147483648) (i - 1)).val : Int) * ((wc (mm - i)).val : Int)) (by omega) (by omega) (by have := fp_mul_lt (dg (z3 % 2147483648) (i - 1)) (wc (mm - i)); omega) (dft_s (by omega) (by omega) hT rfl (hW _ (by omega))) H locs hP hD hS ls (lv_sub hl [3, 4, 5, 6, 7, 8, 1, 0] rfl)
                exact lp_56 (k0 + 1) 1 ((dg (z4 % 2147483648) mm).val : Int) (by omega) (by omega) (by omega) (dft_0y (by omega)) H locs hP hD hS ls (lv_sub hl [2, 3, 4, 5, 6, 7, 1, 0] rfl)
        exact lp_26 33 0 w (by omega) (by omega) (wi_0 _ _) H locs hP hD hS ls (lv_sub hl [1, 2, 3, 4, 5, 0] rfl)
      · -- f 20
        refine x_bipush hx hb dX1_define_20 (by decide) ?_
        exact hret _ _ H locs _ _ (⟨T, w, M, f, rfl, Or.inr (Or.inl ⟨by omega, by omega, rfl, rfl⟩)⟩) hP hD hS dX1_define_22
  · -- f 8
    have hbadz1 := bd_n (by assumption : ¬ bd z1 = 0)
    refine x_iconst hx hb dX1_define_8 ?_
    exact hret _ _ H locs _ _ (⟨T, w, M, f, rfl, Or.inl ⟨hbadz1, rfl, rfl⟩⟩) hP hD hS dX1_define_9
abbrev wsX1_settle : List Cond := ws_ yX1_settle cX1_settle 3 (some .int)
set_option maxHeartbeats 4000000 in
set_option maxRecDepth 100000 in
/-- settle(s) -/
theorem metX1_settle (l : Launch) (D : va_G) (d : ClassId) (h qt qw qm qf : Nat) (T : Nat → Sr) (w : Sr) (M : Nat → Sr) (f : Sr) (a : Nat → Sr) (hM : MInv T a) (s0 L : Nat) (an : Sr) (hs04 : s0 < 4) (hO : Ord an L) (hL : L ≤ 16) (hw : W32 w an) : gMi l yX1_settle wsX1_settle (rK 4 95) D d (MW h qt qw qm qf d) (T, w, M, f) h [.int (iI ((s0 : Int)))] (fun r u => ∃ T1 M1, u = (T1, w, M1, f) ∧ Stl T1 a s0 an L r) := by
  refine g_entryi (by decide) (Nat.le_of_ble_eq_true rfl) ?_
  intro p e s m args below meth c A Q hx hb hml hown hts hK hA hret H locs hP hD hS ls hl
  have hl : lv_has ls 3 [(0, .ref h), (1, .int (iI ((s0 : Int))))] := hl
  refine lv_aload_n hx hb dX1_settle_0 rfl (lv_at hl 0 rfl) ?_
  refine g_calli ⟨hx, hb, hml, hown, hts⟩ (metX1_rank l D d h qt qw qm qf T w M f an L hO hL hw) (cwV 0 hts (lw_V q235 q237 qs22 q34 q238) rfl rfl rfl (by decide +kernel) ⟨Nat.le_of_ble_eq_true rfl, Nat.le_of_ble_eq_true rfl⟩) (va_recv hK hP (ci := 1) (q0 := 0) rfl rfl) hK hA hP hD hS rfl hl.1 rfl (Nat.le_of_ble_eq_true rfl) dX1_settle_1 ⟨Nat.zero_le _, Nat.zero_le _⟩ (fun r u H locs hq hP hD hS => ?_)
  obtain ⟨M1, rfl, rfl⟩ := hq
  refine lv_istore_n (lv' := [(2, .int (iI ((L : Int)))), (0, .ref h), (1, .int (iI ((s0 : Int))))]) hx hb dX1_settle_4 rfl hl (by decide) rfl (fun ls hl => ?_)
  refine lv_iload_n hx hb dX1_settle_5 rfl (lv_at hl 0 rfl) ?_
  refine x_bipush hx hb dX1_settle_6 (by decide) ?_
  refine x_icmp_le (tgt := 14) hx hb (by omega) dX1_settle_8 (by decide) (fun c_8 => ?_) (fun c_8 => ?_)
  · -- t 14
    refine lv_aload_n hx hb dX1_settle_14 rfl (lv_at hl 1 rfl) ?_
    refine lv_iload_n hx hb dX1_settle_15 rfl (lv_at hl 2 rfl) ?_
    refine g_callv ⟨hx, hb, hml, hown, hts⟩ (metX1_store l D d h qt qw qm qf T w M1 f s0 hs04) (cwV 1 hts (lw_V q223 q225 qs20 q34 q226) rfl rfl rfl (by decide +kernel) ⟨Nat.le_of_ble_eq_true rfl, Nat.le_of_ble_eq_true rfl⟩) (va_recv hK hP (ci := 1) (q0 := 0) rfl rfl) hK hA hP hD hS rfl hl.1 rfl (Nat.le_of_ble_eq_true rfl) dX1_settle_16 ⟨Nat.zero_le _, Nat.zero_le _⟩ (fun u H locs hq hP hD hS => ?_)
    obtain ⟨T1, rfl, eT1⟩ := hq
    refine lv_iload_n hx hb dX1_settle_19 rfl (lv_at hl 0 rfl) ?_
    exact hret _ _ H locs _ _ (⟨T1, M1, rfl, Or.inl ⟨by omega, rfl, by rw [eT1]; exact minv_set hM hw⟩⟩) hP hD hS dX1_settle_20
  · -- f 11
    refine x_bipush hx hb dX1_settle_11 (by decide) ?_
    exact hret _ _ H locs _ _ (⟨T, M1, rfl, Or.inr ⟨by omega, rfl, hM⟩⟩) hP hD hS dX1_settle_13
end
section
/-! RecurrenceEngineModel: calls that make sequences, questions -/
set_option maxRecDepth 100000
abbrev wsX1_add : List Cond := ws_ yX1_add cX1_add 5 (some .int)
set_option maxHeartbeats 4000000 in
set_option maxRecDepth 100000 in
/-- add(to, s, t) -/
theorem metX1_add (l : Launch) (D : va_G) (d : ClassId) (h qt qw qm qf : Nat) (T : Nat → Sr) (w : Sr) (M : Nat → Sr) (f : Sr) (a : Nat → Sr) (hM : MInv T a) (Ls : Nat → Nat) (hLs : OLs a Ls) (z1 : Int) (hz1 : -2147483648 ≤ z1 ∧ z1 < 2147483648) (z2 : Int) (hz2 : -2147483648 ≤ z2 ∧ z2 < 2147483648) (z3 : Int) (hz3 : -2147483648 ≤ z3 ∧ z3 < 2147483648) (L : Nat) (hO : ∀ t0 s0 s1 : Nat, t0 < 4 → s0 < 4 → s1 < 4 → z1 = (t0 : Int) → z2 = (s0 : Int) → z3 = (s1 : Int) → Ord (ad (a s0) (a s1)) L ∧ L ≤ 16) : gMi l yX1_add wsX1_add (rK 6 150) D d (MW h qt qw qm qf d) (T, w, M, f) h [.int (iI (z1)), .int (iI (z2)), .int (iI (z3))] (fun r u => ∃ T1 w1 M1 f1, u = (T1, w1, M1, f1) ∧ ((((z1 < 0 ∨ 3 < z1) ∨ (z2 < 0 ∨ 3 < z2) ∨ (z3 < 0 ∨ 3 < z3)) ∧ r = iI (-1) ∧ T1 = T) ∨ (∃ t0 s0 s1 : Nat, t0 < 4 ∧ s0 < 4 ∧ s1 < 4 ∧ z1 = (t0 : Int) ∧ z2 = (s0 : Int) ∧ z3 = (s1 : Int) ∧ Stl T1 a t0 (ad (a s0) (a s1)) L r))) := by
  refine g_entryi (by decide) (Nat.le_of_ble_eq_true rfl) ?_
  intro p e s m args below meth c A Q hx hb hml hown hts hK hA hret H locs hP hD hS ls hl
  have hl : lv_has ls 5 [(0, .ref h), (1, .int (iI (z1))), (2, .int (iI (z2))), (3, .int (iI (z3)))] := hl
  refine lv_aload_n hx hb dX1_add_0 rfl (lv_at hl 0 rfl) ?_
  refine lv_iload_n hx hb dX1_add_1 rfl (lv_at hl 1 rfl) ?_
  refine g_calli ⟨hx, hb, hml, hown, hts⟩ (metX1_bad l D d h qt qw qm qf T w M f z1 hz1) (cwV 1 hts (lw_V q214 q216 qs18 q34 q217) rfl rfl rfl (by decide +kernel) ⟨Nat.le_of_ble_eq_true rfl, Nat.le_of_ble_eq_true rfl⟩) (va_recv hK hP (ci := 1) (q0 := 0) rfl rfl) hK hA hP hD hS rfl hl.1 rfl (Nat.le_of_ble_eq_true rfl) dX1_add_2 ⟨Nat.zero_le _, Nat.zero_le _⟩ (fun r u H locs hq hP hD hS => ?_)
  obtain ⟨rfl, rfl⟩ := hq
  refine x_if_ne (tgt := 24) hx hb (by have := bd_bd z1; omega) dX1_add_5 (by decide) (fun c_5 => ?_) (fun c_5 => ?_)
  · -- t 24
    have hbadz1 := bd_n (by assumption : ¬ bd z1 = 0)
    refine x_iconst hx hb dX1_add_24 ?_
    exact hret _ _ H locs _ _ (⟨T, w, M, f, rfl, Or.inl ⟨Or.inl hbadz1, rfl, rfl⟩⟩) hP hD hS dX1_add_25
  · -- f 8
    obtain ⟨t0, rfl⟩ : ∃ q : Nat, z1 = (q : Int) := ⟨z1.toNat, by have := bd_y (by assumption : bd z1 = 0); omega⟩
    have ht04 : t0 < 4 := by have := bd_y (by assumption : bd (t0 : Int) = 0); omega
    refine lv_aload_n hx hb dX1_add_8 rfl (lv_at hl 0 rfl) ?_
    refine lv_iload_n hx hb dX1_add_9 rfl (lv_at hl 2 rfl) ?_
    refine g_calli ⟨hx, hb, hml, hown, hts⟩ (metX1_bad l D d h qt qw qm qf T w M f z2 hz2) (cwV 1 hts (lw_V q214 q216 qs18 q34 q217) rfl rfl rfl (by decide +kernel) ⟨Nat.le_of_ble_eq_true rfl, Nat.le_of_ble_eq_true rfl⟩) (va_recv hK hP (ci := 1) (q0 := 0) rfl rfl) hK hA hP hD hS rfl hl.1 rfl (Nat.le_of_ble_eq_true rfl) dX1_add_10 ⟨Nat.zero_le _, Nat.zero_le _⟩ (fun r u H locs hq hP hD hS => ?_)
    obtain ⟨rfl, rfl⟩ := hq
    refine x_if_ne (tgt := 24) hx hb (by have := bd_bd z2; omega) dX1_add_13 (by decide) (fun c_13 => ?_) (fun c_13 => ?_)
    · -- t 24
      have hbadz2 := bd_n (by assumption : ¬ bd z2 = 0)
      refine x_iconst hx hb dX1_add_24 ?_
      exact hret _ _ H locs _ _ (⟨T, w, M, f, rfl, Or.inl ⟨Or.inr (Or.inl hbadz2), rfl, rfl⟩⟩) hP hD hS dX1_add_25
    · -- f 16
      obtain ⟨s0, rfl⟩ : ∃ q : Nat, z2 = (q : Int) := ⟨z2.toNat, by have := bd_y (by assumption : bd z2 = 0); omega⟩
      have hs04 : s0 < 4 := by have := bd_y (by assumption : bd (s0 : Int) = 0); omega
      refine lv_aload_n hx hb dX1_add_16 rfl (lv_at hl 0 rfl) ?_
      refine lv_iload_n hx hb dX1_add_17 rfl (lv_at hl 3 rfl) ?_
      refine g_calli ⟨hx, hb, hml, hown, hts⟩ (metX1_bad l D d h qt qw qm qf T w M f z3 hz3) (cwV 1 hts (lw_V q214 q216 qs18 q34 q217) rfl rfl rfl (by decide +kernel) ⟨Nat.le_of_ble_eq_true rfl, Nat.le_of_ble_eq_true rfl⟩) (va_recv hK hP (ci := 1) (q0 := 0) rfl rfl) hK hA hP hD hS rfl hl.1 rfl (Nat.le_of_ble_eq_true rfl) dX1_add_18 ⟨Nat.zero_le _, Nat.zero_le _⟩ (fun r u H locs hq hP hD hS => ?_)
      obtain ⟨rfl, rfl⟩ := hq
      refine x_if_eq (tgt := 26) hx hb (by have := bd_bd z3; omega) dX1_add_21 (by decide) (fun c_21 => ?_) (fun c_21 => ?_)
      · -- t 26
        obtain ⟨s1, rfl⟩ : ∃ q : Nat, z3 = (q : Int) := ⟨z3.toNat, by have := bd_y (by assumption : bd z3 = 0); omega⟩
        have hs14 : s1 < 4 := by have := bd_y (by assumption : bd (s1 : Int) = 0); omega
        have hO9 := hO t0 s0 s1 ht04 hs04 hs14 rfl rfl rfl
        refine x_iconst hx hb dX1_add_26 ?_
        refine lv_istore (lv' := [(4, .int (iI (0))), (0, .ref h), (1, .int (iI ((t0 : Int)))), (2, .int (iI ((s0 : Int)))), (3, .int (iI ((s1 : Int))))]) hx hb dX1_add_27 hl (by decide) rfl (fun ls hl => ?_)
        have lp_29 : ∀ (n : Nat) (mm : Nat) (wc : Sr) (hi : 0 ≤ mm ∧ mm ≤ 32) (hn : 32 < mm + n) (hW : WI wc (ad (a s0) (a s1)) mm) (H : Heap) (locs : List Loc), va_P D vwCl (MW h qt qw qm qf d (T, wc, M, f)) H → va_D A (MW h qt qw qm qf d (T, wc, M, f)) → va_S A s.heap H locs → ∀ ls : Array Slot, lv_has ls 5 [(0, .ref h), (1, .int (iI ((t0 : Int)))), (2, .int (iI ((s0 : Int)))), (3, .int (iI ((s1 : Int)))), (4, .int (iI ((mm : Int))))] → W p l e (rK 6 150) s m args below meth c H locs 0 0 Q (F0 m 29 ls []) := by
          intro n
          induction n with
          | zero =>
            intro mm wc hi hn hW
            exfalso
            omega
          | succ n ih_29 =>
            intro mm wc hi hn hW H locs hP hD hS ls hl
            refine lv_iload hx hb dX1_add_29 (lv_at hl 4 rfl) ?_
            refine x_bipush hx hb dX1_add_31 (by decide) ?_
            refine x_icmp_ge (tgt := 77) hx hb (by omega) dX1_add_33 (by decide) (fun c_33 => ?_) (fun c_33 => ?_)
            · -- t 77
              refine lv_aload_n hx hb dX1_add_77 rfl (lv_at hl 0 rfl) ?_
              refine lv_iload_n hx hb dX1_add_78 rfl (lv_at hl 1 rfl) ?_
              refine g_calli ⟨hx, hb, hml, hown, hts⟩ (metX1_settle l D d h qt qw qm qf T wc M f a hM t0 L (ad (a s0) (a s1)) ht04 hO9.1 hO9.2 (wi_32 hW (by omega))) (cwV 1 hts (lw_V q231 q233 qs21 q34 q234) rfl rfl rfl (by decide +kernel) ⟨Nat.le_of_ble_eq_true rfl, Nat.le_of_ble_eq_true rfl⟩) (va_recv hK hP (ci := 1) (q0 := 0) rfl rfl) hK hA hP hD hS rfl hl.1 rfl (Nat.le_of_ble_eq_true rfl) dX1_add_79 ⟨Nat.zero_le _, Nat.zero_le _⟩ (fun r u H locs hq hP hD hS => ?_)
              obtain ⟨T9, M9, rfl, hs9⟩ := hq
              exact hret _ _ H locs _ _ (⟨T9, _, M9, _, rfl, Or.inr ⟨t0, s0, s1, ht04, hs04, hs14, rfl, rfl, rfl, hs9⟩⟩) hP hD hS dX1_add_82
            · -- f 36
              refine lv_aload_n hx hb dX1_add_36 rfl (lv_at hl 0 rfl) ?_
              refine m_getw hx hb hts hown hK hP dX1_add_37 ?_
              refine lv_iload hx hb dX1_add_40 (lv_at hl 4 rfl) ?_
              refine lv_aload_n hx hb dX1_add_42 rfl (lv_at hl 0 rfl) ?_
              refine m_gett hx hb hts hown hK hP dX1_add_43 ?_
              refine lv_iload_n hx hb dX1_add_46 rfl (lv_at hl 2 rfl) ?_
              refine x_bipush hx hb dX1_add_47 (by decide) ?_
              refine x_imul hx hb dX1_add_49 ?_
              refine lv_iload hx hb dX1_add_50 (lv_at hl 4 rfl) ?_
              refine x_iadd hx hb dX1_add_52 ?_
              refine m_tld hx hb hK hP (s0) (mm) (by omega) dX1_add_53 ?_
              refine lv_aload_n hx hb dX1_add_54 rfl (lv_at hl 0 rfl) ?_
              refine m_gett hx hb hts hown hK hP dX1_add_55 ?_
              refine lv_iload_n hx hb dX1_add_58 rfl (lv_at hl 3 rfl) ?_
              refine x_bipush hx hb dX1_add_59 (by decide) ?_
              refine x_imul hx hb dX1_add_61 ?_
              refine lv_iload hx hb dX1_add_62 (lv_at hl 4 rfl) ?_
              refine x_iadd hx hb dX1_add_64 ?_
              refine m_tld hx hb hK hP (s1) (mm) (by omega) dX1_add_65 ?_
              refine x_iadd hx hb dX1_add_66 ?_
              refine x_bipush hx hb dX1_add_67 (by decide) ?_
              refine x_irem hx hb (T s0 mm + T s1 mm) (by rw [toF_add, toF_of, toF_of]) (by omega) dX1_add_69 ?_
              refine m_wst hx hb hK hP hD hS (mm) (T s0 mm + T s1 mm) (rfl) (by omega) dX1_add_70 (fun H locs hP hD hS => ?_)
              obtain ⟨w2, ew2⟩ : ∃ z, z = setS wc (mm) (T s0 mm + T s1 mm) := ⟨_, rfl⟩
              rw [← ew2] at hP hD
              refine x_iinc (v := ((mm + 1 : Nat) : Int)) (lv' := [(4, .int (iI (((mm + 1 : Nat) : Int)))), (0, .ref h), (1, .int (iI ((t0 : Int)))), (2, .int (iI ((s0 : Int)))), (3, .int (iI ((s1 : Int))))]) hx hb dX1_add_71 hl (k := 4) rfl (by omega) (by decide) rfl (fun ls hl => ?_)
              refine lv_goto (tgt := 29) hx hb dX1_add_74 (by decide) ?_
              exact ih_29 (mm + 1) w2 (by omega) (by omega) (wi_s hW ew2 (by rw [hM s0 hs04 mm (by omega), hM s1 hs14 mm (by omega)]; rfl)) H locs hP hD hS ls (lv_sub hl [1, 2, 3, 4, 0] rfl)
        exact lp_29 33 0 w (by omega) (by omega) (wi_0 _ _) H locs hP hD hS ls (lv_sub hl [1, 2, 3, 4, 0] rfl)
      · -- f 24
        have hbadz3 := bd_n (by assumption : ¬ bd z3 = 0)
        refine x_iconst hx hb dX1_add_24 ?_
        exact hret _ _ H locs _ _ (⟨T, w, M, f, rfl, Or.inl ⟨Or.inr (Or.inr hbadz3), rfl, rfl⟩⟩) hP hD hS dX1_add_25
abbrev wsX1_scale : List Cond := ws_ yX1_scale cX1_scale 5 (some .int)
set_option maxHeartbeats 4000000 in
set_option maxRecDepth 100000 in
/-- scale(s, x) -/
theorem metX1_scale (l : Launch) (D : va_G) (d : ClassId) (h qt qw qm qf : Nat) (T : Nat → Sr) (w : Sr) (M : Nat → Sr) (f : Sr) (a : Nat → Sr) (hM : MInv T a) (Ls : Nat → Nat) (hLs : OLs a Ls) (z1 : Int) (hz1 : -2147483648 ≤ z1 ∧ z1 < 2147483648) (z2 : Int) (hz2 : -2147483648 ≤ z2 ∧ z2 < 2147483648) (L : Nat) (hO : ∀ s0 : Nat, s0 < 4 → z1 = (s0 : Int) → Ord (sc (toF z2) (a s0)) L ∧ L ≤ 16) : gMi l yX1_scale wsX1_scale (rK 6 150) D d (MW h qt qw qm qf d) (T, w, M, f) h [.int (iI (z1)), .int (iI (z2))] (fun r u => ∃ T1 w1 M1 f1, u = (T1, w1, M1, f1) ∧ (((z1 < 0 ∨ 3 < z1) ∧ r = iI (-1) ∧ T1 = T) ∨ (∃ s0 : Nat, s0 < 4 ∧ z1 = (s0 : Int) ∧ Stl T1 a s0 (sc (toF z2) (a s0)) L r))) := by
  refine g_entryi (by decide) (Nat.le_of_ble_eq_true rfl) ?_
  intro p e s m args below meth c A Q hx hb hml hown hts hK hA hret H locs hP hD hS ls hl
  have hl : lv_has ls 5 [(0, .ref h), (1, .int (iI (z1))), (2, .int (iI (z2)))] := hl
  refine lv_aload_n hx hb dX1_scale_0 rfl (lv_at hl 0 rfl) ?_
  refine lv_iload_n hx hb dX1_scale_1 rfl (lv_at hl 1 rfl) ?_
  refine g_calli ⟨hx, hb, hml, hown, hts⟩ (metX1_bad l D d h qt qw qm qf T w M f z1 hz1) (cwV 1 hts (lw_V q214 q216 qs18 q34 q217) rfl rfl rfl (by decide +kernel) ⟨Nat.le_of_ble_eq_true rfl, Nat.le_of_ble_eq_true rfl⟩) (va_recv hK hP (ci := 1) (q0 := 0) rfl rfl) hK hA hP hD hS rfl hl.1 rfl (Nat.le_of_ble_eq_true rfl) dX1_scale_2 ⟨Nat.zero_le _, Nat.zero_le _⟩ (fun r u H locs hq hP hD hS => ?_)
  obtain ⟨rfl, rfl⟩ := hq
  refine x_if_eq (tgt := 10) hx hb (by have := bd_bd z1; omega) dX1_scale_5 (by decide) (fun c_5 => ?_) (fun c_5 => ?_)
  · -- t 10
    obtain ⟨s0, rfl⟩ : ∃ q : Nat, z1 = (q : Int) := ⟨z1.toNat, by have := bd_y (by assumption : bd z1 = 0); omega⟩
    have hs04 : s0 < 4 := by have := bd_y (by assumption : bd (s0 : Int) = 0); omega
    have hO9 := hO s0 hs04 rfl
    refine lv_aload_n hx hb dX1_scale_10 rfl (lv_at hl 0 rfl) ?_
    refine lv_iload_n hx hb dX1_scale_11 rfl (lv_at hl 2 rfl) ?_
    refine g_calli ⟨hx, hb, hml, hown, hts⟩ (metX1_mod l D d h qt qw qm qf T w M f z2 hz2) (cwV 1 hts (lw_V q259 q261 qs28 q34 q262) rfl rfl rfl (by decide +kernel) ⟨Nat.le_of_ble_eq_true rfl, Nat.le_of_ble_eq_true rfl⟩) (va_recv hK hP (ci := 1) (q0 := 0) rfl rfl) hK hA hP hD hS rfl hl.1 rfl (Nat.le_of_ble_eq_true rfl) dX1_scale_12 ⟨Nat.zero_le _, Nat.zero_le _⟩ (fun r u H locs hq hP hD hS => ?_)
    obtain ⟨rfl, rfl⟩ := hq
    refine lv_istore_n (lv' := [(3, .int (iI (((toF z2).val : Int)))), (0, .ref h), (1, .int (iI ((s0 : Int)))), (2, .int (iI (z2)))]) hx hb dX1_scale_15 rfl hl (by decide) rfl (fun ls hl => ?_)
    refine x_iconst hx hb dX1_scale_16 ?_
    refine lv_istore (lv' := [(4, .int (iI (0))), (3, .int (iI (((toF z2).val : Int)))), (0, .ref h), (1, .int (iI ((s0 : Int)))), (2, .int (iI (z2)))]) hx hb dX1_scale_17 hl (by decide) rfl (fun ls hl => ?_)
    have lp_19 : ∀ (n : Nat) (mm : Nat) (wc : Sr) (hi : 0 ≤ mm ∧ mm ≤ 32) (hn : 32 < mm + n) (hW : WI wc (sc (toF z2) (a s0)) mm) (H : Heap) (locs : List Loc), va_P D vwCl (MW h qt qw qm qf d (T, wc, M, f)) H → va_D A (MW h qt qw qm qf d (T, wc, M, f)) → va_S A s.heap H locs → ∀ ls : Array Slot, lv_has ls 5 [(0, .ref h), (1, .int (iI ((s0 : Int)))), (2, .int (iI (z2))), (3, .int (iI (((toF z2).val : Int)))), (4, .int (iI ((mm : Int))))] → W p l e (rK 6 150) s m args below meth c H locs 0 0 Q (F0 m 19 ls []) := by
      intro n
      induction n with
      | zero =>
        intro mm wc hi hn hW
        exfalso
        omega
      | succ n ih_19 =>
        intro mm wc hi hn hW H locs hP hD hS ls hl
        refine lv_iload hx hb dX1_scale_19 (lv_at hl 4 rfl) ?_
        refine x_bipush hx hb dX1_scale_21 (by decide) ?_
        refine x_icmp_ge (tgt := 56) hx hb (by omega) dX1_scale_23 (by decide) (fun c_23 => ?_) (fun c_23 => ?_)
        · -- t 56
          refine lv_aload_n hx hb dX1_scale_56 rfl (lv_at hl 0 rfl) ?_
          refine lv_iload_n hx hb dX1_scale_57 rfl (lv_at hl 1 rfl) ?_
          refine g_calli ⟨hx, hb, hml, hown, hts⟩ (metX1_settle l D d h qt qw qm qf T wc M f a hM s0 L (sc (toF z2) (a s0)) hs04 hO9.1 hO9.2 (wi_32 hW (by omega))) (cwV 1 hts (lw_V q231 q233 qs21 q34 q234) rfl rfl rfl (by decide +kernel) ⟨Nat.le_of_ble_eq_true rfl, Nat.le_of_ble_eq_true rfl⟩) (va_recv hK hP (ci := 1) (q0 := 0) rfl rfl) hK hA hP hD hS rfl hl.1 rfl (Nat.le_of_ble_eq_true rfl) dX1_scale_58 ⟨Nat.zero_le _, Nat.zero_le _⟩ (fun r u H locs hq hP hD hS => ?_)
          obtain ⟨T9, M9, rfl, hs9⟩ := hq
          exact hret _ _ H locs _ _ (⟨T9, _, M9, _, rfl, Or.inr ⟨s0, hs04, rfl, hs9⟩⟩) hP hD hS dX1_scale_61
        · -- f 26
          refine lv_aload_n hx hb dX1_scale_26 rfl (lv_at hl 0 rfl) ?_
          refine m_getw hx hb hts hown hK hP dX1_scale_27 ?_
          refine lv_iload hx hb dX1_scale_30 (lv_at hl 4 rfl) ?_
          refine lv_aload_n hx hb dX1_scale_32 rfl (lv_at hl 0 rfl) ?_
          refine m_gett hx hb hts hown hK hP dX1_scale_33 ?_
          refine lv_iload_n hx hb dX1_scale_36 rfl (lv_at hl 1 rfl) ?_
          refine x_bipush hx hb dX1_scale_37 (by decide) ?_
          refine x_imul hx hb dX1_scale_39 ?_
          refine lv_iload hx hb dX1_scale_40 (lv_at hl 4 rfl) ?_
          refine x_iadd hx hb dX1_scale_42 ?_
          refine m_tld hx hb hK hP (s0) (mm) (by omega) dX1_scale_43 ?_
          refine lv_iload_n hx hb dX1_scale_44 rfl (lv_at hl 3 rfl) ?_
          refine x_imul hx hb dX1_scale_45 ?_
          refine x_bipush hx hb dX1_scale_46 (by decide) ?_
          refine x_irem hx hb (T s0 mm * toF z2) (toF_mulV _ _) (by have := fp_mul_lt (T s0 mm) (toF z2); omega) dX1_scale_48 ?_
          refine m_wst hx hb hK hP hD hS (mm) (T s0 mm * toF z2) (rfl) (by omega) dX1_scale_49 (fun H locs hP hD hS => ?_)
          obtain ⟨w2, ew2⟩ : ∃ z, z = setS wc (mm) (T s0 mm * toF z2) := ⟨_, rfl⟩
          rw [← ew2] at hP hD
          refine x_iinc (v := ((mm + 1 : Nat) : Int)) (lv' := [(4, .int (iI (((mm + 1 : Nat) : Int)))), (0, .ref h), (1, .int (iI ((s0 : Int)))), (2, .int (iI (z2))), (3, .int (iI (((toF z2).val : Int))))]) hx hb dX1_scale_50 hl (k := 4) rfl (by omega) (by decide) rfl (fun ls hl => ?_)
          refine lv_goto (tgt := 19) hx hb dX1_scale_53 (by decide) ?_
          exact ih_19 (mm + 1) w2 (by omega) (by omega) (wi_s hW ew2 (by rw [hM s0 hs04 mm (by omega)]; exact Fin.mul_comm _ _)) H locs hP hD hS ls (lv_sub hl [1, 2, 3, 4, 0] rfl)
    exact lp_19 33 0 w (by omega) (by omega) (wi_0 _ _) H locs hP hD hS ls (lv_sub hl [2, 3, 4, 1, 0] rfl)
  · -- f 8
    have hbadz1 := bd_n (by assumption : ¬ bd z1 = 0)
    refine x_iconst hx hb dX1_scale_8 ?_
    exact hret _ _ H locs _ _ (⟨T, w, M, f, rfl, Or.inl ⟨hbadz1, rfl, rfl⟩⟩) hP hD hS dX1_scale_9
abbrev wsX1_advance : List Cond := ws_ yX1_advance cX1_advance 3 (some .int)
set_option maxHeartbeats 4000000 in
set_option maxRecDepth 100000 in
/-- advance(s) -/
theorem metX1_advance (l : Launch) (D : va_G) (d : ClassId) (h qt qw qm qf : Nat) (T : Nat → Sr) (w : Sr) (M : Nat → Sr) (f : Sr) (a : Nat → Sr) (hM : MInv T a) (Ls : Nat → Nat) (hLs : OLs a Ls) (z1 : Int) (hz1 : -2147483648 ≤ z1 ∧ z1 < 2147483648) (L : Nat) (hO : ∀ s0 : Nat, s0 < 4 → z1 = (s0 : Int) → Ord (tl (a s0)) L ∧ L ≤ 16) : gMi l yX1_advance wsX1_advance (rK 6 150) D d (MW h qt qw qm qf d) (T, w, M, f) h [.int (iI (z1))] (fun r u => ∃ T1 w1 M1 f1, u = (T1, w1, M1, f1) ∧ (((z1 < 0 ∨ 3 < z1) ∧ r = iI (-1) ∧ T1 = T) ∨ (∃ s0 : Nat, s0 < 4 ∧ z1 = (s0 : Int) ∧ Stl T1 a s0 (tl (a s0)) L r))) := by
  refine g_entryi (by decide) (Nat.le_of_ble_eq_true rfl) ?_
  intro p e s m args below meth c A Q hx hb hml hown hts hK hA hret H locs hP hD hS ls hl
  have hl : lv_has ls 3 [(0, .ref h), (1, .int (iI (z1)))] := hl
  refine lv_aload_n hx hb dX1_advance_0 rfl (lv_at hl 0 rfl) ?_
  refine lv_iload_n hx hb dX1_advance_1 rfl (lv_at hl 1 rfl) ?_
  refine g_calli ⟨hx, hb, hml, hown, hts⟩ (metX1_bad l D d h qt qw qm qf T w M f z1 hz1) (cwV 1 hts (lw_V q214 q216 qs18 q34 q217) rfl rfl rfl (by decide +kernel) ⟨Nat.le_of_ble_eq_true rfl, Nat.le_of_ble_eq_true rfl⟩) (va_recv hK hP (ci := 1) (q0 := 0) rfl rfl) hK hA hP hD hS rfl hl.1 rfl (Nat.le_of_ble_eq_true rfl) dX1_advance_2 ⟨Nat.zero_le _, Nat.zero_le _⟩ (fun r u H locs hq hP hD hS => ?_)
  obtain ⟨rfl, rfl⟩ := hq
  refine x_if_eq (tgt := 10) hx hb (by have := bd_bd z1; omega) dX1_advance_5 (by decide) (fun c_5 => ?_) (fun c_5 => ?_)
  · -- t 10
    obtain ⟨s0, rfl⟩ : ∃ q : Nat, z1 = (q : Int) := ⟨z1.toNat, by have := bd_y (by assumption : bd z1 = 0); omega⟩
    have hs04 : s0 < 4 := by have := bd_y (by assumption : bd (s0 : Int) = 0); omega
    have hO9 := hO s0 hs04 rfl
    refine lv_aload_n hx hb dX1_advance_10 rfl (lv_at hl 0 rfl) ?_
    refine lv_iload_n hx hb dX1_advance_11 rfl (lv_at hl 1 rfl) ?_
    refine g_callv ⟨hx, hb, hml, hown, hts⟩ (metX1_load l D d h qt qw qm qf T w M f s0 hs04) (cwV 1 hts (lw_V q271 q273 qs29 q34 q274) rfl rfl rfl (by decide +kernel) ⟨Nat.le_of_ble_eq_true rfl, Nat.le_of_ble_eq_true rfl⟩) (va_recv hK hP (ci := 1) (q0 := 0) rfl rfl) hK hA hP hD hS rfl hl.1 rfl (Nat.le_of_ble_eq_true rfl) dX1_advance_12 ⟨Nat.zero_le _, Nat.zero_le _⟩ (fun u H locs hq hP hD hS => ?_)
    obtain ⟨w8, rfl, hw8⟩ := hq
    have hw7 : W32 w8 (a s0) := fun j hj => by rw [hw8 j hj, hM s0 hs04 j hj]
    refine lv_aload_n hx hb dX1_advance_15 rfl (lv_at hl 0 rfl) ?_
    refine x_bipush hx hb dX1_advance_16 (by decide) ?_
    refine g_callv ⟨hx, hb, hml, hown, hts⟩ (metX1_extend l D d h qt qw qm qf T w8 M f 32 (a s0) (Ls s0) (by omega) (hLs s0 hs04).1 (hLs s0 hs04).2 hw7) (cwV 1 hts (lw_V q275 q277 qs30 q34 q278) rfl rfl rfl (by decide +kernel) ⟨Nat.le_of_ble_eq_true rfl, Nat.le_of_ble_eq_true rfl⟩) (va_recv hK hP (ci := 1) (q0 := 0) rfl rfl) hK hA hP hD hS rfl hl.1 rfl (Nat.le_of_ble_eq_true rfl) dX1_advance_18 ⟨Nat.zero_le _, Nat.zero_le _⟩ (fun u H locs hq hP hD hS => ?_)
    obtain ⟨w7, M7, f7, rfl, hw6⟩ := hq
    refine x_iconst hx hb dX1_advance_21 ?_
    refine lv_istore_n (lv' := [(2, .int (iI (0))), (0, .ref h), (1, .int (iI ((s0 : Int))))]) hx hb dX1_advance_22 rfl hl (by decide) rfl (fun ls hl => ?_)
    have lp_23 : ∀ (n : Nat) (mm : Nat) (wc : Sr) (hi : mm ≤ 32) (hn : 32 < mm + n) (hW : FillS w7 (tl (a s0)) mm wc) (H : Heap) (locs : List Loc), va_P D vwCl (MW h qt qw qm qf d (T, wc, M7, f7)) H → va_D A (MW h qt qw qm qf d (T, wc, M7, f7)) → va_S A s.heap H locs → ∀ ls : Array Slot, lv_has ls 3 [(0, .ref h), (1, .int (iI ((s0 : Int)))), (2, .int (iI ((mm : Int))))] → W p l e (rK 6 150) s m args below meth c H locs 0 0 Q (F0 m 23 ls []) := by
      intro n
      induction n with
      | zero =>
        intro mm wc hi hn hW
        exfalso
        omega
      | succ n ih_23 =>
        intro mm wc hi hn hW H locs hP hD hS ls hl
        refine lv_iload_n hx hb dX1_advance_23 rfl (lv_at hl 2 rfl) ?_
        refine x_bipush hx hb dX1_advance_24 (by decide) ?_
        refine x_icmp_ge (tgt := 49) hx hb (by omega) dX1_advance_26 (by decide) (fun c_26 => ?_) (fun c_26 => ?_)
        · -- t 49
          refine lv_aload_n hx hb dX1_advance_49 rfl (lv_at hl 0 rfl) ?_
          refine lv_iload_n hx hb dX1_advance_50 rfl (lv_at hl 1 rfl) ?_
          refine g_calli ⟨hx, hb, hml, hown, hts⟩ (metX1_settle l D d h qt qw qm qf T wc M7 f7 a hM s0 L (tl (a s0)) hs04 hO9.1 hO9.2 (fun j hj => fillS_in hW (by omega))) (cwV 1 hts (lw_V q231 q233 qs21 q34 q234) rfl rfl rfl (by decide +kernel) ⟨Nat.le_of_ble_eq_true rfl, Nat.le_of_ble_eq_true rfl⟩) (va_recv hK hP (ci := 1) (q0 := 0) rfl rfl) hK hA hP hD hS rfl hl.1 rfl (Nat.le_of_ble_eq_true rfl) dX1_advance_51 ⟨Nat.zero_le _, Nat.zero_le _⟩ (fun r u H locs hq hP hD hS => ?_)
          obtain ⟨T9, M9, rfl, hs9⟩ := hq
          exact hret _ _ H locs _ _ (⟨T9, _, M9, _, rfl, Or.inr ⟨s0, hs04, rfl, hs9⟩⟩) hP hD hS dX1_advance_54
        · -- f 29
          refine lv_aload_n hx hb dX1_advance_29 rfl (lv_at hl 0 rfl) ?_
          refine m_getw hx hb hts hown hK hP dX1_advance_30 ?_
          refine lv_iload_n hx hb dX1_advance_33 rfl (lv_at hl 2 rfl) ?_
          refine lv_aload_n hx hb dX1_advance_34 rfl (lv_at hl 0 rfl) ?_
          refine m_getw hx hb hts hown hK hP dX1_advance_35 ?_
          refine lv_iload_n hx hb dX1_advance_38 rfl (lv_at hl 2 rfl) ?_
          refine x_iconst hx hb dX1_advance_39 ?_
          refine x_iadd hx hb dX1_advance_40 ?_
          refine m_wld hx hb hK hP (mm + 1) (by omega) dX1_advance_41 ?_
          refine m_wst hx hb hK hP hD hS (mm) (wc (mm + 1)) (rfl) (by omega) dX1_advance_42 (fun H locs hP hD hS => ?_)
          obtain ⟨w2, ew2⟩ : ∃ z, z = setS wc (mm) (wc (mm + 1)) := ⟨_, rfl⟩
          rw [← ew2] at hP hD
          refine x_iinc (v := ((mm + 1 : Nat) : Int)) (lv' := [(2, .int (iI (((mm + 1 : Nat) : Int)))), (0, .ref h), (1, .int (iI ((s0 : Int))))]) hx hb dX1_advance_43 hl (k := 2) rfl (by omega) (by decide) rfl (fun ls hl => ?_)
          refine lv_goto (tgt := 23) hx hb dX1_advance_46 (by decide) ?_
          exact ih_23 (mm + 1) w2 (by omega) (by omega) (by rw [ew2]; exact fillS_s hW (by rw [fillS_out hW (by omega), hw6 _ (by omega)]; rfl)) H locs hP hD hS ls (lv_sub hl [1, 2, 0] rfl)
    exact lp_23 33 0 w7 (by omega) (by omega) (fillS_0 _ _) H locs hP hD hS ls (lv_sub hl [1, 2, 0] rfl)
  · -- f 8
    have hbadz1 := bd_n (by assumption : ¬ bd z1 = 0)
    refine x_iconst hx hb dX1_advance_8 ?_
    exact hret _ _ H locs _ _ (⟨T, w, M, f, rfl, Or.inl ⟨hbadz1, rfl, rfl⟩⟩) hP hD hS dX1_advance_9
abbrev wsX1_prepend : List Cond := ws_ yX1_prepend cX1_prepend 4 (some .int)
set_option maxHeartbeats 4000000 in
set_option maxRecDepth 100000 in
/-- prepend(s, x) -/
theorem metX1_prepend (l : Launch) (D : va_G) (d : ClassId) (h qt qw qm qf : Nat) (T : Nat → Sr) (w : Sr) (M : Nat → Sr) (f : Sr) (a : Nat → Sr) (hM : MInv T a) (Ls : Nat → Nat) (hLs : OLs a Ls) (z1 : Int) (hz1 : -2147483648 ≤ z1 ∧ z1 < 2147483648) (z2 : Int) (hz2 : -2147483648 ≤ z2 ∧ z2 < 2147483648) (L : Nat) (hO : ∀ s0 : Nat, s0 < 4 → z1 = (s0 : Int) → Ord (pre1 (toF z2) (a s0)) L ∧ L ≤ 16) : gMi l yX1_prepend wsX1_prepend (rK 6 150) D d (MW h qt qw qm qf d) (T, w, M, f) h [.int (iI (z1)), .int (iI (z2))] (fun r u => ∃ T1 w1 M1 f1, u = (T1, w1, M1, f1) ∧ (((z1 < 0 ∨ 3 < z1) ∧ r = iI (-1) ∧ T1 = T) ∨ (∃ s0 : Nat, s0 < 4 ∧ z1 = (s0 : Int) ∧ Stl T1 a s0 (pre1 (toF z2) (a s0)) L r))) := by
  refine g_entryi (by decide) (Nat.le_of_ble_eq_true rfl) ?_
  intro p e s m args below meth c A Q hx hb hml hown hts hK hA hret H locs hP hD hS ls hl
  have hl : lv_has ls 4 [(0, .ref h), (1, .int (iI (z1))), (2, .int (iI (z2)))] := hl
  refine lv_aload_n hx hb dX1_prepend_0 rfl (lv_at hl 0 rfl) ?_
  refine lv_iload_n hx hb dX1_prepend_1 rfl (lv_at hl 1 rfl) ?_
  refine g_calli ⟨hx, hb, hml, hown, hts⟩ (metX1_bad l D d h qt qw qm qf T w M f z1 hz1) (cwV 1 hts (lw_V q214 q216 qs18 q34 q217) rfl rfl rfl (by decide +kernel) ⟨Nat.le_of_ble_eq_true rfl, Nat.le_of_ble_eq_true rfl⟩) (va_recv hK hP (ci := 1) (q0 := 0) rfl rfl) hK hA hP hD hS rfl hl.1 rfl (Nat.le_of_ble_eq_true rfl) dX1_prepend_2 ⟨Nat.zero_le _, Nat.zero_le _⟩ (fun r u H locs hq hP hD hS => ?_)
  obtain ⟨rfl, rfl⟩ := hq
  refine x_if_eq (tgt := 10) hx hb (by have := bd_bd z1; omega) dX1_prepend_5 (by decide) (fun c_5 => ?_) (fun c_5 => ?_)
  · -- t 10
    obtain ⟨s0, rfl⟩ : ∃ q : Nat, z1 = (q : Int) := ⟨z1.toNat, by have := bd_y (by assumption : bd z1 = 0); omega⟩
    have hs04 : s0 < 4 := by have := bd_y (by assumption : bd (s0 : Int) = 0); omega
    have hO9 := hO s0 hs04 rfl
    refine lv_aload_n hx hb dX1_prepend_10 rfl (lv_at hl 0 rfl) ?_
    refine m_getw hx hb hts hown hK hP dX1_prepend_11 ?_
    refine x_iconst hx hb dX1_prepend_14 ?_
    refine lv_aload_n hx hb dX1_prepend_15 rfl (lv_at hl 0 rfl) ?_
    refine lv_iload_n hx hb dX1_prepend_16 rfl (lv_at hl 2 rfl) ?_
    refine g_calli ⟨hx, hb, hml, hown, hts⟩ (metX1_mod l D d h qt qw qm qf T w M f z2 hz2) (cwV 1 hts (lw_V q259 q261 qs28 q34 q262) rfl rfl rfl (by decide +kernel) ⟨Nat.le_of_ble_eq_true rfl, Nat.le_of_ble_eq_true rfl⟩) (va_recv hK hP (ci := 1) (q0 := 0) rfl rfl) hK hA hP hD hS rfl hl.1 rfl (Nat.le_of_ble_eq_true rfl) dX1_prepend_17 ⟨Nat.zero_le _, Nat.zero_le _⟩ (fun r u H locs hq hP hD hS => ?_)
    obtain ⟨rfl, rfl⟩ := hq
    refine m_wst hx hb hK hP hD hS (0) (toF z2) (rfl) (by omega) dX1_prepend_20 (fun H locs hP hD hS => ?_)
    obtain ⟨w0, ew0⟩ : ∃ z, z = setS w (0) (toF z2) := ⟨_, rfl⟩
    rw [← ew0] at hP hD
    refine x_iconst hx hb dX1_prepend_21 ?_
    refine lv_istore_n (lv' := [(3, .int (iI (1))), (0, .ref h), (1, .int (iI ((s0 : Int)))), (2, .int (iI (z2)))]) hx hb dX1_prepend_22 rfl hl (by decide) rfl (fun ls hl => ?_)
    have lp_23 : ∀ (n : Nat) (mm : Nat) (wc : Sr) (hi : 1 ≤ mm ∧ mm ≤ 32) (hn : 32 < mm + n) (hW : WI wc (pre1 (toF z2) (a s0)) mm) (H : Heap) (locs : List Loc), va_P D vwCl (MW h qt qw qm qf d (T, wc, M, f)) H → va_D A (MW h qt qw qm qf d (T, wc, M, f)) → va_S A s.heap H locs → ∀ ls : Array Slot, lv_has ls 4 [(0, .ref h), (1, .int (iI ((s0 : Int)))), (3, .int (iI ((mm : Int))))] → W p l e (rK 6 150) s m args below meth c H locs 0 0 Q (F0 m 23 ls []) := by
      intro n
      induction n with
      | zero =>
        intro mm wc hi hn hW
        exfalso
        omega
      | succ n ih_23 =>
        intro mm wc hi hn hW H locs hP hD hS ls hl
        refine lv_iload_n hx hb dX1_prepend_23 rfl (lv_at hl 2 rfl) ?_
        refine x_bipush hx hb dX1_prepend_24 (by decide) ?_
        refine x_icmp_ge (tgt := 54) hx hb (by omega) dX1_prepend_26 (by decide) (fun c_26 => ?_) (fun c_26 => ?_)
        · -- t 54
          refine lv_aload_n hx hb dX1_prepend_54 rfl (lv_at hl 0 rfl) ?_
          refine lv_iload_n hx hb dX1_prepend_55 rfl (lv_at hl 1 rfl) ?_
          refine g_calli ⟨hx, hb, hml, hown, hts⟩ (metX1_settle l D d h qt qw qm qf T wc M f a hM s0 L (pre1 (toF z2) (a s0)) hs04 hO9.1 hO9.2 (wi_32 hW (by omega))) (cwV 1 hts (lw_V q231 q233 qs21 q34 q234) rfl rfl rfl (by decide +kernel) ⟨Nat.le_of_ble_eq_true rfl, Nat.le_of_ble_eq_true rfl⟩) (va_recv hK hP (ci := 1) (q0 := 0) rfl rfl) hK hA hP hD hS rfl hl.1 rfl (Nat.le_of_ble_eq_true rfl) dX1_prepend_56 ⟨Nat.zero_le _, Nat.zero_le _⟩ (fun r u H locs hq hP hD hS => ?_)
          obtain ⟨T9, M9, rfl, hs9⟩ := hq
          exact hret _ _ H locs _ _ (⟨T9, _, M9, _, rfl, Or.inr ⟨s0, hs04, rfl, hs9⟩⟩) hP hD hS dX1_prepend_59
        · -- f 29
          refine lv_aload_n hx hb dX1_prepend_29 rfl (lv_at hl 0 rfl) ?_
          refine m_getw hx hb hts hown hK hP dX1_prepend_30 ?_
          refine lv_iload_n hx hb dX1_prepend_33 rfl (lv_at hl 2 rfl) ?_
          refine lv_aload_n hx hb dX1_prepend_34 rfl (lv_at hl 0 rfl) ?_
          refine m_gett hx hb hts hown hK hP dX1_prepend_35 ?_
          refine lv_iload_n hx hb dX1_prepend_38 rfl (lv_at hl 1 rfl) ?_
          refine x_bipush hx hb dX1_prepend_39 (by decide) ?_
          refine x_imul hx hb dX1_prepend_41 ?_
          refine lv_iload_n hx hb dX1_prepend_42 rfl (lv_at hl 2 rfl) ?_
          refine x_iadd hx hb dX1_prepend_43 ?_
          refine x_iconst hx hb dX1_prepend_44 ?_
          refine x_isub hx hb dX1_prepend_45 ?_
          refine m_tld hx hb hK hP (s0) (mm - 1) (by omega) dX1_prepend_46 ?_
          refine m_wst hx hb hK hP hD hS (mm) (T s0 (mm - 1)) (rfl) (by omega) dX1_prepend_47 (fun H locs hP hD hS => ?_)
          obtain ⟨w2, ew2⟩ : ∃ z, z = setS wc (mm) (T s0 (mm - 1)) := ⟨_, rfl⟩
          rw [← ew2] at hP hD
          refine x_iinc (v := ((mm + 1 : Nat) : Int)) (lv' := [(3, .int (iI (((mm + 1 : Nat) : Int)))), (0, .ref h), (1, .int (iI ((s0 : Int))))]) hx hb dX1_prepend_48 hl (k := 2) rfl (by omega) (by decide) rfl (fun ls hl => ?_)
          refine lv_goto (tgt := 23) hx hb dX1_prepend_51 (by decide) ?_
          exact ih_23 (mm + 1) w2 (by omega) (by omega) (wi_s hW ew2 (by rw [pre1_s (by omega), hM s0 hs04 _ (by omega)])) H locs hP hD hS ls (lv_sub hl [1, 2, 0] rfl)
    exact lp_23 32 1 w0 (by omega) (by omega) (wi_s (wi_0 _ _) ew0 rfl) H locs hP hD hS ls (lv_sub hl [1, 2, 0] rfl)
  · -- f 8
    have hbadz1 := bd_n (by assumption : ¬ bd z1 = 0)
    refine x_iconst hx hb dX1_prepend_8 ?_
    exact hret _ _ H locs _ _ (⟨T, w, M, f, rfl, Or.inl ⟨hbadz1, rfl, rfl⟩⟩) hP hD hS dX1_prepend_9
abbrev wsX1_accumulate : List Cond := ws_ yX1_accumulate cX1_accumulate 4 (some .int)
set_option maxHeartbeats 4000000 in
set_option maxRecDepth 100000 in
/-- accumulate(s) -/
theorem metX1_accumulate (l : Launch) (D : va_G) (d : ClassId) (h qt qw qm qf : Nat) (T : Nat → Sr) (w : Sr) (M : Nat → Sr) (f : Sr) (a : Nat → Sr) (hM : MInv T a) (Ls : Nat → Nat) (hLs : OLs a Ls) (z1 : Int) (hz1 : -2147483648 ≤ z1 ∧ z1 < 2147483648) (L : Nat) (hO : ∀ s0 : Nat, s0 < 4 → z1 = (s0 : Int) → Ord (acc (a s0)) L ∧ L ≤ 16) : gMi l yX1_accumulate wsX1_accumulate (rK 6 150) D d (MW h qt qw qm qf d) (T, w, M, f) h [.int (iI (z1))] (fun r u => ∃ T1 w1 M1 f1, u = (T1, w1, M1, f1) ∧ (((z1 < 0 ∨ 3 < z1) ∧ r = iI (-1) ∧ T1 = T) ∨ (∃ s0 : Nat, s0 < 4 ∧ z1 = (s0 : Int) ∧ Stl T1 a s0 (acc (a s0)) L r))) := by
  refine g_entryi (by decide) (Nat.le_of_ble_eq_true rfl) ?_
  intro p e s m args below meth c A Q hx hb hml hown hts hK hA hret H locs hP hD hS ls hl
  have hl : lv_has ls 4 [(0, .ref h), (1, .int (iI (z1)))] := hl
  refine lv_aload_n hx hb dX1_accumulate_0 rfl (lv_at hl 0 rfl) ?_
  refine lv_iload_n hx hb dX1_accumulate_1 rfl (lv_at hl 1 rfl) ?_
  refine g_calli ⟨hx, hb, hml, hown, hts⟩ (metX1_bad l D d h qt qw qm qf T w M f z1 hz1) (cwV 1 hts (lw_V q214 q216 qs18 q34 q217) rfl rfl rfl (by decide +kernel) ⟨Nat.le_of_ble_eq_true rfl, Nat.le_of_ble_eq_true rfl⟩) (va_recv hK hP (ci := 1) (q0 := 0) rfl rfl) hK hA hP hD hS rfl hl.1 rfl (Nat.le_of_ble_eq_true rfl) dX1_accumulate_2 ⟨Nat.zero_le _, Nat.zero_le _⟩ (fun r u H locs hq hP hD hS => ?_)
  obtain ⟨rfl, rfl⟩ := hq
  refine x_if_eq (tgt := 10) hx hb (by have := bd_bd z1; omega) dX1_accumulate_5 (by decide) (fun c_5 => ?_) (fun c_5 => ?_)
  · -- t 10
    obtain ⟨s0, rfl⟩ : ∃ q : Nat, z1 = (q : Int) := ⟨z1.toNat, by have := bd_y (by assumption : bd z1 = 0); omega⟩
    have hs04 : s0 < 4 := by have := bd_y (by assumption : bd (s0 : Int) = 0); omega
    have hO9 := hO s0 hs04 rfl
    refine x_iconst hx hb dX1_accumulate_10 ?_
    refine lv_istore_n (lv' := [(2, .int (iI (0))), (0, .ref h), (1, .int (iI ((s0 : Int))))]) hx hb dX1_accumulate_11 rfl hl (by decide) rfl (fun ls hl => ?_)
    refine x_iconst hx hb dX1_accumulate_12 ?_
    refine lv_istore_n (lv' := [(3, .int (iI (0))), (2, .int (iI (0))), (0, .ref h), (1, .int (iI ((s0 : Int))))]) hx hb dX1_accumulate_13 rfl hl (by decide) rfl (fun ls hl => ?_)
    have lp_14 : ∀ (n : Nat) (mm : Nat) (v : Fp) (wc : Sr) (hi : mm ≤ 32) (hn : 32 < mm + n) (hv : v = su (a s0) mm) (hW : WI wc (acc (a s0)) mm) (H : Heap) (locs : List Loc), va_P D vwCl (MW h qt qw qm qf d (T, wc, M, f)) H → va_D A (MW h qt qw qm qf d (T, wc, M, f)) → va_S A s.heap H locs → ∀ ls : Array Slot, lv_has ls 4 [(0, .ref h), (1, .int (iI ((s0 : Int)))), (2, .int (iI ((v.val : Int)))), (3, .int (iI ((mm : Int))))] → W p l e (rK 6 150) s m args below meth c H locs 0 0 Q (F0 m 14 ls []) := by
      intro n
      induction n with
      | zero =>
        intro mm v wc hi hn hv hW
        exfalso
        omega
      | succ n ih_14 =>
        intro mm v wc hi hn hv hW H locs hP hD hS ls hl
        refine lv_iload_n hx hb dX1_accumulate_14 rfl (lv_at hl 3 rfl) ?_
        refine x_bipush hx hb dX1_accumulate_15 (by decide) ?_
        refine x_icmp_ge (tgt := 50) hx hb (by omega) dX1_accumulate_17 (by decide) (fun c_17 => ?_) (fun c_17 => ?_)
        · -- t 50
          refine lv_aload_n hx hb dX1_accumulate_50 rfl (lv_at hl 0 rfl) ?_
          refine lv_iload_n hx hb dX1_accumulate_51 rfl (lv_at hl 1 rfl) ?_
          refine g_calli ⟨hx, hb, hml, hown, hts⟩ (metX1_settle l D d h qt qw qm qf T wc M f a hM s0 L (acc (a s0)) hs04 hO9.1 hO9.2 (wi_32 hW (by omega))) (cwV 1 hts (lw_V q231 q233 qs21 q34 q234) rfl rfl rfl (by decide +kernel) ⟨Nat.le_of_ble_eq_true rfl, Nat.le_of_ble_eq_true rfl⟩) (va_recv hK hP (ci := 1) (q0 := 0) rfl rfl) hK hA hP hD hS rfl hl.1 rfl (Nat.le_of_ble_eq_true rfl) dX1_accumulate_52 ⟨Nat.zero_le _, Nat.zero_le _⟩ (fun r u H locs hq hP hD hS => ?_)
          obtain ⟨T9, M9, rfl, hs9⟩ := hq
          exact hret _ _ H locs _ _ (⟨T9, _, M9, _, rfl, Or.inr ⟨s0, hs04, rfl, hs9⟩⟩) hP hD hS dX1_accumulate_55
        · -- f 20
          refine lv_iload_n hx hb dX1_accumulate_20 rfl (lv_at hl 2 rfl) ?_
          refine lv_aload_n hx hb dX1_accumulate_21 rfl (lv_at hl 0 rfl) ?_
          refine m_gett hx hb hts hown hK hP dX1_accumulate_22 ?_
          refine lv_iload_n hx hb dX1_accumulate_25 rfl (lv_at hl 1 rfl) ?_
          refine x_bipush hx hb dX1_accumulate_26 (by decide) ?_
          refine x_imul hx hb dX1_accumulate_28 ?_
          refine lv_iload_n hx hb dX1_accumulate_29 rfl (lv_at hl 3 rfl) ?_
          refine x_iadd hx hb dX1_accumulate_30 ?_
          refine m_tld hx hb hK hP (s0) (mm) (by omega) dX1_accumulate_31 ?_
          refine x_iadd hx hb dX1_accumulate_32 ?_
          refine x_bipush hx hb dX1_accumulate_33 (by decide) ?_
          refine x_irem hx hb (v + T s0 mm) (by rw [toF_add, toF_of, toF_of]) (by omega) dX1_accumulate_35 ?_
          refine lv_istore_n (lv' := [(2, .int (iI (((v + T s0 mm).val : Int)))), (0, .ref h), (1, .int (iI ((s0 : Int)))), (3, .int (iI ((mm : Int))))]) hx hb dX1_accumulate_36 rfl hl (by decide) rfl (fun ls hl => ?_)
          refine lv_aload_n hx hb dX1_accumulate_37 rfl (lv_at hl 1 rfl) ?_
          refine m_getw hx hb hts hown hK hP dX1_accumulate_38 ?_
          refine lv_iload_n hx hb dX1_accumulate_41 rfl (lv_at hl 3 rfl) ?_
          refine lv_iload_n hx hb dX1_accumulate_42 rfl (lv_at hl 0 rfl) ?_
          refine m_wst hx hb hK hP hD hS (mm) (v + T s0 mm) (rfl) (by omega) dX1_accumulate_43 (fun H locs hP hD hS => ?_)
          obtain ⟨w2, ew2⟩ : ∃ z, z = setS wc (mm) (v + T s0 mm) := ⟨_, rfl⟩
          rw [← ew2] at hP hD
          refine x_iinc (v := ((mm + 1 : Nat) : Int)) (lv' := [(3, .int (iI (((mm + 1 : Nat) : Int)))), (2, .int (iI (((v + T s0 mm).val : Int)))), (0, .ref h), (1, .int (iI ((s0 : Int))))]) hx hb dX1_accumulate_44 hl (k := 3) rfl (by omega) (by decide) rfl (fun ls hl => ?_)
          refine lv_goto (tgt := 14) hx hb dX1_accumulate_47 (by decide) ?_
          exact ih_14 (mm + 1) (v + T s0 mm) w2 (by omega) (by omega) (by rw [hv, hM s0 hs04 mm (by omega)]; rfl) (wi_s hW ew2 (by rw [hv, hM s0 hs04 mm (by omega)]; rfl)) H locs hP hD hS ls (lv_sub hl [2, 3, 1, 0] rfl)
    exact lp_14 33 0 0 w (by omega) (by omega) rfl (wi_0 _ _) H locs hP hD hS ls (lv_sub hl [2, 3, 1, 0] rfl)
  · -- f 8
    have hbadz1 := bd_n (by assumption : ¬ bd z1 = 0)
    refine x_iconst hx hb dX1_accumulate_8 ?_
    exact hret _ _ H locs _ _ (⟨T, w, M, f, rfl, Or.inl ⟨hbadz1, rfl, rfl⟩⟩) hP hD hS dX1_accumulate_9
abbrev wsX1_difference : List Cond := ws_ yX1_difference cX1_difference 4 (some .int)
set_option maxHeartbeats 4000000 in
set_option maxRecDepth 100000 in
/-- difference(s) -/
theorem metX1_difference (l : Launch) (D : va_G) (d : ClassId) (h qt qw qm qf : Nat) (T : Nat → Sr) (w : Sr) (M : Nat → Sr) (f : Sr) (a : Nat → Sr) (hM : MInv T a) (Ls : Nat → Nat) (hLs : OLs a Ls) (z1 : Int) (hz1 : -2147483648 ≤ z1 ∧ z1 < 2147483648) (L : Nat) (hO : ∀ s0 : Nat, s0 < 4 → z1 = (s0 : Int) → Ord (cv stp (a s0)) L ∧ L ≤ 16) : gMi l yX1_difference wsX1_difference (rK 6 150) D d (MW h qt qw qm qf d) (T, w, M, f) h [.int (iI (z1))] (fun r u => ∃ T1 w1 M1 f1, u = (T1, w1, M1, f1) ∧ (((z1 < 0 ∨ 3 < z1) ∧ r = iI (-1) ∧ T1 = T) ∨ (∃ s0 : Nat, s0 < 4 ∧ z1 = (s0 : Int) ∧ Stl T1 a s0 (cv stp (a s0)) L r))) := by
  refine g_entryi (by decide) (Nat.le_of_ble_eq_true rfl) ?_
  intro p e s m args below meth c A Q hx hb hml hown hts hK hA hret H locs hP hD hS ls hl
  have hl : lv_has ls 4 [(0, .ref h), (1, .int (iI (z1)))] := hl
  refine lv_aload_n hx hb dX1_difference_0 rfl (lv_at hl 0 rfl) ?_
  refine lv_iload_n hx hb dX1_difference_1 rfl (lv_at hl 1 rfl) ?_
  refine g_calli ⟨hx, hb, hml, hown, hts⟩ (metX1_bad l D d h qt qw qm qf T w M f z1 hz1) (cwV 1 hts (lw_V q214 q216 qs18 q34 q217) rfl rfl rfl (by decide +kernel) ⟨Nat.le_of_ble_eq_true rfl, Nat.le_of_ble_eq_true rfl⟩) (va_recv hK hP (ci := 1) (q0 := 0) rfl rfl) hK hA hP hD hS rfl hl.1 rfl (Nat.le_of_ble_eq_true rfl) dX1_difference_2 ⟨Nat.zero_le _, Nat.zero_le _⟩ (fun r u H locs hq hP hD hS => ?_)
  obtain ⟨rfl, rfl⟩ := hq
  refine x_if_eq (tgt := 10) hx hb (by have := bd_bd z1; omega) dX1_difference_5 (by decide) (fun c_5 => ?_) (fun c_5 => ?_)
  · -- t 10
    obtain ⟨s0, rfl⟩ : ∃ q : Nat, z1 = (q : Int) := ⟨z1.toNat, by have := bd_y (by assumption : bd z1 = 0); omega⟩
    have hs04 : s0 < 4 := by have := bd_y (by assumption : bd (s0 : Int) = 0); omega
    have hO9 := hO s0 hs04 rfl
    refine x_iconst hx hb dX1_difference_10 ?_
    refine lv_istore_n (lv' := [(2, .int (iI (0))), (0, .ref h), (1, .int (iI ((s0 : Int))))]) hx hb dX1_difference_11 rfl hl (by decide) rfl (fun ls hl => ?_)
    refine x_iconst hx hb dX1_difference_12 ?_
    refine lv_istore_n (lv' := [(3, .int (iI (0))), (2, .int (iI (0))), (0, .ref h), (1, .int (iI ((s0 : Int))))]) hx hb dX1_difference_13 rfl hl (by decide) rfl (fun ls hl => ?_)
    have lp_14 : ∀ (n : Nat) (mm : Nat) (v : Fp) (wc : Sr) (hi : mm ≤ 32) (hn : 32 < mm + n) (hv : DifI (a s0) mm v) (hW : WI wc (cv stp (a s0)) mm) (H : Heap) (locs : List Loc), va_P D vwCl (MW h qt qw qm qf d (T, wc, M, f)) H → va_D A (MW h qt qw qm qf d (T, wc, M, f)) → va_S A s.heap H locs → ∀ ls : Array Slot, lv_has ls 4 [(0, .ref h), (1, .int (iI ((s0 : Int)))), (2, .int (iI ((v.val : Int)))), (3, .int (iI ((mm : Int))))] → W p l e (rK 6 150) s m args below meth c H locs 0 0 Q (F0 m 14 ls []) := by
      intro n
      induction n with
      | zero =>
        intro mm v wc hi hn hv hW
        exfalso
        omega
      | succ n ih_14 =>
        intro mm v wc hi hn hv hW H locs hP hD hS ls hl
        refine lv_iload_n hx hb dX1_difference_14 rfl (lv_at hl 3 rfl) ?_
        refine x_bipush hx hb dX1_difference_15 (by decide) ?_
        refine x_icmp_ge (tgt := 61) hx hb (by omega) dX1_difference_17 (by decide) (fun c_17 => ?_) (fun c_17 => ?_)
        · -- t 61
          refine lv_aload_n hx hb dX1_difference_61 rfl (lv_at hl 0 rfl) ?_
          refine lv_iload_n hx hb dX1_difference_62 rfl (lv_at hl 1 rfl) ?_
          refine g_calli ⟨hx, hb, hml, hown, hts⟩ (metX1_settle l D d h qt qw qm qf T wc M f a hM s0 L (cv stp (a s0)) hs04 hO9.1 hO9.2 (wi_32 hW (by omega))) (cwV 1 hts (lw_V q231 q233 qs21 q34 q234) rfl rfl rfl (by decide +kernel) ⟨Nat.le_of_ble_eq_true rfl, Nat.le_of_ble_eq_true rfl⟩) (va_recv hK hP (ci := 1) (q0 := 0) rfl rfl) hK hA hP hD hS rfl hl.1 rfl (Nat.le_of_ble_eq_true rfl) dX1_difference_63 ⟨Nat.zero_le _, Nat.zero_le _⟩ (fun r u H locs hq hP hD hS => ?_)
          obtain ⟨T9, M9, rfl, hs9⟩ := hq
          exact hret _ _ H locs _ _ (⟨T9, _, M9, _, rfl, Or.inr ⟨s0, hs04, rfl, hs9⟩⟩) hP hD hS dX1_difference_66
        · -- f 20
          refine lv_aload_n hx hb dX1_difference_20 rfl (lv_at hl 0 rfl) ?_
          refine m_getw hx hb hts hown hK hP dX1_difference_21 ?_
          refine lv_iload_n hx hb dX1_difference_24 rfl (lv_at hl 3 rfl) ?_
          refine lv_aload_n hx hb dX1_difference_25 rfl (lv_at hl 0 rfl) ?_
          refine lv_aload_n hx hb dX1_difference_26 rfl (lv_at hl 0 rfl) ?_
          refine m_gett hx hb hts hown hK hP dX1_difference_27 ?_
          refine lv_iload_n hx hb dX1_difference_30 rfl (lv_at hl 1 rfl) ?_
          refine x_bipush hx hb dX1_difference_31 (by decide) ?_
          refine x_imul hx hb dX1_difference_33 ?_
          refine lv_iload_n hx hb dX1_difference_34 rfl (lv_at hl 3 rfl) ?_
          refine x_iadd hx hb dX1_difference_35 ?_
          refine m_tld hx hb hK hP (s0) (mm) (by omega) dX1_difference_36 ?_
          refine lv_iload_n hx hb dX1_difference_37 rfl (lv_at hl 2 rfl) ?_
          refine x_isub hx hb dX1_difference_38 ?_
          refine g_calli ⟨hx, hb, hml, hown, hts⟩ (metX1_mod l D d h qt qw qm qf T wc M f (((T s0 mm).val : Int) - (v.val : Int)) (by omega)) (cwV 1 hts (lw_V q259 q261 qs28 q34 q262) rfl rfl rfl (by decide +kernel) ⟨Nat.le_of_ble_eq_true rfl, Nat.le_of_ble_eq_true rfl⟩) (va_recv hK hP (ci := 1) (q0 := 0) rfl rfl) hK hA hP hD hS rfl hl.1 rfl (Nat.le_of_ble_eq_true rfl) dX1_difference_39 ⟨Nat.zero_le _, Nat.zero_le _⟩ (fun r u H locs hq hP hD hS => ?_)
          obtain ⟨rfl, rfl⟩ := hq
          rw [show toF (((T s0 mm).val : Int) - (v.val : Int)) = T s0 mm - v from by rw [toF_sub, toF_of, toF_of]]
          refine m_wst hx hb hK hP hD hS (mm) (T s0 mm - v) (rfl) (by omega) dX1_difference_42 (fun H locs hP hD hS => ?_)
          obtain ⟨w2, ew2⟩ : ∃ z, z = setS wc (mm) (T s0 mm - v) := ⟨_, rfl⟩
          rw [← ew2] at hP hD
          refine lv_aload_n hx hb dX1_difference_43 rfl (lv_at hl 0 rfl) ?_
          refine m_gett hx hb hts hown hK hP dX1_difference_44 ?_
          refine lv_iload_n hx hb dX1_difference_47 rfl (lv_at hl 1 rfl) ?_
          refine x_bipush hx hb dX1_difference_48 (by decide) ?_
          refine x_imul hx hb dX1_difference_50 ?_
          refine lv_iload_n hx hb dX1_difference_51 rfl (lv_at hl 3 rfl) ?_
          refine x_iadd hx hb dX1_difference_52 ?_
          refine m_tld hx hb hK hP (s0) (mm) (by omega) dX1_difference_53 ?_
          refine lv_istore_n (lv' := [(2, .int (iI (((T (s0) (mm)).val : Int)))), (0, .ref h), (1, .int (iI ((s0 : Int)))), (3, .int (iI ((mm : Int))))]) hx hb dX1_difference_54 rfl hl (by decide) rfl (fun ls hl => ?_)
          refine x_iinc (v := ((mm + 1 : Nat) : Int)) (lv' := [(3, .int (iI (((mm + 1 : Nat) : Int)))), (2, .int (iI (((T (s0) (mm)).val : Int)))), (0, .ref h), (1, .int (iI ((s0 : Int))))]) hx hb dX1_difference_55 hl (k := 3) rfl (by omega) (by decide) rfl (fun ls hl => ?_)
          refine lv_goto (tgt := 14) hx hb dX1_difference_58 (by decide) ?_
          exact ih_14 (mm + 1) (T s0 mm) w2 (by omega) (by omega) (difi_s (hM s0 hs04 mm (by omega))) (wi_s hW ew2 (difi_v hv (hM s0 hs04 mm (by omega)))) H locs hP hD hS ls (lv_sub hl [2, 3, 1, 0] rfl)
    exact lp_14 33 0 0 w (by omega) (by omega) rfl (wi_0 _ _) H locs hP hD hS ls (lv_sub hl [2, 3, 1, 0] rfl)
  · -- f 8
    have hbadz1 := bd_n (by assumption : ¬ bd z1 = 0)
    refine x_iconst hx hb dX1_difference_8 ?_
    exact hret _ _ H locs _ _ (⟨T, w, M, f, rfl, Or.inl ⟨hbadz1, rfl, rfl⟩⟩) hP hD hS dX1_difference_9
abbrev wsX1_copy : List Cond := ws_ yX1_copy cX1_copy 3 (some .int)
set_option maxHeartbeats 4000000 in
set_option maxRecDepth 100000 in
/-- copy(to, s) -/
theorem metX1_copy (l : Launch) (D : va_G) (d : ClassId) (h qt qw qm qf : Nat) (T : Nat → Sr) (w : Sr) (M : Nat → Sr) (f : Sr) (a : Nat → Sr) (hM : MInv T a) (Ls : Nat → Nat) (hLs : OLs a Ls) (z1 : Int) (hz1 : -2147483648 ≤ z1 ∧ z1 < 2147483648) (z2 : Int) (hz2 : -2147483648 ≤ z2 ∧ z2 < 2147483648) (L : Nat) (hO : ∀ t0 s0 : Nat, t0 < 4 → s0 < 4 → z1 = (t0 : Int) → z2 = (s0 : Int) → Ord (a s0) L ∧ L ≤ 16) : gMi l yX1_copy wsX1_copy (rK 6 150) D d (MW h qt qw qm qf d) (T, w, M, f) h [.int (iI (z1)), .int (iI (z2))] (fun r u => ∃ T1 w1 M1 f1, u = (T1, w1, M1, f1) ∧ ((((z1 < 0 ∨ 3 < z1) ∨ (z2 < 0 ∨ 3 < z2)) ∧ r = iI (-1) ∧ T1 = T) ∨ (∃ t0 s0 : Nat, t0 < 4 ∧ s0 < 4 ∧ z1 = (t0 : Int) ∧ z2 = (s0 : Int) ∧ Stl T1 a t0 (a s0) L r))) := by
  refine g_entryi (by decide) (Nat.le_of_ble_eq_true rfl) ?_
  intro p e s m args below meth c A Q hx hb hml hown hts hK hA hret H locs hP hD hS ls hl
  have hl : lv_has ls 3 [(0, .ref h), (1, .int (iI (z1))), (2, .int (iI (z2)))] := hl
  refine lv_aload_n hx hb dX1_copy_0 rfl (lv_at hl 0 rfl) ?_
  refine lv_iload_n hx hb dX1_copy_1 rfl (lv_at hl 1 rfl) ?_
  refine g_calli ⟨hx, hb, hml, hown, hts⟩ (metX1_bad l D d h qt qw qm qf T w M f z1 hz1) (cwV 1 hts (lw_V q214 q216 qs18 q34 q217) rfl rfl rfl (by decide +kernel) ⟨Nat.le_of_ble_eq_true rfl, Nat.le_of_ble_eq_true rfl⟩) (va_recv hK hP (ci := 1) (q0 := 0) rfl rfl) hK hA hP hD hS rfl hl.1 rfl (Nat.le_of_ble_eq_true rfl) dX1_copy_2 ⟨Nat.zero_le _, Nat.zero_le _⟩ (fun r u H locs hq hP hD hS => ?_)
  obtain ⟨rfl, rfl⟩ := hq
  refine x_if_ne (tgt := 16) hx hb (by have := bd_bd z1; omega) dX1_copy_5 (by decide) (fun c_5 => ?_) (fun c_5 => ?_)
  · -- t 16
    have hbadz1 := bd_n (by assumption : ¬ bd z1 = 0)
    refine x_iconst hx hb dX1_copy_16 ?_
    exact hret _ _ H locs _ _ (⟨T, w, M, f, rfl, Or.inl ⟨Or.inl hbadz1, rfl, rfl⟩⟩) hP hD hS dX1_copy_17
  · -- f 8
    obtain ⟨t0, rfl⟩ : ∃ q : Nat, z1 = (q : Int) := ⟨z1.toNat, by have := bd_y (by assumption : bd z1 = 0); omega⟩
    have ht04 : t0 < 4 := by have := bd_y (by assumption : bd (t0 : Int) = 0); omega
    refine lv_aload_n hx hb dX1_copy_8 rfl (lv_at hl 0 rfl) ?_
    refine lv_iload_n hx hb dX1_copy_9 rfl (lv_at hl 2 rfl) ?_
    refine g_calli ⟨hx, hb, hml, hown, hts⟩ (metX1_bad l D d h qt qw qm qf T w M f z2 hz2) (cwV 1 hts (lw_V q214 q216 qs18 q34 q217) rfl rfl rfl (by decide +kernel) ⟨Nat.le_of_ble_eq_true rfl, Nat.le_of_ble_eq_true rfl⟩) (va_recv hK hP (ci := 1) (q0 := 0) rfl rfl) hK hA hP hD hS rfl hl.1 rfl (Nat.le_of_ble_eq_true rfl) dX1_copy_10 ⟨Nat.zero_le _, Nat.zero_le _⟩ (fun r u H locs hq hP hD hS => ?_)
    obtain ⟨rfl, rfl⟩ := hq
    refine x_if_eq (tgt := 18) hx hb (by have := bd_bd z2; omega) dX1_copy_13 (by decide) (fun c_13 => ?_) (fun c_13 => ?_)
    · -- t 18
      obtain ⟨s0, rfl⟩ : ∃ q : Nat, z2 = (q : Int) := ⟨z2.toNat, by have := bd_y (by assumption : bd z2 = 0); omega⟩
      have hs04 : s0 < 4 := by have := bd_y (by assumption : bd (s0 : Int) = 0); omega
      have hO9 := hO t0 s0 ht04 hs04 rfl rfl
      refine lv_aload_n hx hb dX1_copy_18 rfl (lv_at hl 0 rfl) ?_
      refine lv_iload_n hx hb dX1_copy_19 rfl (lv_at hl 2 rfl) ?_
      refine g_callv ⟨hx, hb, hml, hown, hts⟩ (metX1_load l D d h qt qw qm qf T w M f s0 hs04) (cwV 1 hts (lw_V q271 q273 qs29 q34 q274) rfl rfl rfl (by decide +kernel) ⟨Nat.le_of_ble_eq_true rfl, Nat.le_of_ble_eq_true rfl⟩) (va_recv hK hP (ci := 1) (q0 := 0) rfl rfl) hK hA hP hD hS rfl hl.1 rfl (Nat.le_of_ble_eq_true rfl) dX1_copy_20 ⟨Nat.zero_le _, Nat.zero_le _⟩ (fun u H locs hq hP hD hS => ?_)
      obtain ⟨w8, rfl, hw8⟩ := hq
      have hw7 : W32 w8 (a s0) := fun j hj => by rw [hw8 j hj, hM s0 hs04 j hj]
      refine lv_aload_n hx hb dX1_copy_23 rfl (lv_at hl 0 rfl) ?_
      refine lv_iload_n hx hb dX1_copy_24 rfl (lv_at hl 1 rfl) ?_
      refine g_calli ⟨hx, hb, hml, hown, hts⟩ (metX1_settle l D d h qt qw qm qf T w8 M f a hM t0 L (a s0) ht04 hO9.1 hO9.2 (hw7)) (cwV 1 hts (lw_V q231 q233 qs21 q34 q234) rfl rfl rfl (by decide +kernel) ⟨Nat.le_of_ble_eq_true rfl, Nat.le_of_ble_eq_true rfl⟩) (va_recv hK hP (ci := 1) (q0 := 0) rfl rfl) hK hA hP hD hS rfl hl.1 rfl (Nat.le_of_ble_eq_true rfl) dX1_copy_25 ⟨Nat.zero_le _, Nat.zero_le _⟩ (fun r u H locs hq hP hD hS => ?_)
      obtain ⟨T9, M9, rfl, hs9⟩ := hq
      exact hret _ _ H locs _ _ (⟨T9, _, M9, _, rfl, Or.inr ⟨t0, s0, ht04, hs04, rfl, rfl, hs9⟩⟩) hP hD hS dX1_copy_28
    · -- f 16
      have hbadz2 := bd_n (by assumption : ¬ bd z2 = 0)
      refine x_iconst hx hb dX1_copy_16 ?_
      exact hret _ _ H locs _ _ (⟨T, w, M, f, rfl, Or.inl ⟨Or.inr hbadz2, rfl, rfl⟩⟩) hP hD hS dX1_copy_17
abbrev wsX1_term : List Cond := ws_ yX1_term cX1_term 3 (some .int)
set_option maxHeartbeats 4000000 in
set_option maxRecDepth 100000 in
/-- term(s, n) -/
theorem metX1_term (l : Launch) (D : va_G) (d : ClassId) (h qt qw qm qf : Nat) (T : Nat → Sr) (w : Sr) (M : Nat → Sr) (f : Sr) (a : Nat → Sr) (hM : MInv T a) (Ls : Nat → Nat) (hLs : OLs a Ls) (z1 : Int) (hz1 : -2147483648 ≤ z1 ∧ z1 < 2147483648) (z2 : Int) (hz2 : -2147483648 ≤ z2 ∧ z2 < 2147483648) : gMi l yX1_term wsX1_term (rK 6 150) D d (MW h qt qw qm qf d) (T, w, M, f) h [.int (iI (z1)), .int (iI (z2))] (fun r u => ∃ w1 M1 f1, u = (T, w1, M1, f1) ∧ (((z1 < 0 ∨ 3 < z1) ∧ r = iI (-1)) ∨ ((0 ≤ z1 ∧ z1 ≤ 3) ∧ (z2 < 0 ∨ 400 < z2) ∧ r = iI (-4)) ∨ (∃ s0 n0 : Nat, s0 < 4 ∧ n0 ≤ 400 ∧ z1 = (s0 : Int) ∧ z2 = (n0 : Int) ∧ r = iI ((a s0 n0).val : Int)))) := by
  refine g_entryi (by decide) (Nat.le_of_ble_eq_true rfl) ?_
  intro p e s m args below meth c A Q hx hb hml hown hts hK hA hret H locs hP hD hS ls hl
  have hl : lv_has ls 3 [(0, .ref h), (1, .int (iI (z1))), (2, .int (iI (z2)))] := hl
  refine lv_aload_n hx hb dX1_term_0 rfl (lv_at hl 0 rfl) ?_
  refine lv_iload_n hx hb dX1_term_1 rfl (lv_at hl 1 rfl) ?_
  refine g_calli ⟨hx, hb, hml, hown, hts⟩ (metX1_bad l D d h qt qw qm qf T w M f z1 hz1) (cwV 1 hts (lw_V q214 q216 qs18 q34 q217) rfl rfl rfl (by decide +kernel) ⟨Nat.le_of_ble_eq_true rfl, Nat.le_of_ble_eq_true rfl⟩) (va_recv hK hP (ci := 1) (q0 := 0) rfl rfl) hK hA hP hD hS rfl hl.1 rfl (Nat.le_of_ble_eq_true rfl) dX1_term_2 ⟨Nat.zero_le _, Nat.zero_le _⟩ (fun r u H locs hq hP hD hS => ?_)
  obtain ⟨rfl, rfl⟩ := hq
  refine x_if_eq (tgt := 10) hx hb (by have := bd_bd z1; omega) dX1_term_5 (by decide) (fun c_5 => ?_) (fun c_5 => ?_)
  · -- t 10
    obtain ⟨s0, rfl⟩ : ∃ q : Nat, z1 = (q : Int) := ⟨z1.toNat, by have := bd_y (by assumption : bd z1 = 0); omega⟩
    have hs04 : s0 < 4 := by have := bd_y (by assumption : bd (s0 : Int) = 0); omega
    refine lv_aload_n hx hb dX1_term_10 rfl (lv_at hl 0 rfl) ?_
    refine lv_iload_n hx hb dX1_term_11 rfl (lv_at hl 2 rfl) ?_
    refine g_calli ⟨hx, hb, hml, hown, hts⟩ (metX1_badIndex l D d h qt qw qm qf T w M f z2 hz2) (cwV 1 hts (lw_V q299 q301 qs31 q34 q302) rfl rfl rfl (by decide +kernel) ⟨Nat.le_of_ble_eq_true rfl, Nat.le_of_ble_eq_true rfl⟩) (va_recv hK hP (ci := 1) (q0 := 0) rfl rfl) hK hA hP hD hS rfl hl.1 rfl (Nat.le_of_ble_eq_true rfl) dX1_term_12 ⟨Nat.zero_le _, Nat.zero_le _⟩ (fun r u H locs hq hP hD hS => ?_)
    obtain ⟨rfl, rfl⟩ := hq
    refine x_if_eq (tgt := 21) hx hb (by have := bi_bd z2; omega) dX1_term_15 (by decide) (fun c_15 => ?_) (fun c_15 => ?_)
    · -- t 21
      have hbi2 := bi_y c_15
      obtain ⟨n0, rfl⟩ : ∃ q : Nat, z2 = (q : Int) := ⟨z2.toNat, by omega⟩
      refine lv_aload_n hx hb dX1_term_21 rfl (lv_at hl 0 rfl) ?_
      refine lv_iload_n hx hb dX1_term_22 rfl (lv_at hl 1 rfl) ?_
      refine g_callv ⟨hx, hb, hml, hown, hts⟩ (metX1_load l D d h qt qw qm qf T w M f s0 hs04) (cwV 1 hts (lw_V q271 q273 qs29 q34 q274) rfl rfl rfl (by decide +kernel) ⟨Nat.le_of_ble_eq_true rfl, Nat.le_of_ble_eq_true rfl⟩) (va_recv hK hP (ci := 1) (q0 := 0) rfl rfl) hK hA hP hD hS rfl hl.1 rfl (Nat.le_of_ble_eq_true rfl) dX1_term_23 ⟨Nat.zero_le _, Nat.zero_le _⟩ (fun u H locs hq hP hD hS => ?_)
      obtain ⟨w8, rfl, hw8⟩ := hq
      have hw7 : W32 w8 (a s0) := fun j hj => by rw [hw8 j hj, hM s0 hs04 j hj]
      refine lv_aload_n hx hb dX1_term_26 rfl (lv_at hl 0 rfl) ?_
      refine lv_iload_n hx hb dX1_term_27 rfl (lv_at hl 2 rfl) ?_
      refine g_callv ⟨hx, hb, hml, hown, hts⟩ (metX1_extend l D d h qt qw qm qf T w8 M f n0 (a s0) (Ls s0) (by omega) (hLs s0 hs04).1 (hLs s0 hs04).2 hw7) (cwV 1 hts (lw_V q275 q277 qs30 q34 q278) rfl rfl rfl (by decide +kernel) ⟨Nat.le_of_ble_eq_true rfl, Nat.le_of_ble_eq_true rfl⟩) (va_recv hK hP (ci := 1) (q0 := 0) rfl rfl) hK hA hP hD hS rfl hl.1 rfl (Nat.le_of_ble_eq_true rfl) dX1_term_28 ⟨Nat.zero_le _, Nat.zero_le _⟩ (fun u H locs hq hP hD hS => ?_)
      obtain ⟨w7, M7, f7, rfl, hw6⟩ := hq
      refine lv_aload_n hx hb dX1_term_31 rfl (lv_at hl 0 rfl) ?_
      refine m_getw hx hb hts hown hK hP dX1_term_32 ?_
      refine lv_iload_n hx hb dX1_term_35 rfl (lv_at hl 2 rfl) ?_
      refine m_wld hx hb hK hP (n0) (by omega) dX1_term_36 ?_
      rw [hw6 n0 (by omega)]
      exact hret _ _ H locs _ _ (⟨w7, M7, f7, rfl, Or.inr (Or.inr ⟨s0, n0, hs04, by omega, rfl, rfl, rfl⟩)⟩) hP hD hS dX1_term_37
    · -- f 18
      have hbi2 := bi_n c_15
      refine x_bipush hx hb dX1_term_18 (by decide) ?_
      exact hret _ _ H locs _ _ (⟨w, M, f, rfl, Or.inr (Or.inl ⟨by omega, hbi2, rfl⟩)⟩) hP hD hS dX1_term_20
  · -- f 8
    have hbadz1 := bd_n (by assumption : ¬ bd z1 = 0)
    refine x_iconst hx hb dX1_term_8 ?_
    exact hret _ _ H locs _ _ (⟨w, M, f, rfl, Or.inl ⟨hbadz1, rfl⟩⟩) hP hD hS dX1_term_9
abbrev wsX1_order : List Cond := ws_ yX1_order cX1_order 2 (some .int)
set_option maxHeartbeats 4000000 in
set_option maxRecDepth 100000 in
/-- order(s) -/
theorem metX1_order (l : Launch) (D : va_G) (d : ClassId) (h qt qw qm qf : Nat) (T : Nat → Sr) (w : Sr) (M : Nat → Sr) (f : Sr) (a : Nat → Sr) (hM : MInv T a) (Ls : Nat → Nat) (hLs : OLs a Ls) (z1 : Int) (hz1 : -2147483648 ≤ z1 ∧ z1 < 2147483648) : gMi l yX1_order wsX1_order (rK 6 150) D d (MW h qt qw qm qf d) (T, w, M, f) h [.int (iI (z1))] (fun r u => ∃ w1 M1 f1, u = (T, w1, M1, f1) ∧ (((z1 < 0 ∨ 3 < z1) ∧ r = iI (-1)) ∨ (∃ s0 : Nat, s0 < 4 ∧ z1 = (s0 : Int) ∧ r = iI (Ls s0 : Int)))) := by
  refine g_entryi (by decide) (Nat.le_of_ble_eq_true rfl) ?_
  intro p e s m args below meth c A Q hx hb hml hown hts hK hA hret H locs hP hD hS ls hl
  have hl : lv_has ls 2 [(0, .ref h), (1, .int (iI (z1)))] := hl
  refine lv_aload_n hx hb dX1_order_0 rfl (lv_at hl 0 rfl) ?_
  refine lv_iload_n hx hb dX1_order_1 rfl (lv_at hl 1 rfl) ?_
  refine g_calli ⟨hx, hb, hml, hown, hts⟩ (metX1_bad l D d h qt qw qm qf T w M f z1 hz1) (cwV 1 hts (lw_V q214 q216 qs18 q34 q217) rfl rfl rfl (by decide +kernel) ⟨Nat.le_of_ble_eq_true rfl, Nat.le_of_ble_eq_true rfl⟩) (va_recv hK hP (ci := 1) (q0 := 0) rfl rfl) hK hA hP hD hS rfl hl.1 rfl (Nat.le_of_ble_eq_true rfl) dX1_order_2 ⟨Nat.zero_le _, Nat.zero_le _⟩ (fun r u H locs hq hP hD hS => ?_)
  obtain ⟨rfl, rfl⟩ := hq
  refine x_if_eq (tgt := 10) hx hb (by have := bd_bd z1; omega) dX1_order_5 (by decide) (fun c_5 => ?_) (fun c_5 => ?_)
  · -- t 10
    obtain ⟨s0, rfl⟩ : ∃ q : Nat, z1 = (q : Int) := ⟨z1.toNat, by have := bd_y (by assumption : bd z1 = 0); omega⟩
    have hs04 : s0 < 4 := by have := bd_y (by assumption : bd (s0 : Int) = 0); omega
    refine lv_aload_n hx hb dX1_order_10 rfl (lv_at hl 0 rfl) ?_
    refine lv_iload_n hx hb dX1_order_11 rfl (lv_at hl 1 rfl) ?_
    refine g_callv ⟨hx, hb, hml, hown, hts⟩ (metX1_load l D d h qt qw qm qf T w M f s0 hs04) (cwV 1 hts (lw_V q271 q273 qs29 q34 q274) rfl rfl rfl (by decide +kernel) ⟨Nat.le_of_ble_eq_true rfl, Nat.le_of_ble_eq_true rfl⟩) (va_recv hK hP (ci := 1) (q0 := 0) rfl rfl) hK hA hP hD hS rfl hl.1 rfl (Nat.le_of_ble_eq_true rfl) dX1_order_12 ⟨Nat.zero_le _, Nat.zero_le _⟩ (fun u H locs hq hP hD hS => ?_)
    obtain ⟨w8, rfl, hw8⟩ := hq
    have hw7 : W32 w8 (a s0) := fun j hj => by rw [hw8 j hj, hM s0 hs04 j hj]
    refine lv_aload_n hx hb dX1_order_15 rfl (lv_at hl 0 rfl) ?_
    refine g_calli ⟨hx, hb, hml, hown, hts⟩ (metX1_rank l D d h qt qw qm qf T w8 M f (a s0) (Ls s0) (hLs s0 hs04).1 (by have := (hLs s0 hs04).2; omega) hw7) (cwV 0 hts (lw_V q235 q237 qs22 q34 q238) rfl rfl rfl (by decide +kernel) ⟨Nat.le_of_ble_eq_true rfl, Nat.le_of_ble_eq_true rfl⟩) (va_recv hK hP (ci := 1) (q0 := 0) rfl rfl) hK hA hP hD hS rfl hl.1 rfl (Nat.le_of_ble_eq_true rfl) dX1_order_16 ⟨Nat.zero_le _, Nat.zero_le _⟩ (fun r u H locs hq hP hD hS => ?_)
    obtain ⟨M9, rfl, rfl⟩ := hq
    exact hret _ _ H locs _ _ (⟨w8, M9, f, rfl, Or.inr ⟨s0, hs04, rfl, rfl⟩⟩) hP hD hS dX1_order_19
  · -- f 8
    have hbadz1 := bd_n (by assumption : ¬ bd z1 = 0)
    refine x_iconst hx hb dX1_order_8 ?_
    exact hret _ _ H locs _ _ (⟨w, M, f, rfl, Or.inl ⟨hbadz1, rfl⟩⟩) hP hD hS dX1_order_9
abbrev wsX1_equal : List Cond := ws_ yX1_equal cX1_equal 4 (some .boolean)
set_option maxHeartbeats 4000000 in
set_option maxRecDepth 100000 in
/-- equal(s, t) -/
theorem metX1_equal (l : Launch) (D : va_G) (d : ClassId) (h qt qw qm qf : Nat) (T : Nat → Sr) (w : Sr) (M : Nat → Sr) (f : Sr) (a : Nat → Sr) (hM : MInv T a) (Ls : Nat → Nat) (hLs : OLs a Ls) (z1 : Int) (hz1 : -2147483648 ≤ z1 ∧ z1 < 2147483648) (z2 : Int) (hz2 : -2147483648 ≤ z2 ∧ z2 < 2147483648) : gMi l yX1_equal wsX1_equal (rK 6 150) D d (MW h qt qw qm qf d) (T, w, M, f) h [.int (iI (z1)), .int (iI (z2))] (fun r u => ∃ w1 M1 f1, u = (T, w1, M1, f1) ∧ ((((z1 < 0 ∨ 3 < z1) ∨ (z2 < 0 ∨ 3 < z2)) ∧ r = iI 0) ∨ (∃ s0 t0 : Nat, s0 < 4 ∧ t0 < 4 ∧ z1 = (s0 : Int) ∧ z2 = (t0 : Int) ∧ ((r = iI 1 ∧ EqS (a s0) (a t0)) ∨ (r = iI 0 ∧ ¬ EqS (a s0) (a t0)))))) := by
  refine g_entryz (by decide) (Nat.le_of_ble_eq_true rfl) ?_
  intro p e s m args below meth c A Q hx hb hml hown hts hK hA hret H locs hP hD hS ls hl
  have hl : lv_has ls 4 [(0, .ref h), (1, .int (iI (z1))), (2, .int (iI (z2)))] := hl
  refine lv_aload_n hx hb dX1_equal_0 rfl (lv_at hl 0 rfl) ?_
  refine lv_iload_n hx hb dX1_equal_1 rfl (lv_at hl 1 rfl) ?_
  refine g_calli ⟨hx, hb, hml, hown, hts⟩ (metX1_bad l D d h qt qw qm qf T w M f z1 hz1) (cwV 1 hts (lw_V q214 q216 qs18 q34 q217) rfl rfl rfl (by decide +kernel) ⟨Nat.le_of_ble_eq_true rfl, Nat.le_of_ble_eq_true rfl⟩) (va_recv hK hP (ci := 1) (q0 := 0) rfl rfl) hK hA hP hD hS rfl hl.1 rfl (Nat.le_of_ble_eq_true rfl) dX1_equal_2 ⟨Nat.zero_le _, Nat.zero_le _⟩ (fun r u H locs hq hP hD hS => ?_)
  obtain ⟨rfl, rfl⟩ := hq
  refine x_if_ne (tgt := 16) hx hb (by have := bd_bd z1; omega) dX1_equal_5 (by decide) (fun c_5 => ?_) (fun c_5 => ?_)
  · -- t 16
    have hbadz1 := bd_n (by assumption : ¬ bd z1 = 0)
    refine x_iconst hx hb dX1_equal_16 ?_
    exact hret _ _ H locs _ _ rfl (⟨w, M, f, rfl, Or.inl ⟨Or.inl hbadz1, rfl⟩⟩) hP hD hS dX1_equal_17
  · -- f 8
    obtain ⟨s0, rfl⟩ : ∃ q : Nat, z1 = (q : Int) := ⟨z1.toNat, by have := bd_y (by assumption : bd z1 = 0); omega⟩
    have hs04 : s0 < 4 := by have := bd_y (by assumption : bd (s0 : Int) = 0); omega
    refine lv_aload_n hx hb dX1_equal_8 rfl (lv_at hl 0 rfl) ?_
    refine lv_iload_n hx hb dX1_equal_9 rfl (lv_at hl 2 rfl) ?_
    refine g_calli ⟨hx, hb, hml, hown, hts⟩ (metX1_bad l D d h qt qw qm qf T w M f z2 hz2) (cwV 1 hts (lw_V q214 q216 qs18 q34 q217) rfl rfl rfl (by decide +kernel) ⟨Nat.le_of_ble_eq_true rfl, Nat.le_of_ble_eq_true rfl⟩) (va_recv hK hP (ci := 1) (q0 := 0) rfl rfl) hK hA hP hD hS rfl hl.1 rfl (Nat.le_of_ble_eq_true rfl) dX1_equal_10 ⟨Nat.zero_le _, Nat.zero_le _⟩ (fun r u H locs hq hP hD hS => ?_)
    obtain ⟨rfl, rfl⟩ := hq
    refine x_if_eq (tgt := 18) hx hb (by have := bd_bd z2; omega) dX1_equal_13 (by decide) (fun c_13 => ?_) (fun c_13 => ?_)
    · -- t 18
      obtain ⟨t0, rfl⟩ : ∃ q : Nat, z2 = (q : Int) := ⟨z2.toNat, by have := bd_y (by assumption : bd z2 = 0); omega⟩
      have ht04 : t0 < 4 := by have := bd_y (by assumption : bd (t0 : Int) = 0); omega
      refine x_iconst hx hb dX1_equal_18 ?_
      refine lv_istore_n (lv' := [(3, .int (iI (0))), (0, .ref h), (1, .int (iI ((s0 : Int)))), (2, .int (iI ((t0 : Int))))]) hx hb dX1_equal_19 rfl hl (by decide) rfl (fun ls hl => ?_)
      have lp_20 : ∀ (n : Nat) (mm : Nat) (hi : mm ≤ 32) (hn : 32 < mm + n) (hI : WI (a s0) (a t0) mm) (H : Heap) (locs : List Loc), va_P D vwCl (MW h qt qw qm qf d (T, w, M, f)) H → va_D A (MW h qt qw qm qf d (T, w, M, f)) → va_S A s.heap H locs → ∀ ls : Array Slot, lv_has ls 4 [(0, .ref h), (1, .int (iI ((s0 : Int)))), (2, .int (iI ((t0 : Int)))), (3, .int (iI ((mm : Int))))] → W p l e (rK 6 150) s m args below meth c H locs 0 0 Q (F0 m 20 ls []) := by
        intro n
        induction n with
        | zero =>
          intro mm hi hn hI
          exfalso
          omega
        | succ n ih_20 =>
          intro mm hi hn hI H locs hP hD hS ls hl
          refine lv_iload_n hx hb dX1_equal_20 rfl (lv_at hl 3 rfl) ?_
          refine x_bipush hx hb dX1_equal_21 (by decide) ?_
          refine x_icmp_ge (tgt := 59) hx hb (by omega) dX1_equal_23 (by decide) (fun c_23 => ?_) (fun c_23 => ?_)
          · -- t 59
            refine x_iconst hx hb dX1_equal_59 ?_
            exact hret _ _ H locs _ _ rfl (⟨w, M, f, rfl, Or.inr ⟨s0, t0, hs04, ht04, rfl, rfl, Or.inl ⟨rfl, wi_32 hI (by omega)⟩⟩⟩) hP hD hS dX1_equal_60
          · -- f 26
            refine lv_aload_n hx hb dX1_equal_26 rfl (lv_at hl 0 rfl) ?_
            refine m_gett hx hb hts hown hK hP dX1_equal_27 ?_
            refine lv_iload_n hx hb dX1_equal_30 rfl (lv_at hl 1 rfl) ?_
            refine x_bipush hx hb dX1_equal_31 (by decide) ?_
            refine x_imul hx hb dX1_equal_33 ?_
            refine lv_iload_n hx hb dX1_equal_34 rfl (lv_at hl 3 rfl) ?_
            refine x_iadd hx hb dX1_equal_35 ?_
            refine m_tld hx hb hK hP (s0) (mm) (by omega) dX1_equal_36 ?_
            refine lv_aload_n hx hb dX1_equal_37 rfl (lv_at hl 0 rfl) ?_
            refine m_gett hx hb hts hown hK hP dX1_equal_38 ?_
            refine lv_iload_n hx hb dX1_equal_41 rfl (lv_at hl 2 rfl) ?_
            refine x_bipush hx hb dX1_equal_42 (by decide) ?_
            refine x_imul hx hb dX1_equal_44 ?_
            refine lv_iload_n hx hb dX1_equal_45 rfl (lv_at hl 3 rfl) ?_
            refine x_iadd hx hb dX1_equal_46 ?_
            refine m_tld hx hb hK hP (t0) (mm) (by omega) dX1_equal_47 ?_
            refine x_icmp_eq (tgt := 53) hx hb (by omega) dX1_equal_48 (by decide) (fun c_48 => ?_) (fun c_48 => ?_)
            · -- t 53
              refine x_iinc (v := ((mm + 1 : Nat) : Int)) (lv' := [(3, .int (iI (((mm + 1 : Nat) : Int)))), (0, .ref h), (1, .int (iI ((s0 : Int)))), (2, .int (iI ((t0 : Int))))]) hx hb dX1_equal_53 hl (k := 3) rfl (by omega) (by decide) rfl (fun ls hl => ?_)
              refine lv_goto (tgt := 20) hx hb dX1_equal_56 (by decide) ?_
              exact ih_20 (mm + 1) (by omega) (by omega) (eqS_s hI (by rw [← hM s0 hs04 mm (by omega), ← hM t0 ht04 mm (by omega)]; exact fp_ext c_48)) H locs hP hD hS ls (lv_sub hl [1, 2, 3, 0] rfl)
            · -- f 51
              refine x_iconst hx hb dX1_equal_51 ?_
              exact hret _ _ H locs _ _ rfl (⟨w, M, f, rfl, Or.inr ⟨s0, t0, hs04, ht04, rfl, rfl, Or.inr ⟨rfl, fun q => c_48 (by rw [hM s0 hs04 mm (by omega), hM t0 ht04 mm (by omega), q mm (by omega)])⟩⟩⟩) hP hD hS dX1_equal_52
      exact lp_20 33 0 (by omega) (by omega) (wi_0 _ _) H locs hP hD hS ls (lv_sub hl [1, 2, 3, 0] rfl)
    · -- f 16
      have hbadz2 := bd_n (by assumption : ¬ bd z2 = 0)
      refine x_iconst hx hb dX1_equal_16 ?_
      exact hret _ _ H locs _ _ rfl (⟨w, M, f, rfl, Or.inl ⟨Or.inr hbadz2, rfl⟩⟩) hP hD hS dX1_equal_17
abbrev wsX1_sum : List Cond := ws_ yX1_sum cX1_sum 6 (some .int)
set_option maxHeartbeats 4000000 in
set_option maxRecDepth 100000 in
/-- sum(s, first, last) -/
theorem metX1_sum (l : Launch) (D : va_G) (d : ClassId) (h qt qw qm qf : Nat) (T : Nat → Sr) (w : Sr) (M : Nat → Sr) (f : Sr) (a : Nat → Sr) (hM : MInv T a) (Ls : Nat → Nat) (hLs : OLs a Ls) (z1 : Int) (hz1 : -2147483648 ≤ z1 ∧ z1 < 2147483648) (z2 : Int) (hz2 : -2147483648 ≤ z2 ∧ z2 < 2147483648) (z3 : Int) (hz3 : -2147483648 ≤ z3 ∧ z3 < 2147483648) : gMi l yX1_sum wsX1_sum (rK 6 150) D d (MW h qt qw qm qf d) (T, w, M, f) h [.int (iI (z1)), .int (iI (z2)), .int (iI (z3))] (fun r u => ∃ w1 M1 f1, u = (T, w1, M1, f1) ∧ (((z1 < 0 ∨ 3 < z1) ∧ r = iI (-1)) ∨ ((0 ≤ z1 ∧ z1 ≤ 3) ∧ (z2 < 0 ∨ z3 < z2 ∨ 400 < z3) ∧ r = iI (-4)) ∨ (∃ s0 f0 l0 : Nat, s0 < 4 ∧ f0 ≤ l0 ∧ l0 ≤ 400 ∧ z1 = (s0 : Int) ∧ z2 = (f0 : Int) ∧ z3 = (l0 : Int) ∧ r = iI ((su (a s0) (l0 + 1) - su (a s0) f0).val : Int)))) := by
  refine g_entryi (by decide) (Nat.le_of_ble_eq_true rfl) ?_
  intro p e s m args below meth c A Q hx hb hml hown hts hK hA hret H locs hP hD hS ls hl
  have hl : lv_has ls 6 [(0, .ref h), (1, .int (iI (z1))), (2, .int (iI (z2))), (3, .int (iI (z3)))] := hl
  refine lv_aload_n hx hb dX1_sum_0 rfl (lv_at hl 0 rfl) ?_
  refine lv_iload_n hx hb dX1_sum_1 rfl (lv_at hl 1 rfl) ?_
  refine g_calli ⟨hx, hb, hml, hown, hts⟩ (metX1_bad l D d h qt qw qm qf T w M f z1 hz1) (cwV 1 hts (lw_V q214 q216 qs18 q34 q217) rfl rfl rfl (by decide +kernel) ⟨Nat.le_of_ble_eq_true rfl, Nat.le_of_ble_eq_true rfl⟩) (va_recv hK hP (ci := 1) (q0 := 0) rfl rfl) hK hA hP hD hS rfl hl.1 rfl (Nat.le_of_ble_eq_true rfl) dX1_sum_2 ⟨Nat.zero_le _, Nat.zero_le _⟩ (fun r u H locs hq hP hD hS => ?_)
  obtain ⟨rfl, rfl⟩ := hq
  refine x_if_eq (tgt := 10) hx hb (by have := bd_bd z1; omega) dX1_sum_5 (by decide) (fun c_5 => ?_) (fun c_5 => ?_)
  · -- t 10
    obtain ⟨s0, rfl⟩ : ∃ q : Nat, z1 = (q : Int) := ⟨z1.toNat, by have := bd_y (by assumption : bd z1 = 0); omega⟩
    have hs04 : s0 < 4 := by have := bd_y (by assumption : bd (s0 : Int) = 0); omega
    refine lv_aload_n hx hb dX1_sum_10 rfl (lv_at hl 0 rfl) ?_
    refine lv_iload_n hx hb dX1_sum_11 rfl (lv_at hl 2 rfl) ?_
    refine g_calli ⟨hx, hb, hml, hown, hts⟩ (metX1_badIndex l D d h qt qw qm qf T w M f z2 hz2) (cwV 1 hts (lw_V q299 q301 qs31 q34 q302) rfl rfl rfl (by decide +kernel) ⟨Nat.le_of_ble_eq_true rfl, Nat.le_of_ble_eq_true rfl⟩) (va_recv hK hP (ci := 1) (q0 := 0) rfl rfl) hK hA hP hD hS rfl hl.1 rfl (Nat.le_of_ble_eq_true rfl) dX1_sum_12 ⟨Nat.zero_le _, Nat.zero_le _⟩ (fun r u H locs hq hP hD hS => ?_)
    obtain ⟨rfl, rfl⟩ := hq
    refine x_if_ne (tgt := 31) hx hb (by have := bi_bd z2; omega) dX1_sum_15 (by decide) (fun c_15 => ?_) (fun c_15 => ?_)
    · -- t 31
      have hbi2 := bi_n c_15
      refine x_bipush hx hb dX1_sum_31 (by decide) ?_
      exact hret _ _ H locs _ _ (⟨w, M, f, rfl, Or.inr (Or.inl ⟨by omega, by omega, rfl⟩)⟩) hP hD hS dX1_sum_33
    · -- f 18
      have hbi2 := bi_y c_15
      refine lv_aload_n hx hb dX1_sum_18 rfl (lv_at hl 0 rfl) ?_
      refine lv_iload_n hx hb dX1_sum_19 rfl (lv_at hl 3 rfl) ?_
      refine g_calli ⟨hx, hb, hml, hown, hts⟩ (metX1_badIndex l D d h qt qw qm qf T w M f z3 hz3) (cwV 1 hts (lw_V q299 q301 qs31 q34 q302) rfl rfl rfl (by decide +kernel) ⟨Nat.le_of_ble_eq_true rfl, Nat.le_of_ble_eq_true rfl⟩) (va_recv hK hP (ci := 1) (q0 := 0) rfl rfl) hK hA hP hD hS rfl hl.1 rfl (Nat.le_of_ble_eq_true rfl) dX1_sum_20 ⟨Nat.zero_le _, Nat.zero_le _⟩ (fun r u H locs hq hP hD hS => ?_)
      obtain ⟨rfl, rfl⟩ := hq
      refine x_if_ne (tgt := 31) hx hb (by have := bi_bd z3; omega) dX1_sum_23 (by decide) (fun c_23 => ?_) (fun c_23 => ?_)
      · -- t 31
        have hbi3 := bi_n c_23
        refine x_bipush hx hb dX1_sum_31 (by decide) ?_
        exact hret _ _ H locs _ _ (⟨w, M, f, rfl, Or.inr (Or.inl ⟨by omega, by omega, rfl⟩)⟩) hP hD hS dX1_sum_33
      · -- f 26
        have hbi3 := bi_y c_23
        refine lv_iload_n hx hb dX1_sum_26 rfl (lv_at hl 2 rfl) ?_
        refine lv_iload_n hx hb dX1_sum_27 rfl (lv_at hl 3 rfl) ?_
        refine x_icmp_le (tgt := 34) hx hb (by omega) dX1_sum_28 (by decide) (fun c_28 => ?_) (fun c_28 => ?_)
        · -- t 34
          obtain ⟨f0, rfl⟩ : ∃ q : Nat, z2 = (q : Int) := ⟨z2.toNat, by omega⟩
          obtain ⟨l0, rfl⟩ : ∃ q : Nat, z3 = (q : Int) := ⟨z3.toNat, by omega⟩
          refine lv_aload_n hx hb dX1_sum_34 rfl (lv_at hl 0 rfl) ?_
          refine lv_iload_n hx hb dX1_sum_35 rfl (lv_at hl 1 rfl) ?_
          refine g_callv ⟨hx, hb, hml, hown, hts⟩ (metX1_load l D d h qt qw qm qf T w M f s0 hs04) (cwV 1 hts (lw_V q271 q273 qs29 q34 q274) rfl rfl rfl (by decide +kernel) ⟨Nat.le_of_ble_eq_true rfl, Nat.le_of_ble_eq_true rfl⟩) (va_recv hK hP (ci := 1) (q0 := 0) rfl rfl) hK hA hP hD hS rfl hl.1 rfl (Nat.le_of_ble_eq_true rfl) dX1_sum_36 ⟨Nat.zero_le _, Nat.zero_le _⟩ (fun u H locs hq hP hD hS => ?_)
          obtain ⟨w8, rfl, hw8⟩ := hq
          have hw7 : W32 w8 (a s0) := fun j hj => by rw [hw8 j hj, hM s0 hs04 j hj]
          refine lv_aload_n hx hb dX1_sum_39 rfl (lv_at hl 0 rfl) ?_
          refine lv_iload_n hx hb dX1_sum_40 rfl (lv_at hl 3 rfl) ?_
          refine g_callv ⟨hx, hb, hml, hown, hts⟩ (metX1_extend l D d h qt qw qm qf T w8 M f l0 (a s0) (Ls s0) (by omega) (hLs s0 hs04).1 (hLs s0 hs04).2 hw7) (cwV 1 hts (lw_V q275 q277 qs30 q34 q278) rfl rfl rfl (by decide +kernel) ⟨Nat.le_of_ble_eq_true rfl, Nat.le_of_ble_eq_true rfl⟩) (va_recv hK hP (ci := 1) (q0 := 0) rfl rfl) hK hA hP hD hS rfl hl.1 rfl (Nat.le_of_ble_eq_true rfl) dX1_sum_41 ⟨Nat.zero_le _, Nat.zero_le _⟩ (fun u H locs hq hP hD hS => ?_)
          obtain ⟨w7, M7, f7, rfl, hw6⟩ := hq
          refine x_iconst hx hb dX1_sum_44 ?_
          refine lv_istore (lv' := [(4, .int (iI (0))), (0, .ref h), (1, .int (iI ((s0 : Int)))), (2, .int (iI ((f0 : Int)))), (3, .int (iI ((l0 : Int))))]) hx hb dX1_sum_45 hl (by decide) rfl (fun ls hl => ?_)
          refine lv_iload_n hx hb dX1_sum_47 rfl (lv_at hl 3 rfl) ?_
          refine lv_istore (lv' := [(5, .int (iI ((f0 : Int)))), (4, .int (iI (0))), (0, .ref h), (1, .int (iI ((s0 : Int)))), (2, .int (iI ((f0 : Int)))), (3, .int (iI ((l0 : Int))))]) hx hb dX1_sum_48 hl (by decide) rfl (fun ls hl => ?_)
          have lp_50 : ∀ (n : Nat) (mm : Nat) (v : Fp) (hi : f0 ≤ mm ∧ mm ≤ l0 + 1) (hn : l0 + 1 < mm + n) (hv : v = su (a s0) mm - su (a s0) f0) (H : Heap) (locs : List Loc), va_P D vwCl (MW h qt qw qm qf d (T, w7, M7, f7)) H → va_D A (MW h qt qw qm qf d (T, w7, M7, f7)) → va_S A s.heap H locs → ∀ ls : Array Slot, lv_has ls 6 [(0, .ref h), (1, .int (iI ((s0 : Int)))), (2, .int (iI ((f0 : Int)))), (3, .int (iI ((l0 : Int)))), (4, .int (iI ((v.val : Int)))), (5, .int (iI ((mm : Int))))] → W p l e (rK 6 150) s m args below meth c H locs 0 0 Q (F0 m 50 ls []) := by
            intro n
            induction n with
            | zero =>
              intro mm v hi hn hv
              exfalso
              omega
            | succ n ih_50 =>
              intro mm v hi hn hv H locs hP hD hS ls hl
              refine lv_iload hx hb dX1_sum_50 (lv_at hl 5 rfl) ?_
              refine lv_iload_n hx hb dX1_sum_52 rfl (lv_at hl 3 rfl) ?_
              refine x_icmp_gt (tgt := 77) hx hb (by omega) dX1_sum_53 (by decide) (fun c_53 => ?_) (fun c_53 => ?_)
              · -- t 77
                refine lv_iload hx hb dX1_sum_77 (lv_at hl 4 rfl) ?_
                have em : mm = l0 + 1 := by omega
                rw [hv, em]
                exact hret _ _ H locs _ _ (⟨w7, M7, f7, rfl, Or.inr (Or.inr ⟨s0, f0, l0, hs04, by omega, by omega, rfl, rfl, rfl, rfl⟩)⟩) hP hD hS dX1_sum_79
              · -- f 56
                refine lv_iload hx hb dX1_sum_56 (lv_at hl 4 rfl) ?_
                refine lv_aload_n hx hb dX1_sum_58 rfl (lv_at hl 0 rfl) ?_
                refine m_getw hx hb hts hown hK hP dX1_sum_59 ?_
                refine lv_iload hx hb dX1_sum_62 (lv_at hl 5 rfl) ?_
                refine m_wld hx hb hK hP (mm) (by omega) dX1_sum_64 ?_
                refine x_iadd hx hb dX1_sum_65 ?_
                refine x_bipush hx hb dX1_sum_66 (by decide) ?_
                refine x_irem hx hb (v + w7 mm) (by rw [toF_add, toF_of, toF_of]) (by omega) dX1_sum_68 ?_
                refine lv_istore (lv' := [(4, .int (iI (((v + w7 mm).val : Int)))), (0, .ref h), (1, .int (iI ((s0 : Int)))), (2, .int (iI ((f0 : Int)))), (3, .int (iI ((l0 : Int)))), (5, .int (iI ((mm : Int))))]) hx hb dX1_sum_69 hl (by decide) rfl (fun ls hl => ?_)
                refine x_iinc (v := ((mm + 1 : Nat) : Int)) (lv' := [(5, .int (iI (((mm + 1 : Nat) : Int)))), (4, .int (iI (((v + w7 mm).val : Int)))), (0, .ref h), (1, .int (iI ((s0 : Int)))), (2, .int (iI ((f0 : Int)))), (3, .int (iI ((l0 : Int))))]) hx hb dX1_sum_71 hl (k := 5) rfl (by omega) (by decide) rfl (fun ls hl => ?_)
                refine lv_goto (tgt := 50) hx hb dX1_sum_74 (by decide) ?_
                exact ih_50 (mm + 1) (v + w7 mm) (by omega) (by omega) (by rw [hv, hw6 mm (by omega), su_s]; grind) H locs hP hD hS ls (lv_sub hl [2, 3, 4, 5, 1, 0] rfl)
          exact lp_50 (l0 + 2) f0 0 (by omega) (by omega) (by grind) H locs hP hD hS ls (lv_sub hl [2, 3, 4, 5, 1, 0] rfl)
        · -- f 31
          refine x_bipush hx hb dX1_sum_31 (by decide) ?_
          exact hret _ _ H locs _ _ (⟨w, M, f, rfl, Or.inr (Or.inl ⟨by omega, by omega, rfl⟩)⟩) hP hD hS dX1_sum_33
  · -- f 8
    have hbadz1 := bd_n (by assumption : ¬ bd z1 = 0)
    refine x_iconst hx hb dX1_sum_8 ?_
    exact hret _ _ H locs _ _ (⟨w, M, f, rfl, Or.inl ⟨hbadz1, rfl⟩⟩) hP hD hS dX1_sum_9
abbrev wsX1_find : List Cond := ws_ yX1_find cX1_find 5 (some .int)
set_option maxHeartbeats 4000000 in
set_option maxRecDepth 100000 in
/-- find(s, value) -/
theorem metX1_find (l : Launch) (D : va_G) (d : ClassId) (h qt qw qm qf : Nat) (T : Nat → Sr) (w : Sr) (M : Nat → Sr) (f : Sr) (a : Nat → Sr) (hM : MInv T a) (Ls : Nat → Nat) (hLs : OLs a Ls) (z1 : Int) (hz1 : -2147483648 ≤ z1 ∧ z1 < 2147483648) (z2 : Int) (hz2 : -2147483648 ≤ z2 ∧ z2 < 2147483648) : gMi l yX1_find wsX1_find (rK 6 150) D d (MW h qt qw qm qf d) (T, w, M, f) h [.int (iI (z1)), .int (iI (z2))] (fun r u => ∃ w1 M1 f1, u = (T, w1, M1, f1) ∧ (((z1 < 0 ∨ 3 < z1) ∧ r = iI (-1)) ∨ (∃ s0 : Nat, s0 < 4 ∧ z1 = (s0 : Int) ∧ r = iI (fnd (a s0) (toF z2) 401 0)))) := by
  refine g_entryi (by decide) (Nat.le_of_ble_eq_true rfl) ?_
  intro p e s m args below meth c A Q hx hb hml hown hts hK hA hret H locs hP hD hS ls hl
  have hl : lv_has ls 5 [(0, .ref h), (1, .int (iI (z1))), (2, .int (iI (z2)))] := hl
  refine lv_aload_n hx hb dX1_find_0 rfl (lv_at hl 0 rfl) ?_
  refine lv_iload_n hx hb dX1_find_1 rfl (lv_at hl 1 rfl) ?_
  refine g_calli ⟨hx, hb, hml, hown, hts⟩ (metX1_bad l D d h qt qw qm qf T w M f z1 hz1) (cwV 1 hts (lw_V q214 q216 qs18 q34 q217) rfl rfl rfl (by decide +kernel) ⟨Nat.le_of_ble_eq_true rfl, Nat.le_of_ble_eq_true rfl⟩) (va_recv hK hP (ci := 1) (q0 := 0) rfl rfl) hK hA hP hD hS rfl hl.1 rfl (Nat.le_of_ble_eq_true rfl) dX1_find_2 ⟨Nat.zero_le _, Nat.zero_le _⟩ (fun r u H locs hq hP hD hS => ?_)
  obtain ⟨rfl, rfl⟩ := hq
  refine x_if_eq (tgt := 10) hx hb (by have := bd_bd z1; omega) dX1_find_5 (by decide) (fun c_5 => ?_) (fun c_5 => ?_)
  · -- t 10
    obtain ⟨s0, rfl⟩ : ∃ q : Nat, z1 = (q : Int) := ⟨z1.toNat, by have := bd_y (by assumption : bd z1 = 0); omega⟩
    have hs04 : s0 < 4 := by have := bd_y (by assumption : bd (s0 : Int) = 0); omega
    refine lv_aload_n hx hb dX1_find_10 rfl (lv_at hl 0 rfl) ?_
    refine lv_iload_n hx hb dX1_find_11 rfl (lv_at hl 2 rfl) ?_
    refine g_calli ⟨hx, hb, hml, hown, hts⟩ (metX1_mod l D d h qt qw qm qf T w M f z2 hz2) (cwV 1 hts (lw_V q259 q261 qs28 q34 q262) rfl rfl rfl (by decide +kernel) ⟨Nat.le_of_ble_eq_true rfl, Nat.le_of_ble_eq_true rfl⟩) (va_recv hK hP (ci := 1) (q0 := 0) rfl rfl) hK hA hP hD hS rfl hl.1 rfl (Nat.le_of_ble_eq_true rfl) dX1_find_12 ⟨Nat.zero_le _, Nat.zero_le _⟩ (fun r u H locs hq hP hD hS => ?_)
    obtain ⟨rfl, rfl⟩ := hq
    refine lv_istore_n (lv' := [(3, .int (iI (((toF z2).val : Int)))), (0, .ref h), (1, .int (iI ((s0 : Int)))), (2, .int (iI (z2)))]) hx hb dX1_find_15 rfl hl (by decide) rfl (fun ls hl => ?_)
    refine lv_aload_n hx hb dX1_find_16 rfl (lv_at hl 1 rfl) ?_
    refine lv_iload_n hx hb dX1_find_17 rfl (lv_at hl 2 rfl) ?_
    refine g_callv ⟨hx, hb, hml, hown, hts⟩ (metX1_load l D d h qt qw qm qf T w M f s0 hs04) (cwV 1 hts (lw_V q271 q273 qs29 q34 q274) rfl rfl rfl (by decide +kernel) ⟨Nat.le_of_ble_eq_true rfl, Nat.le_of_ble_eq_true rfl⟩) (va_recv hK hP (ci := 1) (q0 := 0) rfl rfl) hK hA hP hD hS rfl hl.1 rfl (Nat.le_of_ble_eq_true rfl) dX1_find_18 ⟨Nat.zero_le _, Nat.zero_le _⟩ (fun u H locs hq hP hD hS => ?_)
    obtain ⟨w8, rfl, hw8⟩ := hq
    have hw7 : W32 w8 (a s0) := fun j hj => by rw [hw8 j hj, hM s0 hs04 j hj]
    refine lv_aload_n hx hb dX1_find_21 rfl (lv_at hl 1 rfl) ?_
    refine x_sipush hx hb dX1_find_22 (by decide) ?_
    refine g_callv ⟨hx, hb, hml, hown, hts⟩ (metX1_extend l D d h qt qw qm qf T w8 M f 400 (a s0) (Ls s0) (by omega) (hLs s0 hs04).1 (hLs s0 hs04).2 hw7) (cwV 1 hts (lw_V q275 q277 qs30 q34 q278) rfl rfl rfl (by decide +kernel) ⟨Nat.le_of_ble_eq_true rfl, Nat.le_of_ble_eq_true rfl⟩) (va_recv hK hP (ci := 1) (q0 := 0) rfl rfl) hK hA hP hD hS rfl hl.1 rfl (Nat.le_of_ble_eq_true rfl) dX1_find_25 ⟨Nat.zero_le _, Nat.zero_le _⟩ (fun u H locs hq hP hD hS => ?_)
    obtain ⟨w7, M7, f7, rfl, hw6⟩ := hq
    refine x_iconst hx hb dX1_find_28 ?_
    refine lv_istore (lv' := [(4, .int (iI (0))), (3, .int (iI (((toF z2).val : Int)))), (0, .ref h), (1, .int (iI ((s0 : Int)))), (2, .int (iI (z2)))]) hx hb dX1_find_29 hl (by decide) rfl (fun ls hl => ?_)
    have lp_31 : ∀ (n : Nat) (n0 : Nat) (hi : n0 ≤ 401) (hn : 401 < n0 + n) (hF : fnd (a s0) (toF z2) (401 - n0) n0 = fnd (a s0) (toF z2) 401 0) (H : Heap) (locs : List Loc), va_P D vwCl (MW h qt qw qm qf d (T, w7, M7, f7)) H → va_D A (MW h qt qw qm qf d (T, w7, M7, f7)) → va_S A s.heap H locs → ∀ ls : Array Slot, lv_has ls 5 [(0, .ref h), (1, .int (iI ((s0 : Int)))), (3, .int (iI (((toF z2).val : Int)))), (4, .int (iI ((n0 : Int))))] → W p l e (rK 6 150) s m args below meth c H locs 0 0 Q (F0 m 31 ls []) := by
      intro n
      induction n with
      | zero =>
        intro n0 hi hn hF
        exfalso
        omega
      | succ n ih_31 =>
        intro n0 hi hn hF H locs hP hD hS ls hl
        refine lv_iload hx hb dX1_find_31 (lv_at hl 3 rfl) ?_
        refine x_sipush hx hb dX1_find_33 (by decide) ?_
        refine x_icmp_ge (tgt := 59) hx hb (by omega) dX1_find_36 (by decide) (fun c_36 => ?_) (fun c_36 => ?_)
        · -- t 59
          refine x_bipush hx hb dX1_find_59 (by decide) ?_
          have h401 : n0 = 401 := by omega
          rw [h401] at hF
          exact hret _ _ H locs _ _ (⟨w7, M7, f7, rfl, Or.inr ⟨s0, hs04, rfl, by rw [← hF]; rfl⟩⟩) hP hD hS dX1_find_61
        · -- f 39
          refine lv_aload_n hx hb dX1_find_39 rfl (lv_at hl 0 rfl) ?_
          refine m_getw hx hb hts hown hK hP dX1_find_40 ?_
          refine lv_iload hx hb dX1_find_43 (lv_at hl 3 rfl) ?_
          refine m_wld hx hb hK hP (n0) (by omega) dX1_find_45 ?_
          refine lv_iload_n hx hb dX1_find_46 rfl (lv_at hl 2 rfl) ?_
          refine x_icmp_ne (tgt := 53) hx hb (by omega) dX1_find_47 (by decide) (fun c_47 => ?_) (fun c_47 => ?_)
          · -- t 53
            refine x_iinc (v := ((n0 + 1 : Nat) : Int)) (lv' := [(4, .int (iI (((n0 + 1 : Nat) : Int)))), (0, .ref h), (1, .int (iI ((s0 : Int)))), (3, .int (iI (((toF z2).val : Int))))]) hx hb dX1_find_53 hl (k := 3) rfl (by omega) (by decide) rfl (fun ls hl => ?_)
            refine lv_goto (tgt := 31) hx hb dX1_find_56 (by decide) ?_
            exact ih_31 (n0 + 1) (by omega) (by omega) (by rw [← fnd_n (by omega) (fun q => c_47 (by rw [hw6 n0 (by omega), q])), hF]) H locs hP hD hS ls (lv_sub hl [1, 2, 3, 0] rfl)
          · -- f 50
            refine lv_iload hx hb dX1_find_50 (lv_at hl 3 rfl) ?_
            exact hret _ _ H locs _ _ (⟨w7, M7, f7, rfl, Or.inr ⟨s0, hs04, rfl, by rw [← hF, fnd_y (by omega) (by rw [← hw6 n0 (by omega)]; exact fp_ext c_47)]⟩⟩) hP hD hS dX1_find_52
    exact lp_31 402 0 (by omega) (by omega) rfl H locs hP hD hS ls (lv_sub hl [2, 3, 1, 0] rfl)
  · -- f 8
    have hbadz1 := bd_n (by assumption : ¬ bd z1 = 0)
    refine x_iconst hx hb dX1_find_8 ?_
    exact hret _ _ H locs _ _ (⟨w, M, f, rfl, Or.inl ⟨hbadz1, rfl⟩⟩) hP hD hS dX1_find_9
end
section
/-! the constructors -/
set_option maxRecDepth 100000
theorem ra_eq {U : State} {c1 c2 : ClassId} (h1 : va_RA U c1 .int) (h2 : va_RA U c2 .int) : c1 = c2 := by
  have h1 : U.vm.findClass ("[" ++ FieldType.int.toString) = some c1 := h1
  have h2 : U.vm.findClass ("[" ++ FieldType.int.toString) = some c2 := h2
  rw [h1] at h2
  exact Option.some.inj h2
def zB : Nat → Sr := fun _ => z0
theorem gr_z (w : Nat) : gr w zB = fun _ => 0 := by
  funext j
  exact iI_0.symm
theorem sq_z : sq z0 = fun _ => 0 := by
  funext j
  exact iI_0.symm
theorem gz_new (w n : Nat) (cA : ClassId) : vp_cell cA (n, .inl (gr w zB)) = arrV cA n (fun _ => defaultValue .int) := by
  rw [gr_z, vp_cell_i]
  rfl
theorem sz_new (n : Nat) (cA : ClassId) : vp_cell cA (n, .inl (sq z0)) = arrV cA n (fun _ => defaultValue .int) := by
  rw [sq_z, vp_cell_i]
  rfl
def IniI (i : Nat) (Bc : Nat → Sr) : Prop := (∀ j, j < i → Bc (6 + 2 * j) = e1) ∧ ∀ k, k % 2 = 1 ∨ 6 + 2 * i ≤ k → Bc k = z0
theorem ini_0 : IniI 0 zB := ⟨fun j hj => by omega, fun _ _ => rfl⟩
theorem ini_s {i : Nat} {Bc B1 : Nat → Sr} (h : IniI i Bc) (e : B1 = setB Bc (6 + 2 * i) 0 1) : IniI (i + 1) B1 := by
  refine ⟨fun j hj => ?_, fun k hk => ?_⟩
  · funext n
    rw [e]
    simp only [setB]
    by_cases q : j = i
    · rw [q, h.2 (6 + 2 * i) (by omega)]
      by_cases q2 : n = 0
      · rw [if_pos ⟨rfl, q2⟩, q2]; rfl
      · rw [if_neg (fun r => q2 r.2)]
        simp only [z0, e1]
        rw [if_neg q2]
    · rw [if_neg (by omega), h.1 j (by omega)]
  · funext n
    rw [e]
    simp only [setB]
    rw [if_neg (by omega), h.2 k (by omega)]
theorem seq_z : Seq z0 e1 z0 0 := by
  refine ⟨rfl, cvf_z0r e1, z0_van 0, e1_van (by omega), ⟨z0, e1, fin_z0, fin_e1, ?_⟩, Or.inl rfl⟩
  rw [cvf_z0, cvf_e1]
  funext n
  simp only [ad, z0]
  grind
theorem ini_end {Bc : Nat → Sr} (h : IniI 4 Bc) : GInv Bc (fun _ => z0) (fun _ => 0) := by
  intro s hs
  rw [h.1 s hs, h.2 (5 + 2 * s) (by omega)]
  exact ⟨seq_z, Nat.zero_le _⟩
theorem minv_z : MInv zB (fun _ => z0) := fun _ _ _ _ => rfl
abbrev wsX0_init : List Cond := ws_ yX0_init cX0_init 2 none
abbrev wsX1_init : List Cond := ws_ yX1_init cX1_init 1 none
abbrev rE : Room := { frames := 1, cells := 2, slots := 320, locals := 12 }
abbrev rM : Room := { frames := 1, cells := 4, slots := 819, locals := 12 }
def E0 (h : Nat) : va_W := [(h, .inr (0, [.null, .null]))]
def M0 (h : Nat) : va_W := [(h, .inr (1, [.null, .null, .null, .null]))]
set_option maxHeartbeats 4000000 in
/-- RecurrenceEngine(): four sequences of noughts -/
theorem metX0_init (l : Launch) (D : va_G) (h sz : Nat) : Met l yX0_init wsX0_init rE (va_Pc [.ref h] (fun U => U.heap.size = sz ∧ va_P D vwCl (E0 h) U.heap ∧ va_K D vwCl [] U ∧ va_D (fun _ => True) (E0 h)))
    (va_Qv (fun u : ClassId × Nat × Nat × (Nat → Sr) => GInv u.2.2.2 (fun _ => z0) (fun _ => 0)) (fun u t => va_P D vwCl (EW h u.2.1 u.2.2.1 u.1 (u.2.2.2, z0)) t.heap ∧ va_K D vwCl [(u.1, .int)] t ∧ va_D (va_A (E0 h) sz) (EW h u.2.1 u.2.2.1 u.1 (u.2.2.2, z0))) (va_A (E0 h) sz)) 2 320 (va_A (E0 h) sz) := by
  refine Met.ofW (cc := cX0_init) (maxL := 2) (ret := none) (by decide) rfl ?_
  intro p e s m args below meth c s₁ B hml hv
  obtain ⟨rfl, hsz, hP, hK, hD0⟩ := hv
  have hx := B.exec
  have hb := B.bytes
  have hr := B.returns
  have hts := atoms_spec (ws := wsX0_init) B.pre
  have hts : ∀ w ∈ lw_all, w.before _ s = true := fun w h => hts w (List.mem_cons_of_mem _ h)
  have hown : s.vm.findClass RX0 = some m.cls := findClass_of_methodNamed B.named
  have hlocks := B.notSynchronized
  have hin : meth.name = "<init>" := (name_of_methodNamed B.named B.method).1
  subst hsz
  have hD := hD0.self (sz := s.heap.size)
  generalize hAe : va_A (E0 h) s.heap.size = A at hD ⊢
  have hA : ∀ q : Nat, s.heap.size ≤ q → A q := fun q h => by rw [← hAe]; exact Or.inr h
  have hS : va_S A s.heap s.heap [] := va_S.rf
  have hP : va_P D vwCl [(h, .inr (0, [.null, .null]))] s.heap := hP
  have hD : va_D A [(h, .inr (0, [.null, .null]))] := hD
  have hl := lv_entry ([.ref h]) (n := 2) (Nat.le_of_ble_eq_true rfl)
  rw [lg_entry_eq]
  generalize (lg_sl ([.ref h]) ++ List.replicate (2 - (lg_sl ([.ref h])).length) Slot.unset).toArray = ls at hl ⊢
  have hl : lv_has ls 2 [(0, .ref h)] := hl
  refine lv_aload_n hx hb dX0_init_0 rfl (lv_at hl 0 rfl) ?_
  refine W.objInit hx hb hown (hts _ q40) (hts _ q41) (hts _ q42) rfl (by rw [hml]; exact hl.1) rfl dX0_init_1 (Nat.le_of_ble_eq_true rfl) (Nat.le_of_ble_eq_true rfl) ?_
  refine W.eq (g2 := F0 m 4 ls []) rfl ?_
  refine lv_aload_n hx hb dX0_init_4 rfl (lv_at hl 0 rfl) ?_
  refine x_sipush hx hb dX0_init_5 (by decide) ?_
  refine va_newa (atype := .int) (ty := .int) (N' := 312) (a0 := (312, .inl (gr 24 zB))) hx hb (hts _ q50) rfl hK hP hD hS hA (gz_new 24 312) (by decide) (by decide) (by decide) (by decide) (by decide) dX0_init_8 (fun qb d H hK hP hD hS => ?_)
  refine va_putF (D := D) (ci := 0) (v := .ref qb) (ty := .array .int) (C := RX0) (T := TX0) (N := 2) hx hb hts in_X0 tyX0 tyX0_ok nmX0 hown hK hP hD hS 0 rfl rfl 0 (by decide) (hts _ q43) (fun _ h9 => h9) rfl hin rfl (by decide +kernel) rfl rfl (Nat.le_of_ble_eq_true rfl) dX0_init_10 (fun H locs hP hD hS => ?_)
  have hP : va_P D vwCl [(h, .inr (0, [.ref qb, .null])), (qb, .inl (d, 312, .inl (gr 24 zB)))] H := hP
  have hD : va_D A [(h, .inr (0, [.ref qb, .null])), (qb, .inl (d, 312, .inl (gr 24 zB)))] := hD
  refine lv_aload_n hx hb dX0_init_13 rfl (lv_at hl 0 rfl) ?_
  refine x_bipush hx hb dX0_init_14 (by decide) ?_
  refine va_newa (atype := .int) (ty := .int) (N' := 8) (a0 := (8, .inl (sq z0))) hx hb (hts _ q50) rfl hK hP hD hS hA (sz_new 8) (by decide) (by decide) (by decide) (by decide) (by decide) dX0_init_16 (fun qr d2 H hK hP hD hS => ?_)
  have hdd : d2 = d := ra_eq (hK.2 1 (d2, .int) rfl).2 (hK.2 0 (d, .int) rfl).2
  subst hdd
  refine va_putF (D := D) (ci := 0) (v := .ref qr) (ty := .array .int) (C := RX0) (T := TX0) (N := 2) hx hb hts in_X0 tyX0 tyX0_ok nmX0 hown hK hP hD hS 0 rfl rfl 1 (by decide) (hts _ q44) (fun _ h9 => h9) rfl hin rfl (by decide +kernel) rfl rfl (Nat.le_of_ble_eq_true rfl) dX0_init_18 (fun H locs hP hD hS => ?_)
  have hP : va_P D vwCl (EW h qb qr d2 (zB, z0)) H := hP
  have hD : va_D A (EW h qb qr d2 (zB, z0)) := hD
  have hK : va_K D vwCl [(d2, .int)] s := hK.sub [0] rfl
  refine W.widen (k := 2) (n := 320) (by decide) (by decide) ?_
  refine x_iconst hx hb dX0_init_21 ?_
  refine lv_istore_n (lv' := [(1, .int (iI 0)), (0, .ref h)]) hx hb dX0_init_22 rfl hl (by decide) rfl (fun ls hl => ?_)
  have lp : ∀ (n : Nat) (i : Nat) (Bc : Nat → Sr) (hi : i ≤ 4) (hn : 4 < i + n) (hI : IniI i Bc) (H : Heap) (locs : List Loc), va_P D vwCl (EW h qb qr d2 (Bc, z0)) H → va_D A (EW h qb qr d2 (Bc, z0)) → va_S A s.heap H locs → ∀ ls : Array Slot, lv_has ls 2 [(0, .ref h), (1, .int (iI (i : Int)))] → W p l e (headSpec wsX0_init rE).room s m ([.ref h] : List Value).toArray below meth c H locs 2 320 (MQ below (va_Qv (fun u : ClassId × Nat × Nat × (Nat → Sr) => GInv u.2.2.2 (fun _ => z0) (fun _ => 0)) (fun u t => va_P D vwCl (EW h u.2.1 u.2.2.1 u.1 (u.2.2.2, z0)) t.heap ∧ va_K D vwCl [(u.1, .int)] t ∧ va_D A (EW h u.2.1 u.2.2.1 u.1 (u.2.2.2, z0))) A) ([.ref h] : List Value).toArray s 2 320 A) (F0 m 23 ls []) := by
    intro n
    induction n with
    | zero =>
      intro i Bc hi hn
      exfalso
      omega
    | succ n ih =>
      intro i Bc hi hn hI H locs hP hD hS ls hl
      refine lv_iload_n hx hb dX0_init_23 rfl (lv_at hl 1 rfl) ?_
      refine x_iconst hx hb dX0_init_24 ?_
      refine x_icmp_ge (tgt := 50) hx hb (by omega) dX0_init_25 (by decide) (fun c_25 => ?_) (fun c_25 => ?_)
      · have h4 : i = 4 := by omega
        rw [h4] at hI
        exact W.vret hx hb hr (fun t ht hW => ⟨⟨(d2, qb, qr, Bc), rfl, ini_end hI, by rw [ht]; exact hP, va_K.moved hW.alike hK, hD⟩, hS.F ht⟩) hS.2.2 dX0_init_50
      · refine lv_aload_n hx hb dX0_init_28 rfl (lv_at hl 0 rfl) ?_
        refine e_getb hx hb hts hown hK hP dX0_init_29 ?_
        refine x_iconst hx hb dX0_init_32 ?_
        refine x_iconst hx hb dX0_init_33 ?_
        refine lv_iload_n hx hb dX0_init_34 rfl (lv_at hl 1 rfl) ?_
        refine x_imul hx hb dX0_init_35 ?_
        refine x_iadd hx hb dX0_init_36 ?_
        refine x_iconst hx hb dX0_init_37 ?_
        refine x_iadd hx hb dX0_init_38 ?_
        refine x_bipush hx hb dX0_init_39 (by decide) ?_
        refine x_imul hx hb dX0_init_41 ?_
        refine x_iconst hx hb dX0_init_42 ?_
        refine e_bst hx hb hK hP hD hS (6 + 2 * i) 0 1 rfl (by omega) dX0_init_43 (fun H locs hP hD hS => ?_)
        obtain ⟨B1, eB1⟩ : ∃ z, z = setB Bc (6 + 2 * i) 0 1 := ⟨_, rfl⟩
        rw [← eB1] at hP hD
        refine x_iinc (v := ((i + 1 : Nat) : Int)) (lv' := [(1, .int (iI ((i + 1 : Nat) : Int))), (0, .ref h)]) hx hb dX0_init_44 hl (k := 1) rfl (by omega) (by decide) rfl (fun ls hl => ?_)
        refine lv_goto (tgt := 23) hx hb dX0_init_47 (by decide) ?_
        exact ih (i + 1) B1 (by omega) (by omega) (ini_s hI eB1) H locs hP hD hS ls (lv_sub hl [1, 0] rfl)
  exact lp 5 0 zB (by omega) (by omega) ini_0 H locs hP hD hS ls (lv_sub hl [1, 0] rfl)
set_option maxHeartbeats 4000000 in
/-- RecurrenceEngineModel() -/
theorem metX1_init (l : Launch) (D : va_G) (d : ClassId) (h sz : Nat) : Met l yX1_init wsX1_init rM (va_Pc [.ref h] (gPre D d (M0 h) sz))
    (va_Qv (fun _ : Nat × Nat × Nat × Nat => True) (fun u t => va_P D vwCl (MW h u.1 u.2.1 u.2.2.1 u.2.2.2 d (zB, z0, zB, z0)) t.heap ∧ va_K D vwCl [(d, .int)] t ∧ va_D (va_A (M0 h) sz) (MW h u.1 u.2.1 u.2.2.1 u.2.2.2 d (zB, z0, zB, z0))) (va_A (M0 h) sz)) 4 819 (va_A (M0 h) sz) := by
  refine Met.ofW (cc := cX1_init) (maxL := 1) (ret := none) (by decide) rfl ?_
  intro p e s m args below meth c s₁ B hml hv
  obtain ⟨rfl, hsz, hP, hK, hD0⟩ := hv
  have hx := B.exec
  have hb := B.bytes
  have hr := B.returns
  have hts := atoms_spec (ws := wsX1_init) B.pre
  have hts : ∀ w ∈ lw_all, w.before _ s = true := fun w h => hts w (List.mem_cons_of_mem _ h)
  have hown : s.vm.findClass RX1 = some m.cls := findClass_of_methodNamed B.named
  have hlocks := B.notSynchronized
  have hin : meth.name = "<init>" := (name_of_methodNamed B.named B.method).1
  subst hsz
  have hD := hD0.self (sz := s.heap.size)
  generalize hAe : va_A (M0 h) s.heap.size = A at hD ⊢
  have hA : ∀ q : Nat, s.heap.size ≤ q → A q := fun q h => by rw [← hAe]; exact Or.inr h
  have hS : va_S A s.heap s.heap [] := va_S.rf
  have hP : va_P D vwCl [(h, .inr (1, [.null, .null, .null, .null]))] s.heap := hP
  have hD : va_D A [(h, .inr (1, [.null, .null, .null, .null]))] := hD
  have hl := lv_entry ([.ref h]) (n := 1) (Nat.le_of_ble_eq_true rfl)
  rw [lg_entry_eq]
  generalize (lg_sl ([.ref h]) ++ List.replicate (1 - (lg_sl ([.ref h])).length) Slot.unset).toArray = ls at hl ⊢
  have hl : lv_has ls 1 [(0, .ref h)] := hl
  refine lv_aload_n hx hb dX1_init_0 rfl (lv_at hl 0 rfl) ?_
  refine W.objInit hx hb hown (hts _ q196) (hts _ q41) (hts _ q42) rfl (by rw [hml]; exact hl.1) rfl dX1_init_1 (Nat.le_of_ble_eq_true rfl) (Nat.le_of_ble_eq_true rfl) ?_
  refine W.eq (g2 := F0 m 4 ls []) rfl ?_
  refine lv_aload_n hx hb dX1_init_4 rfl (lv_at hl 0 rfl) ?_
  refine x_sipush hx hb dX1_init_5 (by decide) ?_
  refine va_newa (atype := .int) (ty := .int) (N' := 128) (a0 := (128, .inl (gr 32 zB))) hx hb (hts _ q50) rfl hK hP hD hS hA (gz_new 32 128) (by decide) (by decide) (by decide) (by decide) (by decide) dX1_init_8 (fun qt d2 H hK hP hD hS => ?_)
  have hdd : d2 = d := ra_eq (hK.2 1 (d2, .int) rfl).2 (hK.2 0 (d, .int) rfl).2
  rw [hdd] at hP hD
  have hK : va_K D vwCl [(d, .int)] s := hK.sub [0] rfl
  refine va_putF (D := D) (ci := 1) (v := .ref qt) (ty := .array .int) (C := RX1) (T := TX1) (N := 4) hx hb hts in_X1 tyX1 tyX1_ok nmX1 hown hK hP hD hS 0 rfl rfl 0 (by decide) (hts _ q197) (fun _ h9 => h9) rfl hin rfl (by decide +kernel) rfl rfl (Nat.le_of_ble_eq_true rfl) dX1_init_10 (fun H locs hP hD hS => ?_)
  have hP : va_P D vwCl [(h, .inr (1, [.ref qt, .null, .null, .null])), (qt, .inl (d, 128, .inl (gr 32 zB)))] H := hP
  have hD : va_D A [(h, .inr (1, [.ref qt, .null, .null, .null])), (qt, .inl (d, 128, .inl (gr 32 zB)))] := hD
  refine lv_aload_n hx hb dX1_init_13 rfl (lv_at hl 0 rfl) ?_
  refine x_sipush hx hb dX1_init_14 (by decide) ?_
  refine va_newa (atype := .int) (ty := .int) (N' := 402) (a0 := (402, .inl (sq z0))) hx hb (hts _ q50) rfl hK hP hD hS hA (sz_new 402) (by decide) (by decide) (by decide) (by decide) (by decide) dX1_init_17 (fun qw d3 H hK hP hD hS => ?_)
  have hdd : d3 = d := ra_eq (hK.2 1 (d3, .int) rfl).2 (hK.2 0 (d, .int) rfl).2
  rw [hdd] at hP hD
  have hK : va_K D vwCl [(d, .int)] s := hK.sub [0] rfl
  refine va_putF (D := D) (ci := 1) (v := .ref qw) (ty := .array .int) (C := RX1) (T := TX1) (N := 4) hx hb hts in_X1 tyX1 tyX1_ok nmX1 hown hK hP hD hS 0 rfl rfl 1 (by decide) (hts _ q198) (fun _ h9 => h9) rfl hin rfl (by decide +kernel) rfl rfl (Nat.le_of_ble_eq_true rfl) dX1_init_19 (fun H locs hP hD hS => ?_)
  have hP : va_P D vwCl [(h, .inr (1, [.ref qt, .ref qw, .null, .null])), (qt, .inl (d, 128, .inl (gr 32 zB))), (qw, .inl (d, 402, .inl (sq z0)))] H := hP
  have hD : va_D A [(h, .inr (1, [.ref qt, .ref qw, .null, .null])), (qt, .inl (d, 128, .inl (gr 32 zB))), (qw, .inl (d, 402, .inl (sq z0)))] := hD
  refine lv_aload_n hx hb dX1_init_22 rfl (lv_at hl 0 rfl) ?_
  refine x_sipush hx hb dX1_init_23 (by decide) ?_
  refine va_newa (atype := .int) (ty := .int) (N' := 272) (a0 := (272, .inl (gr 17 zB))) hx hb (hts _ q50) rfl hK hP hD hS hA (gz_new 17 272) (by decide) (by decide) (by decide) (by decide) (by decide) dX1_init_26 (fun qm d4 H hK hP hD hS => ?_)
  have hdd : d4 = d := ra_eq (hK.2 1 (d4, .int) rfl).2 (hK.2 0 (d, .int) rfl).2
  rw [hdd] at hP hD
  have hK : va_K D vwCl [(d, .int)] s := hK.sub [0] rfl
  refine va_putF (D := D) (ci := 1) (v := .ref qm) (ty := .array .int) (C := RX1) (T := TX1) (N := 4) hx hb hts in_X1 tyX1 tyX1_ok nmX1 hown hK hP hD hS 0 rfl rfl 2 (by decide) (hts _ q199) (fun _ h9 => h9) rfl hin rfl (by decide +kernel) rfl rfl (Nat.le_of_ble_eq_true rfl) dX1_init_28 (fun H locs hP hD hS => ?_)
  have hP : va_P D vwCl [(h, .inr (1, [.ref qt, .ref qw, .ref qm, .null])), (qt, .inl (d, 128, .inl (gr 32 zB))), (qw, .inl (d, 402, .inl (sq z0))), (qm, .inl (d, 272, .inl (gr 17 zB)))] H := hP
  have hD : va_D A [(h, .inr (1, [.ref qt, .ref qw, .ref qm, .null])), (qt, .inl (d, 128, .inl (gr 32 zB))), (qw, .inl (d, 402, .inl (sq z0))), (qm, .inl (d, 272, .inl (gr 17 zB)))] := hD
  refine lv_aload_n hx hb dX1_init_31 rfl (lv_at hl 0 rfl) ?_
  refine x_bipush hx hb dX1_init_32 (by decide) ?_
  refine va_newa (atype := .int) (ty := .int) (N' := 17) (a0 := (17, .inl (sq z0))) hx hb (hts _ q50) rfl hK hP hD hS hA (sz_new 17) (by decide) (by decide) (by decide) (by decide) (by decide) dX1_init_34 (fun qf d5 H hK hP hD hS => ?_)
  have hdd : d5 = d := ra_eq (hK.2 1 (d5, .int) rfl).2 (hK.2 0 (d, .int) rfl).2
  rw [hdd] at hP hD
  have hK : va_K D vwCl [(d, .int)] s := hK.sub [0] rfl
  refine va_putF (D := D) (ci := 1) (v := .ref qf) (ty := .array .int) (C := RX1) (T := TX1) (N := 4) hx hb hts in_X1 tyX1 tyX1_ok nmX1 hown hK hP hD hS 0 rfl rfl 3 (by decide) (hts _ q200) (fun _ h9 => h9) rfl hin rfl (by decide +kernel) rfl rfl (Nat.le_of_ble_eq_true rfl) dX1_init_36 (fun H locs hP hD hS => ?_)
  have hP : va_P D vwCl (MW h qt qw qm qf d (zB, z0, zB, z0)) H := hP
  have hD : va_D A (MW h qt qw qm qf d (zB, z0, zB, z0)) := hD
  refine W.widen (k := 4) (n := 819) (by decide) (by decide) ?_
  exact W.vret hx hb hr (fun t ht hW => ⟨⟨(qt, qw, qm, qf), rfl, trivial, by rw [ht]; exact hP, va_K.moved hW.alike hK, hD⟩, hS.F ht⟩) hS.2.2 dX1_init_39
end
section
/-! the law: calls out of the two worlds, the script, and what the answers say -/
set_option maxRecDepth 100000
def R_law : String := "RecurrenceEngineLaw"
section LR
variable {p : Program} {l : Launch} {e : Env} {R : Room} {s : State} {m : MethodId} {args : Array Value} {below : List Frame} {meth : Method} {c : Code} {H : Heap} {locs : List Loc} {cells slots : Nat} {Q : State → Prop} {cc : ByteArray} {pc : Nat} {ls : Array Slot} {rest st : List Value}
variable {y : MethodName} {rm : Room} {D : va_G} {d : ClassId} {hE qb qr hM qt qw qm qf nL n maxL index : Nat} {As : List Value} {ws : List Cond} {bytes : ByteArray} {ret : Option FieldType} {own : String} {A : Nat → Prop} {Ts : List Cond}
theorem l_callE {u0 : (Nat → Sr) × Sr} {v : (Nat → Sr) × Sr × (Nat → Sr) × Sr} {post : Int32 → (Nat → Sr) × Sr → Prop} (S : CallFix p m c cc nL s args Ts own) (hMt : gMi l y ws rm D d (EW hE qb qr d) u0 hE As post) (cw : CallW R s args own RX0 index y bytes maxL ret ws rm 0 0 n) (hK : va_K D vwCl [(d, .int)] s) (hA : ∀ q, s.heap.size ≤ q → A q) (hP : va_P D vwCl (EW hE qb qr d u0 ++ MW hM qt qw qm qf d v) H) (hD : va_D A (EW hE qb qr d u0 ++ MW hM qt qw qm qf d v)) (hS : va_S A s.heap H locs)
    (hn : As.length = n) (hsize : ls.size = nL) (hst : st = As.reverse ++ .ref hE :: rest) (hW : (rest.map fun v => v.category).sum ≤ 8) (hdg : decode cc pc = .ok (.invokevirtual index, 3)) (hf : cells + 0 ≤ R.cells ∧ slots + 0 ≤ R.slots)
    (kk : ∀ (r : Int32) (u : (Nat → Sr) × Sr) (H1 : Heap) (locs1 : List Loc), post r u → va_P D vwCl (EW hE qb qr d u ++ MW hM qt qw qm qf d v) H1 → va_D A (EW hE qb qr d u ++ MW hM qt qw qm qf d v) → va_S A s.heap H1 locs1 → W p l e R s m args below meth c H1 locs1 cells slots Q (F0 m (pc + 3) ls (.int r :: rest))) : W p l e R s m args below meth c H locs cells slots Q (F0 m pc ls st) := by
  have hPc := hP.sub (ws' := EW hE qb qr d u0) [0, 1, 2] rfl
  have hDc := hD.sub (ws' := EW hE qb qr d u0) [0, 1, 2] (by decide) rfl
  have hFc := va_free (wc := EW hE qb qr d u0) hD hS hA [0, 1, 2] rfl
  refine va_calli (va_runV (As := As) (rest := rest) S (hMt H.size) cw ⟨g_blind, va_recv hK hPc (ci := 0) (q0 := 0) rfl rfl, fun U hU hW => ⟨rfl, by rw [hU], by rw [hU]; exact hPc, va_K.moved hW.alike hK, hDc.weaken (fun _ _ _ _ => trivial)⟩⟩ rfl hn hsize hst (lv_room hW) hdg hf) hS (fun q _ h => hFc q h) hFc ?_
  intro r u t H1 locs1 ht hvm hq hB hz hk hS1
  obtain ⟨hP1, hK1, hD1⟩ := hB
  rw [ht] at hP1
  obtain ⟨hP2, hD2⟩ := va_join (wr := MW hM qt qw qm qf d v) (w1 := EW hE qb qr d u) hP hD [0, 1, 2] [3, 4, 5, 6, 7] rfl rfl (by decide) (by decide) hk hFc hP1 hD1
  exact kk r u H1 locs1 hq (hP2.sub [5, 6, 7, 0, 1, 2, 3, 4] rfl) (hD2.sub [5, 6, 7, 0, 1, 2, 3, 4] (by decide) rfl) hS1
theorem l_callM {u : (Nat → Sr) × Sr} {v0 : (Nat → Sr) × Sr × (Nat → Sr) × Sr} {post : Int32 → (Nat → Sr) × Sr × (Nat → Sr) × Sr → Prop} (S : CallFix p m c cc nL s args Ts own) (hMt : gMi l y ws rm D d (MW hM qt qw qm qf d) v0 hM As post) (cw : CallW R s args own RX1 index y bytes maxL ret ws rm 0 0 n) (hK : va_K D vwCl [(d, .int)] s) (hA : ∀ q, s.heap.size ≤ q → A q) (hP : va_P D vwCl (EW hE qb qr d u ++ MW hM qt qw qm qf d v0) H) (hD : va_D A (EW hE qb qr d u ++ MW hM qt qw qm qf d v0)) (hS : va_S A s.heap H locs)
    (hn : As.length = n) (hsize : ls.size = nL) (hst : st = As.reverse ++ .ref hM :: rest) (hW : (rest.map fun v => v.category).sum ≤ 8) (hdg : decode cc pc = .ok (.invokevirtual index, 3)) (hf : cells + 0 ≤ R.cells ∧ slots + 0 ≤ R.slots)
    (kk : ∀ (r : Int32) (v : (Nat → Sr) × Sr × (Nat → Sr) × Sr) (H1 : Heap) (locs1 : List Loc), post r v → va_P D vwCl (EW hE qb qr d u ++ MW hM qt qw qm qf d v) H1 → va_D A (EW hE qb qr d u ++ MW hM qt qw qm qf d v) → va_S A s.heap H1 locs1 → W p l e R s m args below meth c H1 locs1 cells slots Q (F0 m (pc + 3) ls (.int r :: rest))) : W p l e R s m args below meth c H locs cells slots Q (F0 m pc ls st) := by
  have hPc := hP.sub (ws' := MW hM qt qw qm qf d v0) [3, 4, 5, 6, 7] rfl
  have hDc := hD.sub (ws' := MW hM qt qw qm qf d v0) [3, 4, 5, 6, 7] (by decide) rfl
  have hFc := va_free (wc := MW hM qt qw qm qf d v0) hD hS hA [3, 4, 5, 6, 7] rfl
  refine va_calli (va_runV (As := As) (rest := rest) S (hMt H.size) cw ⟨g_blind, va_recv hK hPc (ci := 1) (q0 := 0) rfl rfl, fun U hU hW => ⟨rfl, by rw [hU], by rw [hU]; exact hPc, va_K.moved hW.alike hK, hDc.weaken (fun _ _ _ _ => trivial)⟩⟩ rfl hn hsize hst (lv_room hW) hdg hf) hS (fun q _ h => hFc q h) hFc ?_
  intro r v t H1 locs1 ht hvm hq hB hz hk hS1
  obtain ⟨hP1, hK1, hD1⟩ := hB
  rw [ht] at hP1
  obtain ⟨hP2, hD2⟩ := va_join (wr := EW hE qb qr d u) (w1 := MW hM qt qw qm qf d v) hP hD [3, 4, 5, 6, 7] [0, 1, 2] rfl rfl (by decide) (by decide) hk hFc hP1 hD1
  exact kk r v H1 locs1 hq hP2 hD2 hS1
theorem l_sld (hx : p.tables.exec = Jvm.exec) (hb : c.code = cc) {b L : Nat} {xs : Nat → Int32} {H0 : Heap} (hX : va_X b L xs s H0) (hbl : b < H0.size) (hbA : ¬ A b) (hS : va_S A H0 H locs) (k : Nat) (v : Int) (ev : v = (xs k).toInt) {z : Int} (hz : z = (k : Int) ∧ k < L ∧ L ≤ 320) (hd : decode cc pc = .ok (.iaload, 1)) (kk : W p l e R s m args below meth c H locs cells slots Q (F0 m (pc + 1) ls (.int (iI v) :: rest))) : W p l e R s m args below meth c H locs cells slots Q (F0 m pc ls (.int (iI z) :: .ref b :: rest)) := by
  obtain ⟨h1, h2⟩ := x_ix1 (N := L) hz.1 hz.2.1 (by omega)
  refine va_sld hx hb hX hbl hbA hS h1 hd ?_
  rw [ev, iI_of] at kk
  rw [h2]
  exact kk
theorem l_slen (hx : p.tables.exec = Jvm.exec) (hb : c.code = cc) {b L : Nat} {xs : Nat → Int32} {H0 : Heap} (hX : va_X b L xs s H0) (hbl : b < H0.size) (hbA : ¬ A b) (hS : va_S A H0 H locs) (hd : decode cc pc = .ok (.arraylength, 1)) (kk : W p l e R s m args below meth c H locs cells slots Q (F0 m (pc + 1) ls (.int (iI (L : Int)) :: rest))) : W p l e R s m args below meth c H locs cells slots Q (F0 m pc ls (.ref b :: rest)) := by
  refine va_slen hx hb hX hbl hbA hS hd ?_
  rw [iI_nI] at kk
  exact kk
theorem l_and15 (hx : p.tables.exec = Jvm.exec) (hb : c.code = cc) {a : Int} (hd : decode cc pc = .ok (.iand, 1)) (kk : ∀ k : Nat, k < 16 → W p l e R s m args below meth c H locs cells slots Q (F0 m (pc + 1) ls (.int (iI (k : Int)) :: rest))) : W p l e R s m args below meth c H locs cells slots Q (F0 m pc ls (.int (iI 15) :: .int (iI a) :: rest)) := by
  refine lv_iand hx hb hd ?_
  rw [pk_and (iI a) 4 (by decide), ← iI_nI]
  exact kk _ (Nat.mod_lt _ (by decide))
end LR
theorem l_z (x : Int32) : ∃ z : Int, z = x.toInt ∧ -2147483648 ≤ z ∧ z < 2147483648 := ⟨x.toInt, rfl, iI_bd x⟩
/-! what the engine kept, with its order, against what the model settled -/
def KL (L : Nat) (B : Nat → Sr) (a : Nat → Sr) (Ls : Nat → Nat) (to : Nat) (an : Sr) (r : Int32) : Prop := (L ≤ 8 ∧ r = iI (L : Int) ∧ GInv B (upA a to an) (upA Ls to L)) ∨ (8 < L ∧ r = iI (-3) ∧ GInv B a Ls)
def LG (B T : Nat → Sr) : Prop := ∃ (a : Nat → Sr) (Ls : Nat → Nat), GInv B a Ls ∧ MInv T a
theorem ginv_ols {B a : Nat → Sr} {Ls : Nat → Nat} (h : GInv B a Ls) : OLs a Ls := fun s hs => ⟨seq_ord (h s hs).1, (h s hs).2⟩
section KX
variable {ι : Type} {bad : Prop} {good : ι → Prop} {to : ι → Nat} {an : ι → Sr} {B1 B a T T1 : Nat → Sr} {Ls : Nat → Nat} {r r' : Int32}
theorem kx (hu : ∀ i j, good i → good j → i = j) (hb : bad → ∀ i, ¬ good i) (h : (bad ∧ r = iI (-1) ∧ B1 = B) ∨ ∃ i, good i ∧ Kept B1 a Ls (to i) (an i) r) : ∃ L, (∀ i, good i → Ord (an i) L ∧ L ≤ 16) ∧ ((bad ∧ r = iI (-1) ∧ B1 = B) ∨ ∃ i, good i ∧ KL L B1 a Ls (to i) (an i) r) := by
  rcases h with h | ⟨i, hi, L, h1, h2, h3⟩
  · exact ⟨0, fun i hi => absurd hi (hb h.1 i), Or.inl h⟩
  · refine ⟨L, fun j hj => ?_, Or.inr ⟨i, hi, h3⟩⟩
    rw [hu j i hj hi]
    exact ⟨h2, h1⟩
theorem kend {L : Nat} (hu : ∀ i j, good i → good j → i = j) (hb : bad → ∀ i, ¬ good i) (hG : GInv B a Ls) (hM : MInv T a) (h1 : (bad ∧ r = iI (-1) ∧ B1 = B) ∨ ∃ i, good i ∧ KL L B1 a Ls (to i) (an i) r) (h2 : (bad ∧ r' = iI (-1) ∧ T1 = T) ∨ ∃ i, good i ∧ Stl T1 a (to i) (an i) L r') : r = r' ∧ LG B1 T1 := by
  rcases h1 with ⟨b1, e1, e2⟩ | ⟨i, hi, h1⟩
  · rcases h2 with ⟨b2, e3, e4⟩ | ⟨j, hj, h2⟩
    · rw [e1, e2, e3, e4]
      exact ⟨rfl, a, Ls, hG, hM⟩
    · exact absurd hj (hb b1 j)
  · rcases h2 with ⟨b2, e3, e4⟩ | ⟨j, hj, h2⟩
    · exact absurd hi (hb b2 i)
    · rw [hu j i hj hi] at h2
      rcases h1 with ⟨l1, e1, g1⟩ | ⟨l1, e1, g1⟩
      · rcases h2 with ⟨l2, e2, g2⟩ | ⟨l2, e2, g2⟩
        · exact ⟨by rw [e1, e2], _, _, g1, g2⟩
        · omega
      · rcases h2 with ⟨l2, e2, g2⟩ | ⟨l2, e2, g2⟩
        · omega
        · exact ⟨by rw [e1, e2], _, _, g1, g2⟩
end KX
def g1 (z1 : Int) : Nat → Prop := fun s0 => s0 < 4 ∧ z1 = (s0 : Int)
theorem g1_u {z1 : Int} : ∀ i j, g1 z1 i → g1 z1 j → i = j := fun i j h1 h2 => by
  have := h1.2
  have := h2.2
  omega
theorem g1_b {z1 : Int} : (z1 < 0 ∨ 3 < z1) → ∀ i, ¬ g1 z1 i := fun h i q => by
  have h1 := q.1
  have h2 := q.2
  omega
def g2 (z1 z2 : Int) : Nat × Nat → Prop := fun q => q.1 < 4 ∧ q.2 < 4 ∧ z1 = (q.1 : Int) ∧ z2 = (q.2 : Int)
theorem g2_u {z1 z2 : Int} : ∀ i j, g2 z1 z2 i → g2 z1 z2 j → i = j := fun i j h1 h2 => by
  obtain ⟨-, -, a1, a2⟩ := h1
  obtain ⟨-, -, b1, b2⟩ := h2
  exact Prod.ext (by omega) (by omega)
theorem g2_b {z1 z2 : Int} : ((z1 < 0 ∨ 3 < z1) ∨ (z2 < 0 ∨ 3 < z2)) → ∀ i, ¬ g2 z1 z2 i := fun h i q => by
  obtain ⟨h1, h2, h3, h4⟩ := q
  omega
def g3 (z1 z2 z3 : Int) : Nat × Nat × Nat → Prop := fun q => q.1 < 4 ∧ q.2.1 < 4 ∧ q.2.2 < 4 ∧ z1 = (q.1 : Int) ∧ z2 = (q.2.1 : Int) ∧ z3 = (q.2.2 : Int)
theorem g3_u {z1 z2 z3 : Int} : ∀ i j, g3 z1 z2 z3 i → g3 z1 z2 z3 j → i = j := fun i j h1 h2 => by
  obtain ⟨-, -, -, a1, a2, a3⟩ := h1
  obtain ⟨-, -, -, b1, b2, b3⟩ := h2
  exact Prod.ext (by omega) (Prod.ext (by omega) (by omega))
theorem g3_b {z1 z2 z3 : Int} : ((z1 < 0 ∨ 3 < z1) ∨ (z2 < 0 ∨ 3 < z2) ∨ (z3 < 0 ∨ 3 < z3)) → ∀ i, ¬ g3 z1 z2 z3 i := fun h i q => by
  obtain ⟨h1, h2, h3, h4, h5, h6⟩ := q
  omega
section K1
variable {B1 B a T T1 : Nat → Sr} {Ls : Nat → Nat} {r r' : Int32} {z1 z2 z3 : Int}
theorem k1x (an : Nat → Sr) (h : ((z1 < 0 ∨ 3 < z1) ∧ r = iI (-1) ∧ B1 = B) ∨ ∃ s0 : Nat, s0 < 4 ∧ z1 = (s0 : Int) ∧ Kept B1 a Ls s0 (an s0) r) : ∃ L, (∀ s0 : Nat, s0 < 4 → z1 = (s0 : Int) → Ord (an s0) L ∧ L ≤ 16) ∧ (((z1 < 0 ∨ 3 < z1) ∧ r = iI (-1) ∧ B1 = B) ∨ ∃ i, g1 z1 i ∧ KL L B1 a Ls i (an i) r) := by
  obtain ⟨L, h1, h2⟩ := kx (to := fun i => i) (an := an) (g1_u (z1 := z1)) g1_b (by
    rcases h with h | ⟨s0, q1, q2, q3⟩
    · exact Or.inl h
    · exact Or.inr ⟨s0, ⟨q1, q2⟩, q3⟩)
  exact ⟨L, fun s0 q1 q2 => h1 s0 ⟨q1, q2⟩, h2⟩
theorem k1e (an : Nat → Sr) {L : Nat} (hG : GInv B a Ls) (hM : MInv T a) (h1 : ((z1 < 0 ∨ 3 < z1) ∧ r = iI (-1) ∧ B1 = B) ∨ ∃ i, g1 z1 i ∧ KL L B1 a Ls i (an i) r) (h2 : ((z1 < 0 ∨ 3 < z1) ∧ r' = iI (-1) ∧ T1 = T) ∨ ∃ s0 : Nat, s0 < 4 ∧ z1 = (s0 : Int) ∧ Stl T1 a s0 (an s0) L r') : r = r' ∧ LG B1 T1 :=
  kend (to := fun i => i) (an := an) (g1_u (z1 := z1)) g1_b hG hM h1 (by
    rcases h2 with h | ⟨s0, q1, q2, q3⟩
    · exact Or.inl h
    · exact Or.inr ⟨s0, ⟨q1, q2⟩, q3⟩)
theorem k2x (h : (((z1 < 0 ∨ 3 < z1) ∨ (z2 < 0 ∨ 3 < z2)) ∧ r = iI (-1) ∧ B1 = B) ∨ ∃ t0 s0 : Nat, t0 < 4 ∧ s0 < 4 ∧ z1 = (t0 : Int) ∧ z2 = (s0 : Int) ∧ Kept B1 a Ls t0 (a s0) r) : ∃ L, (∀ t0 s0 : Nat, t0 < 4 → s0 < 4 → z1 = (t0 : Int) → z2 = (s0 : Int) → Ord (a s0) L ∧ L ≤ 16) ∧ ((((z1 < 0 ∨ 3 < z1) ∨ (z2 < 0 ∨ 3 < z2)) ∧ r = iI (-1) ∧ B1 = B) ∨ ∃ i, g2 z1 z2 i ∧ KL L B1 a Ls i.1 (a i.2) r) := by
  obtain ⟨L, h1, h2⟩ := kx (to := fun i => i.1) (an := fun i => a i.2) (g2_u (z1 := z1) (z2 := z2)) g2_b (by
    rcases h with h | ⟨t0, s0, q1, q2, q3, q4, q5⟩
    · exact Or.inl h
    · exact Or.inr ⟨(t0, s0), ⟨q1, q2, q3, q4⟩, q5⟩)
  exact ⟨L, fun t0 s0 q1 q2 q3 q4 => h1 (t0, s0) ⟨q1, q2, q3, q4⟩, h2⟩
theorem k2e {L : Nat} (hG : GInv B a Ls) (hM : MInv T a) (h1 : (((z1 < 0 ∨ 3 < z1) ∨ (z2 < 0 ∨ 3 < z2)) ∧ r = iI (-1) ∧ B1 = B) ∨ ∃ i, g2 z1 z2 i ∧ KL L B1 a Ls i.1 (a i.2) r) (h2 : (((z1 < 0 ∨ 3 < z1) ∨ (z2 < 0 ∨ 3 < z2)) ∧ r' = iI (-1) ∧ T1 = T) ∨ ∃ t0 s0 : Nat, t0 < 4 ∧ s0 < 4 ∧ z1 = (t0 : Int) ∧ z2 = (s0 : Int) ∧ Stl T1 a t0 (a s0) L r') : r = r' ∧ LG B1 T1 :=
  kend (to := fun i => i.1) (an := fun i => a i.2) (g2_u (z1 := z1) (z2 := z2)) g2_b hG hM h1 (by
    rcases h2 with h | ⟨t0, s0, q1, q2, q3, q4, q5⟩
    · exact Or.inl h
    · exact Or.inr ⟨(t0, s0), ⟨q1, q2, q3, q4⟩, q5⟩)
theorem k3x (h : (((z1 < 0 ∨ 3 < z1) ∨ (z2 < 0 ∨ 3 < z2) ∨ (z3 < 0 ∨ 3 < z3)) ∧ r = iI (-1) ∧ B1 = B) ∨ ∃ t0 s0 s1 : Nat, t0 < 4 ∧ s0 < 4 ∧ s1 < 4 ∧ z1 = (t0 : Int) ∧ z2 = (s0 : Int) ∧ z3 = (s1 : Int) ∧ Kept B1 a Ls t0 (ad (a s0) (a s1)) r) : ∃ L, (∀ t0 s0 s1 : Nat, t0 < 4 → s0 < 4 → s1 < 4 → z1 = (t0 : Int) → z2 = (s0 : Int) → z3 = (s1 : Int) → Ord (ad (a s0) (a s1)) L ∧ L ≤ 16) ∧ ((((z1 < 0 ∨ 3 < z1) ∨ (z2 < 0 ∨ 3 < z2) ∨ (z3 < 0 ∨ 3 < z3)) ∧ r = iI (-1) ∧ B1 = B) ∨ ∃ i, g3 z1 z2 z3 i ∧ KL L B1 a Ls i.1 (ad (a i.2.1) (a i.2.2)) r) := by
  obtain ⟨L, h1, h2⟩ := kx (to := fun i => i.1) (an := fun i => ad (a i.2.1) (a i.2.2)) (g3_u (z1 := z1) (z2 := z2) (z3 := z3)) g3_b (by
    rcases h with h | ⟨t0, s0, s1, q1, q2, q3, q4, q5, q6, q7⟩
    · exact Or.inl h
    · exact Or.inr ⟨(t0, s0, s1), ⟨q1, q2, q3, q4, q5, q6⟩, q7⟩)
  exact ⟨L, fun t0 s0 s1 q1 q2 q3 q4 q5 q6 => h1 (t0, s0, s1) ⟨q1, q2, q3, q4, q5, q6⟩, h2⟩
theorem k3e {L : Nat} (hG : GInv B a Ls) (hM : MInv T a) (h1 : (((z1 < 0 ∨ 3 < z1) ∨ (z2 < 0 ∨ 3 < z2) ∨ (z3 < 0 ∨ 3 < z3)) ∧ r = iI (-1) ∧ B1 = B) ∨ ∃ i, g3 z1 z2 z3 i ∧ KL L B1 a Ls i.1 (ad (a i.2.1) (a i.2.2)) r) (h2 : (((z1 < 0 ∨ 3 < z1) ∨ (z2 < 0 ∨ 3 < z2) ∨ (z3 < 0 ∨ 3 < z3)) ∧ r' = iI (-1) ∧ T1 = T) ∨ ∃ t0 s0 s1 : Nat, t0 < 4 ∧ s0 < 4 ∧ s1 < 4 ∧ z1 = (t0 : Int) ∧ z2 = (s0 : Int) ∧ z3 = (s1 : Int) ∧ Stl T1 a t0 (ad (a s0) (a s1)) L r') : r = r' ∧ LG B1 T1 :=
  kend (to := fun i => i.1) (an := fun i => ad (a i.2.1) (a i.2.2)) (g3_u (z1 := z1) (z2 := z2) (z3 := z3)) g3_b hG hM h1 (by
    rcases h2 with h | ⟨t0, s0, s1, q1, q2, q3, q4, q5, q6, q7⟩
    · exact Or.inl h
    · exact Or.inr ⟨(t0, s0, s1), ⟨q1, q2, q3, q4, q5, q6⟩, q7⟩)
/-! define -/
theorem kdx {c b : Int} (h : ((z1 < 0 ∨ 3 < z1) ∧ r = iI (-1) ∧ B1 = B) ∨ ((0 ≤ z1 ∧ z1 ≤ 3) ∧ (z2 < 1 ∨ 4 < z2) ∧ r = iI (-2) ∧ B1 = B) ∨ (∃ s0 k0 : Nat, s0 < 4 ∧ 1 ≤ k0 ∧ k0 ≤ 4 ∧ z1 = (s0 : Int) ∧ z2 = (k0 : Int) ∧ r = iI 0 ∧ ∃ (an : Sr) (L : Nat), DefS k0 c b an ∧ L ≤ 8 ∧ GInv B1 (upA a s0 an) (upA Ls s0 L))) :
    ∃ (an : Sr) (L : Nat), (∀ s0 k0 : Nat, s0 < 4 → 1 ≤ k0 → k0 ≤ 4 → z1 = (s0 : Int) → z2 = (k0 : Int) → DefS k0 c b an) ∧ (((z1 < 0 ∨ 3 < z1) ∧ r = iI (-1) ∧ B1 = B) ∨ ((0 ≤ z1 ∧ z1 ≤ 3) ∧ (z2 < 1 ∨ 4 < z2) ∧ r = iI (-2) ∧ B1 = B) ∨ (∃ s0 k0 : Nat, s0 < 4 ∧ 1 ≤ k0 ∧ k0 ≤ 4 ∧ z1 = (s0 : Int) ∧ z2 = (k0 : Int) ∧ r = iI 0 ∧ GInv B1 (upA a s0 an) (upA Ls s0 L))) := by
  rcases h with h | h | ⟨s0, k0, h1, h2, h3, h4, h5, h6, an, L, h7, h8, h9⟩
  · exact ⟨z0, 0, fun s0 k0 q1 q2 q3 q4 q5 => by have := h.1; omega, Or.inl h⟩
  · exact ⟨z0, 0, fun s0 k0 q1 q2 q3 q4 q5 => by have := h.2.1; omega, Or.inr (Or.inl h)⟩
  · refine ⟨an, L, fun s1 k1 q1 q2 q3 q4 q5 => ?_, Or.inr (Or.inr ⟨s0, k0, h1, h2, h3, h4, h5, h6, h9⟩)⟩
    have e : k1 = k0 := by omega
    rw [e]
    exact h7
theorem kde {an : Sr} {L : Nat} (hG : GInv B a Ls) (hM : MInv T a) (h1 : ((z1 < 0 ∨ 3 < z1) ∧ r = iI (-1) ∧ B1 = B) ∨ ((0 ≤ z1 ∧ z1 ≤ 3) ∧ (z2 < 1 ∨ 4 < z2) ∧ r = iI (-2) ∧ B1 = B) ∨ (∃ s0 k0 : Nat, s0 < 4 ∧ 1 ≤ k0 ∧ k0 ≤ 4 ∧ z1 = (s0 : Int) ∧ z2 = (k0 : Int) ∧ r = iI 0 ∧ GInv B1 (upA a s0 an) (upA Ls s0 L)))
    (h2 : ((z1 < 0 ∨ 3 < z1) ∧ r' = iI (-1) ∧ T1 = T) ∨ ((0 ≤ z1 ∧ z1 ≤ 3) ∧ (z2 < 1 ∨ 4 < z2) ∧ r' = iI (-2) ∧ T1 = T) ∨ (∃ s0 k0 : Nat, s0 < 4 ∧ 1 ≤ k0 ∧ k0 ≤ 4 ∧ z1 = (s0 : Int) ∧ z2 = (k0 : Int) ∧ r' = iI 0 ∧ MInv T1 (upA a s0 an))) : r = r' ∧ LG B1 T1 := by
  rcases h1 with ⟨p1, p2, p3⟩ | ⟨p0, p1, p2, p3⟩ | ⟨s0, k0, p1, p2, p3, p4, p5, p6, p7⟩
  · rcases h2 with ⟨q1, q2, q3⟩ | ⟨q0, q1, q2, q3⟩ | ⟨s1, k1, q1, q2, q3, q4, q5, q6, q7⟩
    · exact ⟨by rw [p2, q2], a, Ls, by rw [p3]; exact hG, by rw [q3]; exact hM⟩
    · omega
    · omega
  · rcases h2 with ⟨q1, q2, q3⟩ | ⟨q0, q1, q2, q3⟩ | ⟨s1, k1, q1, q2, q3, q4, q5, q6, q7⟩
    · omega
    · exact ⟨by rw [p2, q2], a, Ls, by rw [p3]; exact hG, by rw [q3]; exact hM⟩
    · omega
  · rcases h2 with ⟨q1, q2, q3⟩ | ⟨q0, q1, q2, q3⟩ | ⟨s1, k1, q1, q2, q3, q4, q5, q6, q7⟩
    · omega
    · omega
    · have e : s1 = s0 := by omega
      rw [e] at q7
      exact ⟨by rw [p6, q6], _, _, p7, q7⟩
/-! questions -/
theorem q_term (h1 : ((z1 < 0 ∨ 3 < z1) ∧ r = iI (-1)) ∨ ((0 ≤ z1 ∧ z1 ≤ 3) ∧ (z2 < 0 ∨ 400 < z2) ∧ r = iI (-4)) ∨ (∃ s0 n0 : Nat, s0 < 4 ∧ n0 ≤ 400 ∧ z1 = (s0 : Int) ∧ z2 = (n0 : Int) ∧ r = iI ((a s0 n0).val : Int)))
    (h2 : ((z1 < 0 ∨ 3 < z1) ∧ r' = iI (-1)) ∨ ((0 ≤ z1 ∧ z1 ≤ 3) ∧ (z2 < 0 ∨ 400 < z2) ∧ r' = iI (-4)) ∨ (∃ s0 n0 : Nat, s0 < 4 ∧ n0 ≤ 400 ∧ z1 = (s0 : Int) ∧ z2 = (n0 : Int) ∧ r' = iI ((a s0 n0).val : Int))) : r = r' := by
  rcases h1 with ⟨p1, p2⟩ | ⟨p0, p1, p2⟩ | ⟨s0, n0, p1, p2, p3, p4, p5⟩
  · rcases h2 with ⟨q1, q2⟩ | ⟨q0, q1, q2⟩ | ⟨s1, n1, q1, q2, q3, q4, q5⟩
    · rw [p2, q2]
    · omega
    · omega
  · rcases h2 with ⟨q1, q2⟩ | ⟨q0, q1, q2⟩ | ⟨s1, n1, q1, q2, q3, q4, q5⟩
    · omega
    · rw [p2, q2]
    · omega
  · rcases h2 with ⟨q1, q2⟩ | ⟨q0, q1, q2⟩ | ⟨s1, n1, q1, q2, q3, q4, q5⟩
    · omega
    · omega
    · have e1 : s1 = s0 := by omega
      have e2 : n1 = n0 := by omega
      rw [p5, q5, e1, e2]
theorem q_one {F : Nat → Int32} (h1 : ((z1 < 0 ∨ 3 < z1) ∧ r = iI (-1)) ∨ (∃ s0 : Nat, s0 < 4 ∧ z1 = (s0 : Int) ∧ r = F s0)) (h2 : ((z1 < 0 ∨ 3 < z1) ∧ r' = iI (-1)) ∨ (∃ s0 : Nat, s0 < 4 ∧ z1 = (s0 : Int) ∧ r' = F s0)) : r = r' := by
  rcases h1 with ⟨p1, p2⟩ | ⟨s0, p1, p2, p3⟩
  · rcases h2 with ⟨q1, q2⟩ | ⟨s1, q1, q2, q3⟩
    · rw [p2, q2]
    · omega
  · rcases h2 with ⟨q1, q2⟩ | ⟨s1, q1, q2, q3⟩
    · omega
    · have e1 : s1 = s0 := by omega
      rw [p3, q3, e1]
theorem q_sum (h1 : ((z1 < 0 ∨ 3 < z1) ∧ r = iI (-1)) ∨ ((0 ≤ z1 ∧ z1 ≤ 3) ∧ (z2 < 0 ∨ z3 < z2 ∨ 400 < z3) ∧ r = iI (-4)) ∨ (∃ s0 f0 l0 : Nat, s0 < 4 ∧ f0 ≤ l0 ∧ l0 ≤ 400 ∧ z1 = (s0 : Int) ∧ z2 = (f0 : Int) ∧ z3 = (l0 : Int) ∧ r = iI ((su (a s0) (l0 + 1) - su (a s0) f0).val : Int)))
    (h2 : ((z1 < 0 ∨ 3 < z1) ∧ r' = iI (-1)) ∨ ((0 ≤ z1 ∧ z1 ≤ 3) ∧ (z2 < 0 ∨ z3 < z2 ∨ 400 < z3) ∧ r' = iI (-4)) ∨ (∃ s0 f0 l0 : Nat, s0 < 4 ∧ f0 ≤ l0 ∧ l0 ≤ 400 ∧ z1 = (s0 : Int) ∧ z2 = (f0 : Int) ∧ z3 = (l0 : Int) ∧ r' = iI ((su (a s0) (l0 + 1) - su (a s0) f0).val : Int))) : r = r' := by
  rcases h1 with ⟨p1, p2⟩ | ⟨p0, p1, p2⟩ | ⟨s0, f0, l0, p1, p2, p3, p4, p5, p6, p7⟩
  · rcases h2 with ⟨q1, q2⟩ | ⟨q0, q1, q2⟩ | ⟨s1, f1, l1, q1, q2, q3, q4, q5, q6, q7⟩
    · rw [p2, q2]
    · omega
    · omega
  · rcases h2 with ⟨q1, q2⟩ | ⟨q0, q1, q2⟩ | ⟨s1, f1, l1, q1, q2, q3, q4, q5, q6, q7⟩
    · omega
    · rw [p2, q2]
    · omega
  · rcases h2 with ⟨q1, q2⟩ | ⟨q0, q1, q2⟩ | ⟨s1, f1, l1, q1, q2, q3, q4, q5, q6, q7⟩
    · omega
    · omega
    · have e1 : s1 = s0 := by omega
      have e2 : f1 = f0 := by omega
      have e3 : l1 = l0 := by omega
      rw [p7, q7, e1, e2, e3]
theorem q_eq (h1 : (((z1 < 0 ∨ 3 < z1) ∨ (z2 < 0 ∨ 3 < z2)) ∧ r = iI 0) ∨ (∃ s0 t0 : Nat, s0 < 4 ∧ t0 < 4 ∧ z1 = (s0 : Int) ∧ z2 = (t0 : Int) ∧ ((r = iI 1 ∧ EqS (a s0) (a t0)) ∨ (r = iI 0 ∧ ¬ EqS (a s0) (a t0)))))
    (h2 : (((z1 < 0 ∨ 3 < z1) ∨ (z2 < 0 ∨ 3 < z2)) ∧ r' = iI 0) ∨ (∃ s0 t0 : Nat, s0 < 4 ∧ t0 < 4 ∧ z1 = (s0 : Int) ∧ z2 = (t0 : Int) ∧ ((r' = iI 1 ∧ EqS (a s0) (a t0)) ∨ (r' = iI 0 ∧ ¬ EqS (a s0) (a t0))))) : r = r' := by
  rcases h1 with ⟨p1, p2⟩ | ⟨s0, t0, p1, p2, p3, p4, p5⟩
  · rcases h2 with ⟨q1, q2⟩ | ⟨s1, t1, q1, q2, q3, q4, q5⟩
    · rw [p2, q2]
    · omega
  · rcases h2 with ⟨q1, q2⟩ | ⟨s1, t1, q1, q2, q3, q4, q5⟩
    · omega
    · have e1 : s1 = s0 := by omega
      have e2 : t1 = t0 := by omega
      rw [e1, e2] at q5
      rcases p5 with ⟨p5, p6⟩ | ⟨p5, p6⟩
      · rcases q5 with ⟨q5, q6⟩ | ⟨q5, q6⟩
        · rw [p5, q5]
        · exact absurd p6 q6
      · rcases q5 with ⟨q5, q6⟩ | ⟨q5, q6⟩
        · exact absurd q6 p6
        · rw [p5, q5]
end K1
end
section
/-! the law's cases, printed by gen/law.py -/
set_option maxRecDepth 100000
def LawAt (p : Program) (l : Launch) (e : Env) (s : State) (m : MethodId) (below : List Frame) (meth : Method) (c : Code) (b : Nat) (D : va_G) (d : ClassId) (hE qb qr hM qt qw qm qf : Nat) (Q : State → Prop) (i pc : Nat) : Prop :=
  ∀ (B : Nat → Sr) (g : Sr) (T : Nat → Sr) (w : Sr) (M : Nat → Sr) (f : Sr), LG B T → ∀ (H : Heap) (locs : List Loc), va_P D vwCl (EW hE qb qr d (B, g) ++ MW hM qt qw qm qf d (T, w, M, f)) H → va_D (fun q : Nat => s.heap.size ≤ q) (EW hE qb qr d (B, g) ++ MW hM qt qw qm qf d (T, w, M, f)) → va_S (fun q : Nat => s.heap.size ≤ q) s.heap H locs → ∀ ls : Array Slot, lv_has ls 4 [(0, .ref b), (1, .ref hE), (2, .ref hM), (3, .int (iI (i : Int)))] → W p l e room_1 s m #[Value.ref b] below meth c H locs 8 1145 Q (F0 m pc ls [])
section LC
variable {p : Program} {l : Launch} {e : Env} {s : State} {m : MethodId} {below : List Frame} {meth : Method} {c : Code} {b L : Nat} {xs : Nat → Int32} {D : va_G} {d : ClassId} {hE qb qr hM qt qw qm qf : Nat} {Q : State → Prop} {i : Nat}
set_option maxHeartbeats 4000000 in
set_option maxRecDepth 100000 in
theorem law_c0 (hx : p.tables.exec = Jvm.exec) (hb : c.code = code) (hml : c.maxLocals = 4) (hown : s.vm.findClass R_law = some m.cls) (hts : ∀ w ∈ lw_all, w.before #[Value.ref b] s = true) (hX : va_X b L xs s s.heap) (hbl : b < s.heap.size) (hK : va_K D vwCl [(d, .int)] s) (hL : L ≤ 320) (hi : i + 5 ≤ L) (hbk : LawAt p l e s m below meth c b D d hE qb qr hM qt qw qm qf Q i 529) : LawAt p l e s m below meth c b D d hE qb qr hM qt qw qm qf Q i 100 := by
  intro B g T w M f hLG H locs hP hD hS ls hl
  obtain ⟨a, Ls, hG, hMi⟩ := hLG
  have hA : ∀ q : Nat, s.heap.size ≤ q → (fun q : Nat => s.heap.size ≤ q) q := fun _ h => h
  have hbA : ¬ (fun q : Nat => s.heap.size ≤ q) b := Nat.not_le.mpr hbl
  obtain ⟨z1, ez1, hz1⟩ := l_z (xs (i + 1))
  obtain ⟨z2, ez2, hz2⟩ := l_z (xs (i + 2))
  obtain ⟨z3, ez3, hz3⟩ := l_z (xs (i + 3))
  obtain ⟨z4, ez4, hz4⟩ := l_z (xs (i + 4))
  refine lv_aload_n hx hb dL_law_100 rfl (lv_at hl 1 rfl) ?_
  refine lv_aload_n hx hb dL_law_101 rfl (lv_at hl 0 rfl) ?_
  refine lv_iload_n hx hb dL_law_102 rfl (lv_at hl 3 rfl) ?_
  refine x_iconst hx hb dL_law_103 ?_
  refine x_iadd hx hb dL_law_104 ?_
  refine l_sld hx hb hX hbl hbA hS (i + 1) z1 ez1 (by omega) dL_law_105 ?_
  refine lv_aload_n hx hb dL_law_106 rfl (lv_at hl 0 rfl) ?_
  refine lv_iload_n hx hb dL_law_107 rfl (lv_at hl 3 rfl) ?_
  refine x_iconst hx hb dL_law_108 ?_
  refine x_iadd hx hb dL_law_109 ?_
  refine l_sld hx hb hX hbl hbA hS (i + 2) z2 ez2 (by omega) dL_law_110 ?_
  refine lv_aload_n hx hb dL_law_111 rfl (lv_at hl 0 rfl) ?_
  refine lv_iload_n hx hb dL_law_112 rfl (lv_at hl 3 rfl) ?_
  refine x_iconst hx hb dL_law_113 ?_
  refine x_iadd hx hb dL_law_114 ?_
  refine l_sld hx hb hX hbl hbA hS (i + 3) z3 ez3 (by omega) dL_law_115 ?_
  refine lv_aload_n hx hb dL_law_116 rfl (lv_at hl 0 rfl) ?_
  refine lv_iload_n hx hb dL_law_117 rfl (lv_at hl 3 rfl) ?_
  refine x_iconst hx hb dL_law_118 ?_
  refine x_iadd hx hb dL_law_119 ?_
  refine l_sld hx hb hX hbl hbA hS (i + 4) z4 ez4 (by omega) dL_law_120 ?_
  refine l_callE ⟨hx, hb, hml, hown, hts⟩ (metX0_define l D d hE qb qr B g a Ls hG z1 hz1 z2 hz2 z3 hz3 z4 hz4) (cwV 4 hts (lw_V q51 q52 q53 q33 q54) rfl rfl rfl (by decide +kernel) ⟨Nat.le_of_ble_eq_true rfl, Nat.le_of_ble_eq_true rfl⟩) hK hA hP hD hS rfl hl.1 rfl (Nat.le_of_ble_eq_true rfl) dL_law_121 ⟨Nat.le_of_ble_eq_true rfl, Nat.le_of_ble_eq_true rfl⟩ (fun r1 u1 H locs hq hP hD hS => ?_)
  obtain ⟨B1, rfl, hq⟩ := hq
  obtain ⟨an, L0, hDf, hq⟩ := kdx hq
  refine lv_aload_n hx hb dL_law_124 rfl (lv_at hl 2 rfl) ?_
  refine lv_aload_n hx hb dL_law_125 rfl (lv_at hl 0 rfl) ?_
  refine lv_iload_n hx hb dL_law_126 rfl (lv_at hl 3 rfl) ?_
  refine x_iconst hx hb dL_law_127 ?_
  refine x_iadd hx hb dL_law_128 ?_
  refine l_sld hx hb hX hbl hbA hS (i + 1) z1 ez1 (by omega) dL_law_129 ?_
  refine lv_aload_n hx hb dL_law_130 rfl (lv_at hl 0 rfl) ?_
  refine lv_iload_n hx hb dL_law_131 rfl (lv_at hl 3 rfl) ?_
  refine x_iconst hx hb dL_law_132 ?_
  refine x_iadd hx hb dL_law_133 ?_
  refine l_sld hx hb hX hbl hbA hS (i + 2) z2 ez2 (by omega) dL_law_134 ?_
  refine lv_aload_n hx hb dL_law_135 rfl (lv_at hl 0 rfl) ?_
  refine lv_iload_n hx hb dL_law_136 rfl (lv_at hl 3 rfl) ?_
  refine x_iconst hx hb dL_law_137 ?_
  refine x_iadd hx hb dL_law_138 ?_
  refine l_sld hx hb hX hbl hbA hS (i + 3) z3 ez3 (by omega) dL_law_139 ?_
  refine lv_aload_n hx hb dL_law_140 rfl (lv_at hl 0 rfl) ?_
  refine lv_iload_n hx hb dL_law_141 rfl (lv_at hl 3 rfl) ?_
  refine x_iconst hx hb dL_law_142 ?_
  refine x_iadd hx hb dL_law_143 ?_
  refine l_sld hx hb hX hbl hbA hS (i + 4) z4 ez4 (by omega) dL_law_144 ?_
  refine l_callM ⟨hx, hb, hml, hown, hts⟩ (metX1_define l D d hM qt qw qm qf T w M f a hMi z1 hz1 z2 hz2 z3 hz3 z4 hz4 an hDf) (cwV 4 hts (lw_V q210 q211 q212 q34 q213) rfl rfl rfl (by decide +kernel) ⟨Nat.le_of_ble_eq_true rfl, Nat.le_of_ble_eq_true rfl⟩) hK hA hP hD hS rfl hl.1 rfl (Nat.le_of_ble_eq_true rfl) dL_law_145 ⟨Nat.le_of_ble_eq_true rfl, Nat.le_of_ble_eq_true rfl⟩ (fun r2 u2 H locs hq2 hP hD hS => ?_)
  obtain ⟨T1, w1, M1, f1, rfl, hq2⟩ := hq2
  obtain ⟨er, hLG⟩ := kde hG hMi hq hq2
  refine lv_icmp_eq (tgt := 529) hx hb dL_law_148 (by decide) (fun c9 => ?_) (fun c9 => absurd er c9)
  exact hbk _ _ _ _ _ _ hLG H locs hP hD hS ls hl
set_option maxHeartbeats 4000000 in
set_option maxRecDepth 100000 in
theorem law_c1 (hx : p.tables.exec = Jvm.exec) (hb : c.code = code) (hml : c.maxLocals = 4) (hown : s.vm.findClass R_law = some m.cls) (hts : ∀ w ∈ lw_all, w.before #[Value.ref b] s = true) (hX : va_X b L xs s s.heap) (hbl : b < s.heap.size) (hK : va_K D vwCl [(d, .int)] s) (hL : L ≤ 320) (hi : i + 5 ≤ L) (hbk : LawAt p l e s m below meth c b D d hE qb qr hM qt qw qm qf Q i 529) : LawAt p l e s m below meth c b D d hE qb qr hM qt qw qm qf Q i 153 := by
  intro B g T w M f hLG H locs hP hD hS ls hl
  obtain ⟨a, Ls, hG, hMi⟩ := hLG
  have hA : ∀ q : Nat, s.heap.size ≤ q → (fun q : Nat => s.heap.size ≤ q) q := fun _ h => h
  have hbA : ¬ (fun q : Nat => s.heap.size ≤ q) b := Nat.not_le.mpr hbl
  obtain ⟨z1, ez1, hz1⟩ := l_z (xs (i + 1))
  obtain ⟨z2, ez2, hz2⟩ := l_z (xs (i + 2))
  obtain ⟨z3, ez3, hz3⟩ := l_z (xs (i + 3))
  refine lv_aload_n hx hb dL_law_153 rfl (lv_at hl 1 rfl) ?_
  refine lv_aload_n hx hb dL_law_154 rfl (lv_at hl 0 rfl) ?_
  refine lv_iload_n hx hb dL_law_155 rfl (lv_at hl 3 rfl) ?_
  refine x_iconst hx hb dL_law_156 ?_
  refine x_iadd hx hb dL_law_157 ?_
  refine l_sld hx hb hX hbl hbA hS (i + 1) z1 ez1 (by omega) dL_law_158 ?_
  refine lv_aload_n hx hb dL_law_159 rfl (lv_at hl 0 rfl) ?_
  refine lv_iload_n hx hb dL_law_160 rfl (lv_at hl 3 rfl) ?_
  refine x_iconst hx hb dL_law_161 ?_
  refine x_iadd hx hb dL_law_162 ?_
  refine l_sld hx hb hX hbl hbA hS (i + 2) z2 ez2 (by omega) dL_law_163 ?_
  refine lv_aload_n hx hb dL_law_164 rfl (lv_at hl 0 rfl) ?_
  refine lv_iload_n hx hb dL_law_165 rfl (lv_at hl 3 rfl) ?_
  refine x_iconst hx hb dL_law_166 ?_
  refine x_iadd hx hb dL_law_167 ?_
  refine l_sld hx hb hX hbl hbA hS (i + 3) z3 ez3 (by omega) dL_law_168 ?_
  refine l_callE ⟨hx, hb, hml, hown, hts⟩ (metX0_add l D d hE qb qr B g a Ls hG z1 hz1 z2 hz2 z3 hz3) (cwV 3 hts (lw_V q115 q116 q117 q33 q118) rfl rfl rfl (by decide +kernel) ⟨Nat.le_of_ble_eq_true rfl, Nat.le_of_ble_eq_true rfl⟩) hK hA hP hD hS rfl hl.1 rfl (Nat.le_of_ble_eq_true rfl) dL_law_169 ⟨Nat.le_of_ble_eq_true rfl, Nat.le_of_ble_eq_true rfl⟩ (fun r1 u1 H locs hq hP hD hS => ?_)
  obtain ⟨B1, rfl, hq⟩ := hq
  obtain ⟨L0, hO, hq⟩ := k3x hq
  refine lv_aload_n hx hb dL_law_172 rfl (lv_at hl 2 rfl) ?_
  refine lv_aload_n hx hb dL_law_173 rfl (lv_at hl 0 rfl) ?_
  refine lv_iload_n hx hb dL_law_174 rfl (lv_at hl 3 rfl) ?_
  refine x_iconst hx hb dL_law_175 ?_
  refine x_iadd hx hb dL_law_176 ?_
  refine l_sld hx hb hX hbl hbA hS (i + 1) z1 ez1 (by omega) dL_law_177 ?_
  refine lv_aload_n hx hb dL_law_178 rfl (lv_at hl 0 rfl) ?_
  refine lv_iload_n hx hb dL_law_179 rfl (lv_at hl 3 rfl) ?_
  refine x_iconst hx hb dL_law_180 ?_
  refine x_iadd hx hb dL_law_181 ?_
  refine l_sld hx hb hX hbl hbA hS (i + 2) z2 ez2 (by omega) dL_law_182 ?_
  refine lv_aload_n hx hb dL_law_183 rfl (lv_at hl 0 rfl) ?_
  refine lv_iload_n hx hb dL_law_184 rfl (lv_at hl 3 rfl) ?_
  refine x_iconst hx hb dL_law_185 ?_
  refine x_iadd hx hb dL_law_186 ?_
  refine l_sld hx hb hX hbl hbA hS (i + 3) z3 ez3 (by omega) dL_law_187 ?_
  refine l_callM ⟨hx, hb, hml, hown, hts⟩ (metX1_add l D d hM qt qw qm qf T w M f a hMi Ls (ginv_ols hG) z1 hz1 z2 hz2 z3 hz3 L0 hO) (cwV 3 hts (lw_V q227 q228 q229 q34 q230) rfl rfl rfl (by decide +kernel) ⟨Nat.le_of_ble_eq_true rfl, Nat.le_of_ble_eq_true rfl⟩) hK hA hP hD hS rfl hl.1 rfl (Nat.le_of_ble_eq_true rfl) dL_law_188 ⟨Nat.le_of_ble_eq_true rfl, Nat.le_of_ble_eq_true rfl⟩ (fun r2 u2 H locs hq2 hP hD hS => ?_)
  obtain ⟨T1, w1, M1, f1, rfl, hq2⟩ := hq2
  obtain ⟨er, hLG⟩ := k3e hG hMi hq hq2
  refine lv_icmp_eq (tgt := 529) hx hb dL_law_191 (by decide) (fun c9 => ?_) (fun c9 => absurd er c9)
  exact hbk _ _ _ _ _ _ hLG H locs hP hD hS ls hl
set_option maxHeartbeats 4000000 in
set_option maxRecDepth 100000 in
theorem law_c2 (hx : p.tables.exec = Jvm.exec) (hb : c.code = code) (hml : c.maxLocals = 4) (hown : s.vm.findClass R_law = some m.cls) (hts : ∀ w ∈ lw_all, w.before #[Value.ref b] s = true) (hX : va_X b L xs s s.heap) (hbl : b < s.heap.size) (hK : va_K D vwCl [(d, .int)] s) (hL : L ≤ 320) (hi : i + 5 ≤ L) (hbk : LawAt p l e s m below meth c b D d hE qb qr hM qt qw qm qf Q i 529) : LawAt p l e s m below meth c b D d hE qb qr hM qt qw qm qf Q i 196 := by
  intro B g T w M f hLG H locs hP hD hS ls hl
  obtain ⟨a, Ls, hG, hMi⟩ := hLG
  have hA : ∀ q : Nat, s.heap.size ≤ q → (fun q : Nat => s.heap.size ≤ q) q := fun _ h => h
  have hbA : ¬ (fun q : Nat => s.heap.size ≤ q) b := Nat.not_le.mpr hbl
  obtain ⟨z1, ez1, hz1⟩ := l_z (xs (i + 1))
  obtain ⟨z2, ez2, hz2⟩ := l_z (xs (i + 2))
  refine lv_aload_n hx hb dL_law_196 rfl (lv_at hl 1 rfl) ?_
  refine lv_aload_n hx hb dL_law_197 rfl (lv_at hl 0 rfl) ?_
  refine lv_iload_n hx hb dL_law_198 rfl (lv_at hl 3 rfl) ?_
  refine x_iconst hx hb dL_law_199 ?_
  refine x_iadd hx hb dL_law_200 ?_
  refine l_sld hx hb hX hbl hbA hS (i + 1) z1 ez1 (by omega) dL_law_201 ?_
  refine lv_aload_n hx hb dL_law_202 rfl (lv_at hl 0 rfl) ?_
  refine lv_iload_n hx hb dL_law_203 rfl (lv_at hl 3 rfl) ?_
  refine x_iconst hx hb dL_law_204 ?_
  refine x_iadd hx hb dL_law_205 ?_
  refine l_sld hx hb hX hbl hbA hS (i + 2) z2 ez2 (by omega) dL_law_206 ?_
  refine l_callE ⟨hx, hb, hml, hown, hts⟩ (metX0_scale l D d hE qb qr B g a Ls hG z1 hz1 z2 hz2) (cwV 2 hts (lw_V q119 q120 q121 q33 q122) rfl rfl rfl (by decide +kernel) ⟨Nat.le_of_ble_eq_true rfl, Nat.le_of_ble_eq_true rfl⟩) hK hA hP hD hS rfl hl.1 rfl (Nat.le_of_ble_eq_true rfl) dL_law_207 ⟨Nat.le_of_ble_eq_true rfl, Nat.le_of_ble_eq_true rfl⟩ (fun r1 u1 H locs hq hP hD hS => ?_)
  obtain ⟨B1, rfl, hq⟩ := hq
  obtain ⟨L0, hO, hq⟩ := k1x (fun s0 => sc (toF z2) (a s0)) hq
  refine lv_aload_n hx hb dL_law_210 rfl (lv_at hl 2 rfl) ?_
  refine lv_aload_n hx hb dL_law_211 rfl (lv_at hl 0 rfl) ?_
  refine lv_iload_n hx hb dL_law_212 rfl (lv_at hl 3 rfl) ?_
  refine x_iconst hx hb dL_law_213 ?_
  refine x_iadd hx hb dL_law_214 ?_
  refine l_sld hx hb hX hbl hbA hS (i + 1) z1 ez1 (by omega) dL_law_215 ?_
  refine lv_aload_n hx hb dL_law_216 rfl (lv_at hl 0 rfl) ?_
  refine lv_iload_n hx hb dL_law_217 rfl (lv_at hl 3 rfl) ?_
  refine x_iconst hx hb dL_law_218 ?_
  refine x_iadd hx hb dL_law_219 ?_
  refine l_sld hx hb hX hbl hbA hS (i + 2) z2 ez2 (by omega) dL_law_220 ?_
  refine l_callM ⟨hx, hb, hml, hown, hts⟩ (metX1_scale l D d hM qt qw qm qf T w M f a hMi Ls (ginv_ols hG) z1 hz1 z2 hz2 L0 hO) (cwV 2 hts (lw_V q263 q264 q265 q34 q266) rfl rfl rfl (by decide +kernel) ⟨Nat.le_of_ble_eq_true rfl, Nat.le_of_ble_eq_true rfl⟩) hK hA hP hD hS rfl hl.1 rfl (Nat.le_of_ble_eq_true rfl) dL_law_221 ⟨Nat.le_of_ble_eq_true rfl, Nat.le_of_ble_eq_true rfl⟩ (fun r2 u2 H locs hq2 hP hD hS => ?_)
  obtain ⟨T1, w1, M1, f1, rfl, hq2⟩ := hq2
  obtain ⟨er, hLG⟩ := k1e (fun s0 => sc (toF z2) (a s0)) hG hMi hq hq2
  refine lv_icmp_eq (tgt := 529) hx hb dL_law_224 (by decide) (fun c9 => ?_) (fun c9 => absurd er c9)
  exact hbk _ _ _ _ _ _ hLG H locs hP hD hS ls hl
set_option maxHeartbeats 4000000 in
set_option maxRecDepth 100000 in
theorem law_c3 (hx : p.tables.exec = Jvm.exec) (hb : c.code = code) (hml : c.maxLocals = 4) (hown : s.vm.findClass R_law = some m.cls) (hts : ∀ w ∈ lw_all, w.before #[Value.ref b] s = true) (hX : va_X b L xs s s.heap) (hbl : b < s.heap.size) (hK : va_K D vwCl [(d, .int)] s) (hL : L ≤ 320) (hi : i + 5 ≤ L) (hbk : LawAt p l e s m below meth c b D d hE qb qr hM qt qw qm qf Q i 529) : LawAt p l e s m below meth c b D d hE qb qr hM qt qw qm qf Q i 229 := by
  intro B g T w M f hLG H locs hP hD hS ls hl
  obtain ⟨a, Ls, hG, hMi⟩ := hLG
  have hA : ∀ q : Nat, s.heap.size ≤ q → (fun q : Nat => s.heap.size ≤ q) q := fun _ h => h
  have hbA : ¬ (fun q : Nat => s.heap.size ≤ q) b := Nat.not_le.mpr hbl
  obtain ⟨z1, ez1, hz1⟩ := l_z (xs (i + 1))
  refine lv_aload_n hx hb dL_law_229 rfl (lv_at hl 1 rfl) ?_
  refine lv_aload_n hx hb dL_law_230 rfl (lv_at hl 0 rfl) ?_
  refine lv_iload_n hx hb dL_law_231 rfl (lv_at hl 3 rfl) ?_
  refine x_iconst hx hb dL_law_232 ?_
  refine x_iadd hx hb dL_law_233 ?_
  refine l_sld hx hb hX hbl hbA hS (i + 1) z1 ez1 (by omega) dL_law_234 ?_
  refine l_callE ⟨hx, hb, hml, hown, hts⟩ (metX0_advance l D d hE qb qr B g a Ls hG z1 hz1) (cwV 1 hts (lw_V q127 q128 q129 q33 q130) rfl rfl rfl (by decide +kernel) ⟨Nat.le_of_ble_eq_true rfl, Nat.le_of_ble_eq_true rfl⟩) hK hA hP hD hS rfl hl.1 rfl (Nat.le_of_ble_eq_true rfl) dL_law_235 ⟨Nat.le_of_ble_eq_true rfl, Nat.le_of_ble_eq_true rfl⟩ (fun r1 u1 H locs hq hP hD hS => ?_)
  obtain ⟨B1, rfl, hq⟩ := hq
  obtain ⟨L0, hO, hq⟩ := k1x (fun s0 => tl (a s0)) hq
  refine lv_aload_n hx hb dL_law_238 rfl (lv_at hl 2 rfl) ?_
  refine lv_aload_n hx hb dL_law_239 rfl (lv_at hl 0 rfl) ?_
  refine lv_iload_n hx hb dL_law_240 rfl (lv_at hl 3 rfl) ?_
  refine x_iconst hx hb dL_law_241 ?_
  refine x_iadd hx hb dL_law_242 ?_
  refine l_sld hx hb hX hbl hbA hS (i + 1) z1 ez1 (by omega) dL_law_243 ?_
  refine l_callM ⟨hx, hb, hml, hown, hts⟩ (metX1_advance l D d hM qt qw qm qf T w M f a hMi Ls (ginv_ols hG) z1 hz1 L0 hO) (cwV 1 hts (lw_V q267 q268 q269 q34 q270) rfl rfl rfl (by decide +kernel) ⟨Nat.le_of_ble_eq_true rfl, Nat.le_of_ble_eq_true rfl⟩) hK hA hP hD hS rfl hl.1 rfl (Nat.le_of_ble_eq_true rfl) dL_law_244 ⟨Nat.le_of_ble_eq_true rfl, Nat.le_of_ble_eq_true rfl⟩ (fun r2 u2 H locs hq2 hP hD hS => ?_)
  obtain ⟨T1, w1, M1, f1, rfl, hq2⟩ := hq2
  obtain ⟨er, hLG⟩ := k1e (fun s0 => tl (a s0)) hG hMi hq hq2
  refine lv_icmp_eq (tgt := 529) hx hb dL_law_247 (by decide) (fun c9 => ?_) (fun c9 => absurd er c9)
  exact hbk _ _ _ _ _ _ hLG H locs hP hD hS ls hl
set_option maxHeartbeats 4000000 in
set_option maxRecDepth 100000 in
theorem law_c4 (hx : p.tables.exec = Jvm.exec) (hb : c.code = code) (hml : c.maxLocals = 4) (hown : s.vm.findClass R_law = some m.cls) (hts : ∀ w ∈ lw_all, w.before #[Value.ref b] s = true) (hX : va_X b L xs s s.heap) (hbl : b < s.heap.size) (hK : va_K D vwCl [(d, .int)] s) (hL : L ≤ 320) (hi : i + 5 ≤ L) (hbk : LawAt p l e s m below meth c b D d hE qb qr hM qt qw qm qf Q i 529) : LawAt p l e s m below meth c b D d hE qb qr hM qt qw qm qf Q i 252 := by
  intro B g T w M f hLG H locs hP hD hS ls hl
  obtain ⟨a, Ls, hG, hMi⟩ := hLG
  have hA : ∀ q : Nat, s.heap.size ≤ q → (fun q : Nat => s.heap.size ≤ q) q := fun _ h => h
  have hbA : ¬ (fun q : Nat => s.heap.size ≤ q) b := Nat.not_le.mpr hbl
  obtain ⟨z1, ez1, hz1⟩ := l_z (xs (i + 1))
  obtain ⟨z2, ez2, hz2⟩ := l_z (xs (i + 2))
  refine lv_aload_n hx hb dL_law_252 rfl (lv_at hl 1 rfl) ?_
  refine lv_aload_n hx hb dL_law_253 rfl (lv_at hl 0 rfl) ?_
  refine lv_iload_n hx hb dL_law_254 rfl (lv_at hl 3 rfl) ?_
  refine x_iconst hx hb dL_law_255 ?_
  refine x_iadd hx hb dL_law_256 ?_
  refine l_sld hx hb hX hbl hbA hS (i + 1) z1 ez1 (by omega) dL_law_257 ?_
  refine lv_aload_n hx hb dL_law_258 rfl (lv_at hl 0 rfl) ?_
  refine lv_iload_n hx hb dL_law_259 rfl (lv_at hl 3 rfl) ?_
  refine x_iconst hx hb dL_law_260 ?_
  refine x_iadd hx hb dL_law_261 ?_
  refine l_sld hx hb hX hbl hbA hS (i + 2) z2 ez2 (by omega) dL_law_262 ?_
  refine l_callE ⟨hx, hb, hml, hown, hts⟩ (metX0_prepend l D d hE qb qr B g a Ls hG z1 hz1 z2 hz2) (cwV 2 hts (lw_V q131 q132 q133 q33 q134) rfl rfl rfl (by decide +kernel) ⟨Nat.le_of_ble_eq_true rfl, Nat.le_of_ble_eq_true rfl⟩) hK hA hP hD hS rfl hl.1 rfl (Nat.le_of_ble_eq_true rfl) dL_law_263 ⟨Nat.le_of_ble_eq_true rfl, Nat.le_of_ble_eq_true rfl⟩ (fun r1 u1 H locs hq hP hD hS => ?_)
  obtain ⟨B1, rfl, hq⟩ := hq
  obtain ⟨L0, hO, hq⟩ := k1x (fun s0 => pre1 (toF z2) (a s0)) hq
  refine lv_aload_n hx hb dL_law_266 rfl (lv_at hl 2 rfl) ?_
  refine lv_aload_n hx hb dL_law_267 rfl (lv_at hl 0 rfl) ?_
  refine lv_iload_n hx hb dL_law_268 rfl (lv_at hl 3 rfl) ?_
  refine x_iconst hx hb dL_law_269 ?_
  refine x_iadd hx hb dL_law_270 ?_
  refine l_sld hx hb hX hbl hbA hS (i + 1) z1 ez1 (by omega) dL_law_271 ?_
  refine lv_aload_n hx hb dL_law_272 rfl (lv_at hl 0 rfl) ?_
  refine lv_iload_n hx hb dL_law_273 rfl (lv_at hl 3 rfl) ?_
  refine x_iconst hx hb dL_law_274 ?_
  refine x_iadd hx hb dL_law_275 ?_
  refine l_sld hx hb hX hbl hbA hS (i + 2) z2 ez2 (by omega) dL_law_276 ?_
  refine l_callM ⟨hx, hb, hml, hown, hts⟩ (metX1_prepend l D d hM qt qw qm qf T w M f a hMi Ls (ginv_ols hG) z1 hz1 z2 hz2 L0 hO) (cwV 2 hts (lw_V q279 q280 q281 q34 q282) rfl rfl rfl (by decide +kernel) ⟨Nat.le_of_ble_eq_true rfl, Nat.le_of_ble_eq_true rfl⟩) hK hA hP hD hS rfl hl.1 rfl (Nat.le_of_ble_eq_true rfl) dL_law_277 ⟨Nat.le_of_ble_eq_true rfl, Nat.le_of_ble_eq_true rfl⟩ (fun r2 u2 H locs hq2 hP hD hS => ?_)
  obtain ⟨T1, w1, M1, f1, rfl, hq2⟩ := hq2
  obtain ⟨er, hLG⟩ := k1e (fun s0 => pre1 (toF z2) (a s0)) hG hMi hq hq2
  refine lv_icmp_eq (tgt := 529) hx hb dL_law_280 (by decide) (fun c9 => ?_) (fun c9 => absurd er c9)
  exact hbk _ _ _ _ _ _ hLG H locs hP hD hS ls hl
set_option maxHeartbeats 4000000 in
set_option maxRecDepth 100000 in
theorem law_c5 (hx : p.tables.exec = Jvm.exec) (hb : c.code = code) (hml : c.maxLocals = 4) (hown : s.vm.findClass R_law = some m.cls) (hts : ∀ w ∈ lw_all, w.before #[Value.ref b] s = true) (hX : va_X b L xs s s.heap) (hbl : b < s.heap.size) (hK : va_K D vwCl [(d, .int)] s) (hL : L ≤ 320) (hi : i + 5 ≤ L) (hbk : LawAt p l e s m below meth c b D d hE qb qr hM qt qw qm qf Q i 529) : LawAt p l e s m below meth c b D d hE qb qr hM qt qw qm qf Q i 285 := by
  intro B g T w M f hLG H locs hP hD hS ls hl
  obtain ⟨a, Ls, hG, hMi⟩ := hLG
  have hA : ∀ q : Nat, s.heap.size ≤ q → (fun q : Nat => s.heap.size ≤ q) q := fun _ h => h
  have hbA : ¬ (fun q : Nat => s.heap.size ≤ q) b := Nat.not_le.mpr hbl
  obtain ⟨z1, ez1, hz1⟩ := l_z (xs (i + 1))
  refine lv_aload_n hx hb dL_law_285 rfl (lv_at hl 1 rfl) ?_
  refine lv_aload_n hx hb dL_law_286 rfl (lv_at hl 0 rfl) ?_
  refine lv_iload_n hx hb dL_law_287 rfl (lv_at hl 3 rfl) ?_
  refine x_iconst hx hb dL_law_288 ?_
  refine x_iadd hx hb dL_law_289 ?_
  refine l_sld hx hb hX hbl hbA hS (i + 1) z1 ez1 (by omega) dL_law_290 ?_
  refine l_callE ⟨hx, hb, hml, hown, hts⟩ (metX0_accumulate l D d hE qb qr B g a Ls hG z1 hz1) (cwV 1 hts (lw_V q135 q136 q137 q33 q138) rfl rfl rfl (by decide +kernel) ⟨Nat.le_of_ble_eq_true rfl, Nat.le_of_ble_eq_true rfl⟩) hK hA hP hD hS rfl hl.1 rfl (Nat.le_of_ble_eq_true rfl) dL_law_291 ⟨Nat.le_of_ble_eq_true rfl, Nat.le_of_ble_eq_true rfl⟩ (fun r1 u1 H locs hq hP hD hS => ?_)
  obtain ⟨B1, rfl, hq⟩ := hq
  obtain ⟨L0, hO, hq⟩ := k1x (fun s0 => acc (a s0)) hq
  refine lv_aload_n hx hb dL_law_294 rfl (lv_at hl 2 rfl) ?_
  refine lv_aload_n hx hb dL_law_295 rfl (lv_at hl 0 rfl) ?_
  refine lv_iload_n hx hb dL_law_296 rfl (lv_at hl 3 rfl) ?_
  refine x_iconst hx hb dL_law_297 ?_
  refine x_iadd hx hb dL_law_298 ?_
  refine l_sld hx hb hX hbl hbA hS (i + 1) z1 ez1 (by omega) dL_law_299 ?_
  refine l_callM ⟨hx, hb, hml, hown, hts⟩ (metX1_accumulate l D d hM qt qw qm qf T w M f a hMi Ls (ginv_ols hG) z1 hz1 L0 hO) (cwV 1 hts (lw_V q283 q284 q285 q34 q286) rfl rfl rfl (by decide +kernel) ⟨Nat.le_of_ble_eq_true rfl, Nat.le_of_ble_eq_true rfl⟩) hK hA hP hD hS rfl hl.1 rfl (Nat.le_of_ble_eq_true rfl) dL_law_300 ⟨Nat.le_of_ble_eq_true rfl, Nat.le_of_ble_eq_true rfl⟩ (fun r2 u2 H locs hq2 hP hD hS => ?_)
  obtain ⟨T1, w1, M1, f1, rfl, hq2⟩ := hq2
  obtain ⟨er, hLG⟩ := k1e (fun s0 => acc (a s0)) hG hMi hq hq2
  refine lv_icmp_eq (tgt := 529) hx hb dL_law_303 (by decide) (fun c9 => ?_) (fun c9 => absurd er c9)
  exact hbk _ _ _ _ _ _ hLG H locs hP hD hS ls hl
set_option maxHeartbeats 4000000 in
set_option maxRecDepth 100000 in
theorem law_c6 (hx : p.tables.exec = Jvm.exec) (hb : c.code = code) (hml : c.maxLocals = 4) (hown : s.vm.findClass R_law = some m.cls) (hts : ∀ w ∈ lw_all, w.before #[Value.ref b] s = true) (hX : va_X b L xs s s.heap) (hbl : b < s.heap.size) (hK : va_K D vwCl [(d, .int)] s) (hL : L ≤ 320) (hi : i + 5 ≤ L) (hbk : LawAt p l e s m below meth c b D d hE qb qr hM qt qw qm qf Q i 529) : LawAt p l e s m below meth c b D d hE qb qr hM qt qw qm qf Q i 308 := by
  intro B g T w M f hLG H locs hP hD hS ls hl
  obtain ⟨a, Ls, hG, hMi⟩ := hLG
  have hA : ∀ q : Nat, s.heap.size ≤ q → (fun q : Nat => s.heap.size ≤ q) q := fun _ h => h
  have hbA : ¬ (fun q : Nat => s.heap.size ≤ q) b := Nat.not_le.mpr hbl
  obtain ⟨z1, ez1, hz1⟩ := l_z (xs (i + 1))
  refine lv_aload_n hx hb dL_law_308 rfl (lv_at hl 1 rfl) ?_
  refine lv_aload_n hx hb dL_law_309 rfl (lv_at hl 0 rfl) ?_
  refine lv_iload_n hx hb dL_law_310 rfl (lv_at hl 3 rfl) ?_
  refine x_iconst hx hb dL_law_311 ?_
  refine x_iadd hx hb dL_law_312 ?_
  refine l_sld hx hb hX hbl hbA hS (i + 1) z1 ez1 (by omega) dL_law_313 ?_
  refine l_callE ⟨hx, hb, hml, hown, hts⟩ (metX0_difference l D d hE qb qr B g a Ls hG z1 hz1) (cwV 1 hts (lw_V q143 q144 q145 q33 q146) rfl rfl rfl (by decide +kernel) ⟨Nat.le_of_ble_eq_true rfl, Nat.le_of_ble_eq_true rfl⟩) hK hA hP hD hS rfl hl.1 rfl (Nat.le_of_ble_eq_true rfl) dL_law_314 ⟨Nat.le_of_ble_eq_true rfl, Nat.le_of_ble_eq_true rfl⟩ (fun r1 u1 H locs hq hP hD hS => ?_)
  obtain ⟨B1, rfl, hq⟩ := hq
  obtain ⟨L0, hO, hq⟩ := k1x (fun s0 => cv stp (a s0)) hq
  refine lv_aload_n hx hb dL_law_317 rfl (lv_at hl 2 rfl) ?_
  refine lv_aload_n hx hb dL_law_318 rfl (lv_at hl 0 rfl) ?_
  refine lv_iload_n hx hb dL_law_319 rfl (lv_at hl 3 rfl) ?_
  refine x_iconst hx hb dL_law_320 ?_
  refine x_iadd hx hb dL_law_321 ?_
  refine l_sld hx hb hX hbl hbA hS (i + 1) z1 ez1 (by omega) dL_law_322 ?_
  refine l_callM ⟨hx, hb, hml, hown, hts⟩ (metX1_difference l D d hM qt qw qm qf T w M f a hMi Ls (ginv_ols hG) z1 hz1 L0 hO) (cwV 1 hts (lw_V q287 q288 q289 q34 q290) rfl rfl rfl (by decide +kernel) ⟨Nat.le_of_ble_eq_true rfl, Nat.le_of_ble_eq_true rfl⟩) hK hA hP hD hS rfl hl.1 rfl (Nat.le_of_ble_eq_true rfl) dL_law_323 ⟨Nat.le_of_ble_eq_true rfl, Nat.le_of_ble_eq_true rfl⟩ (fun r2 u2 H locs hq2 hP hD hS => ?_)
  obtain ⟨T1, w1, M1, f1, rfl, hq2⟩ := hq2
  obtain ⟨er, hLG⟩ := k1e (fun s0 => cv stp (a s0)) hG hMi hq hq2
  refine lv_icmp_eq (tgt := 529) hx hb dL_law_326 (by decide) (fun c9 => ?_) (fun c9 => absurd er c9)
  exact hbk _ _ _ _ _ _ hLG H locs hP hD hS ls hl
set_option maxHeartbeats 4000000 in
set_option maxRecDepth 100000 in
theorem law_c7 (hx : p.tables.exec = Jvm.exec) (hb : c.code = code) (hml : c.maxLocals = 4) (hown : s.vm.findClass R_law = some m.cls) (hts : ∀ w ∈ lw_all, w.before #[Value.ref b] s = true) (hX : va_X b L xs s s.heap) (hbl : b < s.heap.size) (hK : va_K D vwCl [(d, .int)] s) (hL : L ≤ 320) (hi : i + 5 ≤ L) (hbk : LawAt p l e s m below meth c b D d hE qb qr hM qt qw qm qf Q i 529) : LawAt p l e s m below meth c b D d hE qb qr hM qt qw qm qf Q i 331 := by
  intro B g T w M f hLG H locs hP hD hS ls hl
  obtain ⟨a, Ls, hG, hMi⟩ := hLG
  have hA : ∀ q : Nat, s.heap.size ≤ q → (fun q : Nat => s.heap.size ≤ q) q := fun _ h => h
  have hbA : ¬ (fun q : Nat => s.heap.size ≤ q) b := Nat.not_le.mpr hbl
  obtain ⟨z1, ez1, hz1⟩ := l_z (xs (i + 1))
  obtain ⟨z2, ez2, hz2⟩ := l_z (xs (i + 2))
  refine lv_aload_n hx hb dL_law_331 rfl (lv_at hl 1 rfl) ?_
  refine lv_aload_n hx hb dL_law_332 rfl (lv_at hl 0 rfl) ?_
  refine lv_iload_n hx hb dL_law_333 rfl (lv_at hl 3 rfl) ?_
  refine x_iconst hx hb dL_law_334 ?_
  refine x_iadd hx hb dL_law_335 ?_
  refine l_sld hx hb hX hbl hbA hS (i + 1) z1 ez1 (by omega) dL_law_336 ?_
  refine lv_aload_n hx hb dL_law_337 rfl (lv_at hl 0 rfl) ?_
  refine lv_iload_n hx hb dL_law_338 rfl (lv_at hl 3 rfl) ?_
  refine x_iconst hx hb dL_law_339 ?_
  refine x_iadd hx hb dL_law_340 ?_
  refine l_sld hx hb hX hbl hbA hS (i + 2) z2 ez2 (by omega) dL_law_341 ?_
  refine l_callE ⟨hx, hb, hml, hown, hts⟩ (metX0_copy l D d hE qb qr B g a Ls hG z1 hz1 z2 hz2) (cwV 2 hts (lw_V q147 q148 q149 q33 q150) rfl rfl rfl (by decide +kernel) ⟨Nat.le_of_ble_eq_true rfl, Nat.le_of_ble_eq_true rfl⟩) hK hA hP hD hS rfl hl.1 rfl (Nat.le_of_ble_eq_true rfl) dL_law_342 ⟨Nat.le_of_ble_eq_true rfl, Nat.le_of_ble_eq_true rfl⟩ (fun r1 u1 H locs hq hP hD hS => ?_)
  obtain ⟨B1, rfl, hq⟩ := hq
  obtain ⟨L0, hO, hq⟩ := k2x hq
  refine lv_aload_n hx hb dL_law_345 rfl (lv_at hl 2 rfl) ?_
  refine lv_aload_n hx hb dL_law_346 rfl (lv_at hl 0 rfl) ?_
  refine lv_iload_n hx hb dL_law_347 rfl (lv_at hl 3 rfl) ?_
  refine x_iconst hx hb dL_law_348 ?_
  refine x_iadd hx hb dL_law_349 ?_
  refine l_sld hx hb hX hbl hbA hS (i + 1) z1 ez1 (by omega) dL_law_350 ?_
  refine lv_aload_n hx hb dL_law_351 rfl (lv_at hl 0 rfl) ?_
  refine lv_iload_n hx hb dL_law_352 rfl (lv_at hl 3 rfl) ?_
  refine x_iconst hx hb dL_law_353 ?_
  refine x_iadd hx hb dL_law_354 ?_
  refine l_sld hx hb hX hbl hbA hS (i + 2) z2 ez2 (by omega) dL_law_355 ?_
  refine l_callM ⟨hx, hb, hml, hown, hts⟩ (metX1_copy l D d hM qt qw qm qf T w M f a hMi Ls (ginv_ols hG) z1 hz1 z2 hz2 L0 hO) (cwV 2 hts (lw_V q291 q292 q293 q34 q294) rfl rfl rfl (by decide +kernel) ⟨Nat.le_of_ble_eq_true rfl, Nat.le_of_ble_eq_true rfl⟩) hK hA hP hD hS rfl hl.1 rfl (Nat.le_of_ble_eq_true rfl) dL_law_356 ⟨Nat.le_of_ble_eq_true rfl, Nat.le_of_ble_eq_true rfl⟩ (fun r2 u2 H locs hq2 hP hD hS => ?_)
  obtain ⟨T1, w1, M1, f1, rfl, hq2⟩ := hq2
  obtain ⟨er, hLG⟩ := k2e hG hMi hq hq2
  refine lv_icmp_eq (tgt := 529) hx hb dL_law_359 (by decide) (fun c9 => ?_) (fun c9 => absurd er c9)
  exact hbk _ _ _ _ _ _ hLG H locs hP hD hS ls hl
set_option maxHeartbeats 4000000 in
set_option maxRecDepth 100000 in
theorem law_c8 (hx : p.tables.exec = Jvm.exec) (hb : c.code = code) (hml : c.maxLocals = 4) (hown : s.vm.findClass R_law = some m.cls) (hts : ∀ w ∈ lw_all, w.before #[Value.ref b] s = true) (hX : va_X b L xs s s.heap) (hbl : b < s.heap.size) (hK : va_K D vwCl [(d, .int)] s) (hL : L ≤ 320) (hi : i + 5 ≤ L) (hbk : LawAt p l e s m below meth c b D d hE qb qr hM qt qw qm qf Q i 529) : LawAt p l e s m below meth c b D d hE qb qr hM qt qw qm qf Q i 364 := by
  intro B g T w M f hLG H locs hP hD hS ls hl
  obtain ⟨a, Ls, hG, hMi⟩ := hLG
  have hA : ∀ q : Nat, s.heap.size ≤ q → (fun q : Nat => s.heap.size ≤ q) q := fun _ h => h
  have hbA : ¬ (fun q : Nat => s.heap.size ≤ q) b := Nat.not_le.mpr hbl
  obtain ⟨z1, ez1, hz1⟩ := l_z (xs (i + 1))
  obtain ⟨z2, ez2, hz2⟩ := l_z (xs (i + 2))
  refine lv_aload_n hx hb dL_law_364 rfl (lv_at hl 1 rfl) ?_
  refine lv_aload_n hx hb dL_law_365 rfl (lv_at hl 0 rfl) ?_
  refine lv_iload_n hx hb dL_law_366 rfl (lv_at hl 3 rfl) ?_
  refine x_iconst hx hb dL_law_367 ?_
  refine x_iadd hx hb dL_law_368 ?_
  refine l_sld hx hb hX hbl hbA hS (i + 1) z1 ez1 (by omega) dL_law_369 ?_
  refine lv_aload_n hx hb dL_law_370 rfl (lv_at hl 0 rfl) ?_
  refine lv_iload_n hx hb dL_law_371 rfl (lv_at hl 3 rfl) ?_
  refine x_iconst hx hb dL_law_372 ?_
  refine x_iadd hx hb dL_law_373 ?_
  refine l_sld hx hb hX hbl hbA hS (i + 2) z2 ez2 (by omega) dL_law_374 ?_
  refine l_callE ⟨hx, hb, hml, hown, hts⟩ (metX0_term l D d hE qb qr B g a Ls hG z1 hz1 z2 hz2) (cwV 2 hts (lw_V q151 q152 q153 q33 q154) rfl rfl rfl (by decide +kernel) ⟨Nat.le_of_ble_eq_true rfl, Nat.le_of_ble_eq_true rfl⟩) hK hA hP hD hS rfl hl.1 rfl (Nat.le_of_ble_eq_true rfl) dL_law_375 ⟨Nat.le_of_ble_eq_true rfl, Nat.le_of_ble_eq_true rfl⟩ (fun r1 u1 H locs hq hP hD hS => ?_)
  obtain ⟨B1, rfl, hG1, hq⟩ := hq
  refine lv_aload_n hx hb dL_law_378 rfl (lv_at hl 2 rfl) ?_
  refine lv_aload_n hx hb dL_law_379 rfl (lv_at hl 0 rfl) ?_
  refine lv_iload_n hx hb dL_law_380 rfl (lv_at hl 3 rfl) ?_
  refine x_iconst hx hb dL_law_381 ?_
  refine x_iadd hx hb dL_law_382 ?_
  refine l_sld hx hb hX hbl hbA hS (i + 1) z1 ez1 (by omega) dL_law_383 ?_
  refine lv_aload_n hx hb dL_law_384 rfl (lv_at hl 0 rfl) ?_
  refine lv_iload_n hx hb dL_law_385 rfl (lv_at hl 3 rfl) ?_
  refine x_iconst hx hb dL_law_386 ?_
  refine x_iadd hx hb dL_law_387 ?_
  refine l_sld hx hb hX hbl hbA hS (i + 2) z2 ez2 (by omega) dL_law_388 ?_
  refine l_callM ⟨hx, hb, hml, hown, hts⟩ (metX1_term l D d hM qt qw qm qf T w M f a hMi Ls (ginv_ols hG) z1 hz1 z2 hz2) (cwV 2 hts (lw_V q295 q296 q297 q34 q298) rfl rfl rfl (by decide +kernel) ⟨Nat.le_of_ble_eq_true rfl, Nat.le_of_ble_eq_true rfl⟩) hK hA hP hD hS rfl hl.1 rfl (Nat.le_of_ble_eq_true rfl) dL_law_389 ⟨Nat.le_of_ble_eq_true rfl, Nat.le_of_ble_eq_true rfl⟩ (fun r2 u2 H locs hq2 hP hD hS => ?_)
  obtain ⟨w1, M1, f1, rfl, hq2⟩ := hq2
  have er := q_term hq hq2
  have hLG : LG B1 T := ⟨a, Ls, hG1, hMi⟩
  refine lv_icmp_eq (tgt := 529) hx hb dL_law_392 (by decide) (fun c9 => ?_) (fun c9 => absurd er c9)
  exact hbk _ _ _ _ _ _ hLG H locs hP hD hS ls hl
set_option maxHeartbeats 4000000 in
set_option maxRecDepth 100000 in
theorem law_c9 (hx : p.tables.exec = Jvm.exec) (hb : c.code = code) (hml : c.maxLocals = 4) (hown : s.vm.findClass R_law = some m.cls) (hts : ∀ w ∈ lw_all, w.before #[Value.ref b] s = true) (hX : va_X b L xs s s.heap) (hbl : b < s.heap.size) (hK : va_K D vwCl [(d, .int)] s) (hL : L ≤ 320) (hi : i + 5 ≤ L) (hbk : LawAt p l e s m below meth c b D d hE qb qr hM qt qw qm qf Q i 529) : LawAt p l e s m below meth c b D d hE qb qr hM qt qw qm qf Q i 397 := by
  intro B g T w M f hLG H locs hP hD hS ls hl
  obtain ⟨a, Ls, hG, hMi⟩ := hLG
  have hA : ∀ q : Nat, s.heap.size ≤ q → (fun q : Nat => s.heap.size ≤ q) q := fun _ h => h
  have hbA : ¬ (fun q : Nat => s.heap.size ≤ q) b := Nat.not_le.mpr hbl
  obtain ⟨z1, ez1, hz1⟩ := l_z (xs (i + 1))
  refine lv_aload_n hx hb dL_law_397 rfl (lv_at hl 1 rfl) ?_
  refine lv_aload_n hx hb dL_law_398 rfl (lv_at hl 0 rfl) ?_
  refine lv_iload_n hx hb dL_law_399 rfl (lv_at hl 3 rfl) ?_
  refine x_iconst hx hb dL_law_400 ?_
  refine x_iadd hx hb dL_law_401 ?_
  refine l_sld hx hb hX hbl hbA hS (i + 1) z1 ez1 (by omega) dL_law_402 ?_
  refine l_callE ⟨hx, hb, hml, hown, hts⟩ (metX0_order l D d hE qb qr B g a Ls hG z1 hz1) (cwV 1 hts (lw_V q167 q168 q169 q33 q170) rfl rfl rfl (by decide +kernel) ⟨Nat.le_of_ble_eq_true rfl, Nat.le_of_ble_eq_true rfl⟩) hK hA hP hD hS rfl hl.1 rfl (Nat.le_of_ble_eq_true rfl) dL_law_403 ⟨Nat.le_of_ble_eq_true rfl, Nat.le_of_ble_eq_true rfl⟩ (fun r1 u1 H locs hq hP hD hS => ?_)
  obtain ⟨B1, rfl, hG1, hq⟩ := hq
  refine lv_aload_n hx hb dL_law_406 rfl (lv_at hl 2 rfl) ?_
  refine lv_aload_n hx hb dL_law_407 rfl (lv_at hl 0 rfl) ?_
  refine lv_iload_n hx hb dL_law_408 rfl (lv_at hl 3 rfl) ?_
  refine x_iconst hx hb dL_law_409 ?_
  refine x_iadd hx hb dL_law_410 ?_
  refine l_sld hx hb hX hbl hbA hS (i + 1) z1 ez1 (by omega) dL_law_411 ?_
  refine l_callM ⟨hx, hb, hml, hown, hts⟩ (metX1_order l D d hM qt qw qm qf T w M f a hMi Ls (ginv_ols hG) z1 hz1) (cwV 1 hts (lw_V q303 q304 q305 q34 q306) rfl rfl rfl (by decide +kernel) ⟨Nat.le_of_ble_eq_true rfl, Nat.le_of_ble_eq_true rfl⟩) hK hA hP hD hS rfl hl.1 rfl (Nat.le_of_ble_eq_true rfl) dL_law_412 ⟨Nat.le_of_ble_eq_true rfl, Nat.le_of_ble_eq_true rfl⟩ (fun r2 u2 H locs hq2 hP hD hS => ?_)
  obtain ⟨w1, M1, f1, rfl, hq2⟩ := hq2
  have er := q_one (F := fun s0 => iI (Ls s0 : Int)) hq hq2
  have hLG : LG B1 T := ⟨a, Ls, hG1, hMi⟩
  refine lv_icmp_eq (tgt := 529) hx hb dL_law_415 (by decide) (fun c9 => ?_) (fun c9 => absurd er c9)
  exact hbk _ _ _ _ _ _ hLG H locs hP hD hS ls hl
set_option maxHeartbeats 4000000 in
set_option maxRecDepth 100000 in
theorem law_c10 (hx : p.tables.exec = Jvm.exec) (hb : c.code = code) (hml : c.maxLocals = 4) (hown : s.vm.findClass R_law = some m.cls) (hts : ∀ w ∈ lw_all, w.before #[Value.ref b] s = true) (hX : va_X b L xs s s.heap) (hbl : b < s.heap.size) (hK : va_K D vwCl [(d, .int)] s) (hL : L ≤ 320) (hi : i + 5 ≤ L) (hbk : LawAt p l e s m below meth c b D d hE qb qr hM qt qw qm qf Q i 529) : LawAt p l e s m below meth c b D d hE qb qr hM qt qw qm qf Q i 420 := by
  intro B g T w M f hLG H locs hP hD hS ls hl
  obtain ⟨a, Ls, hG, hMi⟩ := hLG
  have hA : ∀ q : Nat, s.heap.size ≤ q → (fun q : Nat => s.heap.size ≤ q) q := fun _ h => h
  have hbA : ¬ (fun q : Nat => s.heap.size ≤ q) b := Nat.not_le.mpr hbl
  obtain ⟨z1, ez1, hz1⟩ := l_z (xs (i + 1))
  obtain ⟨z2, ez2, hz2⟩ := l_z (xs (i + 2))
  refine lv_aload_n hx hb dL_law_420 rfl (lv_at hl 1 rfl) ?_
  refine lv_aload_n hx hb dL_law_421 rfl (lv_at hl 0 rfl) ?_
  refine lv_iload_n hx hb dL_law_422 rfl (lv_at hl 3 rfl) ?_
  refine x_iconst hx hb dL_law_423 ?_
  refine x_iadd hx hb dL_law_424 ?_
  refine l_sld hx hb hX hbl hbA hS (i + 1) z1 ez1 (by omega) dL_law_425 ?_
  refine lv_aload_n hx hb dL_law_426 rfl (lv_at hl 0 rfl) ?_
  refine lv_iload_n hx hb dL_law_427 rfl (lv_at hl 3 rfl) ?_
  refine x_iconst hx hb dL_law_428 ?_
  refine x_iadd hx hb dL_law_429 ?_
  refine l_sld hx hb hX hbl hbA hS (i + 2) z2 ez2 (by omega) dL_law_430 ?_
  refine l_callE ⟨hx, hb, hml, hown, hts⟩ (metX0_equal l D d hE qb qr B g a Ls hG z1 hz1 z2 hz2) (cwV 2 hts (lw_V q171 q172 q173 q33 q174) rfl rfl rfl (by decide +kernel) ⟨Nat.le_of_ble_eq_true rfl, Nat.le_of_ble_eq_true rfl⟩) hK hA hP hD hS rfl hl.1 rfl (Nat.le_of_ble_eq_true rfl) dL_law_431 ⟨Nat.le_of_ble_eq_true rfl, Nat.le_of_ble_eq_true rfl⟩ (fun r1 u1 H locs hq hP hD hS => ?_)
  obtain ⟨B1, rfl, hG1, hq⟩ := hq
  refine lv_aload_n hx hb dL_law_434 rfl (lv_at hl 2 rfl) ?_
  refine lv_aload_n hx hb dL_law_435 rfl (lv_at hl 0 rfl) ?_
  refine lv_iload_n hx hb dL_law_436 rfl (lv_at hl 3 rfl) ?_
  refine x_iconst hx hb dL_law_437 ?_
  refine x_iadd hx hb dL_law_438 ?_
  refine l_sld hx hb hX hbl hbA hS (i + 1) z1 ez1 (by omega) dL_law_439 ?_
  refine lv_aload_n hx hb dL_law_440 rfl (lv_at hl 0 rfl) ?_
  refine lv_iload_n hx hb dL_law_441 rfl (lv_at hl 3 rfl) ?_
  refine x_iconst hx hb dL_law_442 ?_
  refine x_iadd hx hb dL_law_443 ?_
  refine l_sld hx hb hX hbl hbA hS (i + 2) z2 ez2 (by omega) dL_law_444 ?_
  refine l_callM ⟨hx, hb, hml, hown, hts⟩ (metX1_equal l D d hM qt qw qm qf T w M f a hMi Ls (ginv_ols hG) z1 hz1 z2 hz2) (cwV 2 hts (lw_V q307 q308 q309 q34 q310) rfl rfl rfl (by decide +kernel) ⟨Nat.le_of_ble_eq_true rfl, Nat.le_of_ble_eq_true rfl⟩) hK hA hP hD hS rfl hl.1 rfl (Nat.le_of_ble_eq_true rfl) dL_law_445 ⟨Nat.le_of_ble_eq_true rfl, Nat.le_of_ble_eq_true rfl⟩ (fun r2 u2 H locs hq2 hP hD hS => ?_)
  obtain ⟨w1, M1, f1, rfl, hq2⟩ := hq2
  have er := q_eq hq hq2
  have hLG : LG B1 T := ⟨a, Ls, hG1, hMi⟩
  refine lv_icmp_eq (tgt := 529) hx hb dL_law_448 (by decide) (fun c9 => ?_) (fun c9 => absurd er c9)
  exact hbk _ _ _ _ _ _ hLG H locs hP hD hS ls hl
set_option maxHeartbeats 4000000 in
set_option maxRecDepth 100000 in
theorem law_c11 (hx : p.tables.exec = Jvm.exec) (hb : c.code = code) (hml : c.maxLocals = 4) (hown : s.vm.findClass R_law = some m.cls) (hts : ∀ w ∈ lw_all, w.before #[Value.ref b] s = true) (hX : va_X b L xs s s.heap) (hbl : b < s.heap.size) (hK : va_K D vwCl [(d, .int)] s) (hL : L ≤ 320) (hi : i + 5 ≤ L) (hbk : LawAt p l e s m below meth c b D d hE qb qr hM qt qw qm qf Q i 529) : LawAt p l e s m below meth c b D d hE qb qr hM qt qw qm qf Q i 453 := by
  intro B g T w M f hLG H locs hP hD hS ls hl
  obtain ⟨a, Ls, hG, hMi⟩ := hLG
  have hA : ∀ q : Nat, s.heap.size ≤ q → (fun q : Nat => s.heap.size ≤ q) q := fun _ h => h
  have hbA : ¬ (fun q : Nat => s.heap.size ≤ q) b := Nat.not_le.mpr hbl
  obtain ⟨z1, ez1, hz1⟩ := l_z (xs (i + 1))
  obtain ⟨z2, ez2, hz2⟩ := l_z (xs (i + 2))
  obtain ⟨z3, ez3, hz3⟩ := l_z (xs (i + 3))
  refine lv_aload_n hx hb dL_law_453 rfl (lv_at hl 1 rfl) ?_
  refine lv_aload_n hx hb dL_law_454 rfl (lv_at hl 0 rfl) ?_
  refine lv_iload_n hx hb dL_law_455 rfl (lv_at hl 3 rfl) ?_
  refine x_iconst hx hb dL_law_456 ?_
  refine x_iadd hx hb dL_law_457 ?_
  refine l_sld hx hb hX hbl hbA hS (i + 1) z1 ez1 (by omega) dL_law_458 ?_
  refine lv_aload_n hx hb dL_law_459 rfl (lv_at hl 0 rfl) ?_
  refine lv_iload_n hx hb dL_law_460 rfl (lv_at hl 3 rfl) ?_
  refine x_iconst hx hb dL_law_461 ?_
  refine x_iadd hx hb dL_law_462 ?_
  refine l_sld hx hb hX hbl hbA hS (i + 2) z2 ez2 (by omega) dL_law_463 ?_
  refine lv_aload_n hx hb dL_law_464 rfl (lv_at hl 0 rfl) ?_
  refine lv_iload_n hx hb dL_law_465 rfl (lv_at hl 3 rfl) ?_
  refine x_iconst hx hb dL_law_466 ?_
  refine x_iadd hx hb dL_law_467 ?_
  refine l_sld hx hb hX hbl hbA hS (i + 3) z3 ez3 (by omega) dL_law_468 ?_
  refine l_callE ⟨hx, hb, hml, hown, hts⟩ (metX0_sum l D d hE qb qr B g a Ls hG z1 hz1 z2 hz2 z3 hz3) (cwV 3 hts (lw_V q175 q176 q177 q33 q178) rfl rfl rfl (by decide +kernel) ⟨Nat.le_of_ble_eq_true rfl, Nat.le_of_ble_eq_true rfl⟩) hK hA hP hD hS rfl hl.1 rfl (Nat.le_of_ble_eq_true rfl) dL_law_469 ⟨Nat.le_of_ble_eq_true rfl, Nat.le_of_ble_eq_true rfl⟩ (fun r1 u1 H locs hq hP hD hS => ?_)
  obtain ⟨B1, rfl, hG1, hq⟩ := hq
  refine lv_aload_n hx hb dL_law_472 rfl (lv_at hl 2 rfl) ?_
  refine lv_aload_n hx hb dL_law_473 rfl (lv_at hl 0 rfl) ?_
  refine lv_iload_n hx hb dL_law_474 rfl (lv_at hl 3 rfl) ?_
  refine x_iconst hx hb dL_law_475 ?_
  refine x_iadd hx hb dL_law_476 ?_
  refine l_sld hx hb hX hbl hbA hS (i + 1) z1 ez1 (by omega) dL_law_477 ?_
  refine lv_aload_n hx hb dL_law_478 rfl (lv_at hl 0 rfl) ?_
  refine lv_iload_n hx hb dL_law_479 rfl (lv_at hl 3 rfl) ?_
  refine x_iconst hx hb dL_law_480 ?_
  refine x_iadd hx hb dL_law_481 ?_
  refine l_sld hx hb hX hbl hbA hS (i + 2) z2 ez2 (by omega) dL_law_482 ?_
  refine lv_aload_n hx hb dL_law_483 rfl (lv_at hl 0 rfl) ?_
  refine lv_iload_n hx hb dL_law_484 rfl (lv_at hl 3 rfl) ?_
  refine x_iconst hx hb dL_law_485 ?_
  refine x_iadd hx hb dL_law_486 ?_
  refine l_sld hx hb hX hbl hbA hS (i + 3) z3 ez3 (by omega) dL_law_487 ?_
  refine l_callM ⟨hx, hb, hml, hown, hts⟩ (metX1_sum l D d hM qt qw qm qf T w M f a hMi Ls (ginv_ols hG) z1 hz1 z2 hz2 z3 hz3) (cwV 3 hts (lw_V q311 q312 q313 q34 q314) rfl rfl rfl (by decide +kernel) ⟨Nat.le_of_ble_eq_true rfl, Nat.le_of_ble_eq_true rfl⟩) hK hA hP hD hS rfl hl.1 rfl (Nat.le_of_ble_eq_true rfl) dL_law_488 ⟨Nat.le_of_ble_eq_true rfl, Nat.le_of_ble_eq_true rfl⟩ (fun r2 u2 H locs hq2 hP hD hS => ?_)
  obtain ⟨w1, M1, f1, rfl, hq2⟩ := hq2
  have er := q_sum hq hq2
  have hLG : LG B1 T := ⟨a, Ls, hG1, hMi⟩
  refine lv_icmp_eq (tgt := 529) hx hb dL_law_491 (by decide) (fun c9 => ?_) (fun c9 => absurd er c9)
  exact hbk _ _ _ _ _ _ hLG H locs hP hD hS ls hl
set_option maxHeartbeats 4000000 in
set_option maxRecDepth 100000 in
theorem law_c12 (hx : p.tables.exec = Jvm.exec) (hb : c.code = code) (hml : c.maxLocals = 4) (hown : s.vm.findClass R_law = some m.cls) (hts : ∀ w ∈ lw_all, w.before #[Value.ref b] s = true) (hX : va_X b L xs s s.heap) (hbl : b < s.heap.size) (hK : va_K D vwCl [(d, .int)] s) (hL : L ≤ 320) (hi : i + 5 ≤ L) (hbk : LawAt p l e s m below meth c b D d hE qb qr hM qt qw qm qf Q i 529) : LawAt p l e s m below meth c b D d hE qb qr hM qt qw qm qf Q i 496 := by
  intro B g T w M f hLG H locs hP hD hS ls hl
  obtain ⟨a, Ls, hG, hMi⟩ := hLG
  have hA : ∀ q : Nat, s.heap.size ≤ q → (fun q : Nat => s.heap.size ≤ q) q := fun _ h => h
  have hbA : ¬ (fun q : Nat => s.heap.size ≤ q) b := Nat.not_le.mpr hbl
  obtain ⟨z1, ez1, hz1⟩ := l_z (xs (i + 1))
  obtain ⟨z2, ez2, hz2⟩ := l_z (xs (i + 2))
  refine lv_aload_n hx hb dL_law_496 rfl (lv_at hl 1 rfl) ?_
  refine lv_aload_n hx hb dL_law_497 rfl (lv_at hl 0 rfl) ?_
  refine lv_iload_n hx hb dL_law_498 rfl (lv_at hl 3 rfl) ?_
  refine x_iconst hx hb dL_law_499 ?_
  refine x_iadd hx hb dL_law_500 ?_
  refine l_sld hx hb hX hbl hbA hS (i + 1) z1 ez1 (by omega) dL_law_501 ?_
  refine lv_aload_n hx hb dL_law_502 rfl (lv_at hl 0 rfl) ?_
  refine lv_iload_n hx hb dL_law_503 rfl (lv_at hl 3 rfl) ?_
  refine x_iconst hx hb dL_law_504 ?_
  refine x_iadd hx hb dL_law_505 ?_
  refine l_sld hx hb hX hbl hbA hS (i + 2) z2 ez2 (by omega) dL_law_506 ?_
  refine l_callE ⟨hx, hb, hml, hown, hts⟩ (metX0_find l D d hE qb qr B g a Ls hG z1 hz1 z2 hz2) (cwV 2 hts (lw_V q183 q184 q185 q33 q186) rfl rfl rfl (by decide +kernel) ⟨Nat.le_of_ble_eq_true rfl, Nat.le_of_ble_eq_true rfl⟩) hK hA hP hD hS rfl hl.1 rfl (Nat.le_of_ble_eq_true rfl) dL_law_507 ⟨Nat.le_of_ble_eq_true rfl, Nat.le_of_ble_eq_true rfl⟩ (fun r1 u1 H locs hq hP hD hS => ?_)
  obtain ⟨gg, rfl, hq⟩ := hq
  refine lv_aload_n hx hb dL_law_510 rfl (lv_at hl 2 rfl) ?_
  refine lv_aload_n hx hb dL_law_511 rfl (lv_at hl 0 rfl) ?_
  refine lv_iload_n hx hb dL_law_512 rfl (lv_at hl 3 rfl) ?_
  refine x_iconst hx hb dL_law_513 ?_
  refine x_iadd hx hb dL_law_514 ?_
  refine l_sld hx hb hX hbl hbA hS (i + 1) z1 ez1 (by omega) dL_law_515 ?_
  refine lv_aload_n hx hb dL_law_516 rfl (lv_at hl 0 rfl) ?_
  refine lv_iload_n hx hb dL_law_517 rfl (lv_at hl 3 rfl) ?_
  refine x_iconst hx hb dL_law_518 ?_
  refine x_iadd hx hb dL_law_519 ?_
  refine l_sld hx hb hX hbl hbA hS (i + 2) z2 ez2 (by omega) dL_law_520 ?_
  refine l_callM ⟨hx, hb, hml, hown, hts⟩ (metX1_find l D d hM qt qw qm qf T w M f a hMi Ls (ginv_ols hG) z1 hz1 z2 hz2) (cwV 2 hts (lw_V q315 q316 q317 q34 q318) rfl rfl rfl (by decide +kernel) ⟨Nat.le_of_ble_eq_true rfl, Nat.le_of_ble_eq_true rfl⟩) hK hA hP hD hS rfl hl.1 rfl (Nat.le_of_ble_eq_true rfl) dL_law_521 ⟨Nat.le_of_ble_eq_true rfl, Nat.le_of_ble_eq_true rfl⟩ (fun r2 u2 H locs hq2 hP hD hS => ?_)
  obtain ⟨w1, M1, f1, rfl, hq2⟩ := hq2
  have er := q_one (F := fun s0 => iI (fnd (a s0) (toF z2) 401 0)) hq hq2
  have hLG : LG B T := ⟨a, Ls, hG, hMi⟩
  refine lv_icmp_eq (tgt := 529) hx hb dL_law_524 (by decide) (fun c9 => ?_) (fun c9 => absurd er c9)
  exact hbk _ _ _ _ _ _ hLG H locs hP hD hS ls hl
end LC
end
section
set_option maxRecDepth 100000
/-! THE CLAIM OUT OF ONE WALK OF THE LAW'S BODY. Your part is whole_start (and what it stands on); all else here is the same for every law, but numbers. -/
def lw_P (b : Addr) (xs : List Int32) (args : Array Value) (s : State) : Prop := args = #[.ref b] ∧ s.IntsAt b xs ∧ xs.length ≤ 320 ∧ (Jvm.Cond.and given_1 narrow_1).before args s = true
def lw_Q (_ : Array Value) (s : State) (o : Outcome) (t : State) : Prop := o = .returned (some (.int 1)) ∧ Framed s o t [] 600000 7290000
def lw_Z (below : List Frame) (a : Array Value) (s : State) : State → Prop := fun t => ∃ o, t.status = .running ∧ Ended t below o ∧ lw_Q a s o t
/-- the law's own end, with 1 on the stack, nothing written that was there before, its room as the claim has it -/
theorem lw_ret {p : Program} {l : Launch} {e : Env} {s : State} {m : MethodId} {below : List Frame} {meth : Method} {c : Code} {b : Nat} (hx : p.tables.exec = Jvm.exec) (hb : c.code = code) (hr : meth.sig.returnType = ret) (hlocks : meth.locks = false) {pc : Nat} {H : Heap} {ls : Array Slot} (hdg : decode code pc = .ok (.ireturn, 1)) : W p l e room_1 s m #[Value.ref b] below meth c H [] 600000 7290000 (lw_Z below #[Value.ref b] s) (F0 m pc ls [.int 1]) := by
  intro T hT X
  obtain ⟨fs, hret, hrun, hended, hW, hframe⟩ := X.leave (v := some (.int 1)) (hlocks := hlocks) (fun h => by rw [hr] at h; cases h)
  have hmeth' : T.vm.method? m = some meth := X.method'
  refine ⟨T.setFrames fs, ?_, .returned (some (.int 1)), hrun, hended, rfl, ⟨_, rfl⟩, hW, hframe⟩
  jvm_step X.here [X.here.top, hx, hb, hdg, hmeth', hr, ret, narrow_b1]
  (try refine ⟨rfl, ?_⟩); (try refine ⟨rfl, ?_⟩)
  first | (intro acts; rw [hret _ acts rfl rfl rfl]) | rw [hret _ _ rfl rfl rfl]
  exact Steps.refl _
/-- what holds at the law's entry: the machine, the code, the tables' words (any of lw_tbl by 'hts w (by decide +kernel)'), the script of L ints xs at the cell b, what the Statement gives of the start (any of its parts by flat_of_before) -/
def lw_At (p : Program) (s : State) (m : MethodId) (meth : Method) (c : Code) (b L : Nat) (xs : Nat → Int32) : Prop :=
  p.tables.exec = Jvm.exec ∧ c.code = code ∧ meth.sig.returnType = ret ∧ c.maxLocals = 4 ∧ s.vm.findClass R_law = some m.cls ∧ (∀ w ∈ lw_tbl, w.before #[Value.ref b] s = true) ∧ va_X b L xs s s.heap ∧ b < s.heap.size ∧ meth.locks = false ∧ (Jvm.Cond.and given_1 narrow_1).before #[Value.ref b] s = true
end
section
/-! the loop of the law -/
set_option maxRecDepth 100000
section LC
variable {p : Program} {l : Launch} {e : Env} {s : State} {m : MethodId} {below : List Frame} {meth : Method} {c : Code} {b L : Nat} {xs : Nat → Int32} {D : va_G} {d : ClassId} {hE qb qr hM qt qw qm qf : Nat} {Q : State → Prop} {i : Nat}
set_option maxHeartbeats 4000000 in
set_option maxRecDepth 100000 in
theorem law_loop (hx : p.tables.exec = Jvm.exec) (hb : c.code = code) (hr : meth.sig.returnType = ret) (hlocks : meth.locks = false) (hml : c.maxLocals = 4) (hown : s.vm.findClass R_law = some m.cls) (hts : ∀ w ∈ lw_all, w.before #[Value.ref b] s = true) (hX : va_X b L xs s s.heap) (hbl : b < s.heap.size) (hK : va_K D vwCl [(d, .int)] s) (hL : L ≤ 320) : ∀ (n i : Nat), i ≤ L → L < i + n → LawAt p l e s m below meth c b D d hE qb qr hM qt qw qm qf (lw_Z below #[Value.ref b] s) i 18 := by
  intro n
  induction n with
  | zero =>
    intro i h1 h2
    exfalso
    omega
  | succ n ih =>
    intro i h1 h2 B g T w M f hLG H locs hP hD hS ls hl
    have hbA : ¬ (fun q : Nat => s.heap.size ≤ q) b := Nat.not_le.mpr hbl
    refine lv_iload_n hx hb dL_law_18 rfl (lv_at hl 3 rfl) ?_
    refine lv_aload_n hx hb dL_law_19 rfl (lv_at hl 0 rfl) ?_
    refine l_slen hx hb hX hbl hbA hS dL_law_20 ?_
    refine x_iconst hx hb dL_law_21 ?_
    refine x_isub hx hb dL_law_22 ?_
    refine x_icmp_gt (tgt := 535) hx hb (by omega) dL_law_23 (by decide) (fun c_23 => ?_) (fun c_23 => ?_)
    · refine lv_iconst (v := 1) hx hb dL_law_535 (by decide) ?_
      refine W.widen (k := 600000) (n := 7290000) (by decide) (by decide) ?_
      refine va_forget hS.2.2 ?_
      exact lw_ret hx hb hr hlocks dL_law_536
    · have hi5 : i + 5 ≤ L := by omega
      have hbk : LawAt p l e s m below meth c b D d hE qb qr hM qt qw qm qf (lw_Z below #[Value.ref b] s) i 529 := by
        intro B g T w M f hLG H locs hP hD hS ls hl
        refine x_iinc (v := ((i + 5 : Nat) : Int)) (lv' := [(3, .int (iI ((i + 5 : Nat) : Int))), (0, .ref b), (1, .ref hE), (2, .ref hM)]) hx hb dL_law_529 hl (k := 3) rfl (by omega) (by decide) rfl (fun ls hl => ?_)
        refine lv_goto (tgt := 18) hx hb dL_law_532 (by decide) ?_
        exact ih (i + 5) hi5 (by omega) B g T w M f hLG H locs hP hD hS ls (lv_sub hl [1, 2, 3, 0] rfl)
      obtain ⟨z0', ez0, hz0⟩ := l_z (xs i)
      refine lv_aload_n hx hb dL_law_26 rfl (lv_at hl 0 rfl) ?_
      refine lv_iload_n hx hb dL_law_27 rfl (lv_at hl 3 rfl) ?_
      refine l_sld hx hb hX hbl hbA hS i z0' ez0 (by omega) dL_law_28 ?_
      refine x_bipush hx hb dL_law_29 (by decide) ?_
      refine l_and15 hx hb dL_law_31 (fun k hk => ?_)
      by_cases k13 : 13 ≤ k
      · refine lv_tableOut (tgt := 529) hx hb dL_law_32 (Or.inr (by rw [iI_toInt (by omega) (by omega)]; omega)) (by decide) ?_
        exact hbk B g T w M f hLG H locs hP hD hS ls hl
      have hk12 : k = 0 ∨ k = 1 ∨ k = 2 ∨ k = 3 ∨ k = 4 ∨ k = 5 ∨ k = 6 ∨ k = 7 ∨ k = 8 ∨ k = 9 ∨ k = 10 ∨ k = 11 ∨ k = 12 := by omega
      rcases hk12 with rfl | rfl | rfl | rfl | rfl | rfl | rfl | rfl | rfl | rfl | rfl | rfl | rfl
      · refine lv_tableIn (off := 68) (tgt := 100) hx hb dL_law_32 (by decide) (by decide) (by decide) (by decide) ?_
        exact law_c0 hx hb hml hown hts hX hbl hK hL hi5 hbk B g T w M f hLG H locs hP hD hS ls hl
      · refine lv_tableIn (off := 121) (tgt := 153) hx hb dL_law_32 (by decide) (by decide) (by decide) (by decide) ?_
        exact law_c1 hx hb hml hown hts hX hbl hK hL hi5 hbk B g T w M f hLG H locs hP hD hS ls hl
      · refine lv_tableIn (off := 164) (tgt := 196) hx hb dL_law_32 (by decide) (by decide) (by decide) (by decide) ?_
        exact law_c2 hx hb hml hown hts hX hbl hK hL hi5 hbk B g T w M f hLG H locs hP hD hS ls hl
      · refine lv_tableIn (off := 197) (tgt := 229) hx hb dL_law_32 (by decide) (by decide) (by decide) (by decide) ?_
        exact law_c3 hx hb hml hown hts hX hbl hK hL hi5 hbk B g T w M f hLG H locs hP hD hS ls hl
      · refine lv_tableIn (off := 220) (tgt := 252) hx hb dL_law_32 (by decide) (by decide) (by decide) (by decide) ?_
        exact law_c4 hx hb hml hown hts hX hbl hK hL hi5 hbk B g T w M f hLG H locs hP hD hS ls hl
      · refine lv_tableIn (off := 253) (tgt := 285) hx hb dL_law_32 (by decide) (by decide) (by decide) (by decide) ?_
        exact law_c5 hx hb hml hown hts hX hbl hK hL hi5 hbk B g T w M f hLG H locs hP hD hS ls hl
      · refine lv_tableIn (off := 276) (tgt := 308) hx hb dL_law_32 (by decide) (by decide) (by decide) (by decide) ?_
        exact law_c6 hx hb hml hown hts hX hbl hK hL hi5 hbk B g T w M f hLG H locs hP hD hS ls hl
      · refine lv_tableIn (off := 299) (tgt := 331) hx hb dL_law_32 (by decide) (by decide) (by decide) (by decide) ?_
        exact law_c7 hx hb hml hown hts hX hbl hK hL hi5 hbk B g T w M f hLG H locs hP hD hS ls hl
      · refine lv_tableIn (off := 332) (tgt := 364) hx hb dL_law_32 (by decide) (by decide) (by decide) (by decide) ?_
        exact law_c8 hx hb hml hown hts hX hbl hK hL hi5 hbk B g T w M f hLG H locs hP hD hS ls hl
      · refine lv_tableIn (off := 365) (tgt := 397) hx hb dL_law_32 (by decide) (by decide) (by decide) (by decide) ?_
        exact law_c9 hx hb hml hown hts hX hbl hK hL hi5 hbk B g T w M f hLG H locs hP hD hS ls hl
      · refine lv_tableIn (off := 388) (tgt := 420) hx hb dL_law_32 (by decide) (by decide) (by decide) (by decide) ?_
        exact law_c10 hx hb hml hown hts hX hbl hK hL hi5 hbk B g T w M f hLG H locs hP hD hS ls hl
      · refine lv_tableIn (off := 421) (tgt := 453) hx hb dL_law_32 (by decide) (by decide) (by decide) (by decide) ?_
        exact law_c11 hx hb hml hown hts hX hbl hK hL hi5 hbk B g T w M f hLG H locs hP hD hS ls hl
      · refine lv_tableIn (off := 464) (tgt := 496) hx hb dL_law_32 (by decide) (by decide) (by decide) (by decide) ?_
        exact law_c12 hx hb hml hown hts hX hbl hK hL hi5 hbk B g T w M f hLG H locs hP hD hS ls hl
end LC
end
section
set_option maxRecDepth 100000
set_option maxHeartbeats 4000000 in
/-- from the entry, for every script of at most 320 ints, the law comes to its end with true -/
theorem whole_start {p : Program} {e : Env} {s : State} {m : MethodId} {below : List Frame} {meth : Method} {c : Code} (l : Launch) {b L : Nat} {xs : Nat → Int32} (hL : L ≤ 320) (C0 : lw_At p s m meth c b L xs) : W p l e room_1 s m #[Value.ref b] below meth c s.heap [] 0 0 (lw_Z below #[Value.ref b] s) (entryFrame m ([Value.ref b] : List Value).toArray 4) := by
  obtain ⟨hx, hb, hr, hml, hown, hts0, hX, hbl, hlocks, hgv⟩ := id C0
  have hts : ∀ w ∈ lw_all, w.before #[Value.ref b] s = true := fun w h => hts0 w (lw_all_tbl h)
  have hA : ∀ q : Nat, s.heap.size ≤ q → (fun q : Nat => s.heap.size ≤ q) q := fun _ h => h
  obtain ⟨c0, iS0, hKn0⟩ := u_known (C := RX0) (T := TX0) (N := 2) (n := 2) hts in_X0 (hts _ q36)
  obtain ⟨c1, iS1, hKn1⟩ := u_known (C := RX1) (T := TX1) (N := 4) (n := 4) hts in_X1 (hts _ q192)
  obtain ⟨D, hKc⟩ : ∃ D : va_G, ∀ (k : Nat) (q : vw_C), vwCl[k]? = some q → u_Kn s q.1 q.2.1 q.2.2 (D.1 k) (D.2 k) := by
    refine ⟨(fun k => if k = 0 then c0 else c1, fun k => if k = 0 then iS0 else iS1), ?_⟩
    intro k q hq
    match k, hq with
    | 0, hq => cases hq; exact hKn0
    | 1, hq => cases hq; exact hKn1
    | k + 2, hq => simp [vwCl] at hq
  have hS : va_S (fun q : Nat => s.heap.size ≤ q) s.heap s.heap [] := va_S.rf
  have hK : va_K D vwCl [] s := ⟨hKc, fun k q h => by simp at h⟩
  have hP : va_P D vwCl [] s.heap := fun k q h => by simp at h
  have hD : va_D (fun q : Nat => s.heap.size ≤ q) [] := ⟨fun i j p q h => by simp at h, fun k q h => by simp at h⟩
  have hl := lv_entry ([.ref b]) (n := 4) (Nat.le_of_ble_eq_true rfl)
  rw [lg_entry_eq]
  generalize (lg_sl ([.ref b]) ++ List.replicate (4 - (lg_sl ([.ref b])).length) Slot.unset).toArray = ls at hl ⊢
  have hl : lv_has ls 4 [(0, .ref b)] := hl
  refine va_new (ci := 0) (fs := [.null, .null]) (C := RX0) (T := TX0) (N := 2) hx hb hts in_X0 tyX0 tyX0_ok hown (hts _ q35) (hts _ q36) (hts _ q33) hK hP hD hS hA rfl (fun j hj => by rcases (show j = 0 ∨ j = 1 by omega) with rfl | rfl <;> rfl) (Nat.le_of_ble_eq_true rfl) (Nat.le_of_ble_eq_true rfl) dL_law_0 (fun hE H hP hD hS => ?_)
  have hP : va_P D vwCl (E0 hE) H := hP
  have hD : va_D (fun q : Nat => s.heap.size ≤ q) (E0 hE) := hD
  refine W.widen (k := 1) (n := 2) (by omega) (by omega) ?_
  refine lv_dup hx hb dL_law_3 rfl ?_
  have hFc := va_free (wc := E0 hE) hD hS hA [0] rfl
  refine va_callv (va_runI (As := []) (rest := [.ref hE]) ⟨hx, hb, hml, hown, hts⟩ (metX0_init l D hE H.size) (cwI 0 hts (lw_meth q39) rfl rfl rfl (hts _ q33) (hts _ q37) (hts _ q38) rfl (by decide +kernel) ⟨Nat.le_of_ble_eq_true rfl, Nat.le_of_ble_eq_true rfl⟩) ⟨fun a U g mk q => by obtain ⟨q0, q1, qP, qK, qD⟩ := q; exact ⟨q0, q1, qP, va_K.moved (u := U) (U := U.calling g mk a) (Vm.Alike.refl U.vm) qK, qD⟩, fun U hU hW => ⟨rfl, by rw [hU], by rw [hU]; exact hP, va_K.moved hW.alike hK, hD.weaken (fun _ _ _ _ => trivial)⟩⟩ rfl rfl hl.1 rfl (lv_room (Nat.le_of_ble_eq_true rfl)) dL_law_4 ⟨Nat.le_of_ble_eq_true rfl, Nat.le_of_ble_eq_true rfl⟩) hS (fun q _ h => hFc q h) hFc (fun u t H1 locs ht hvm hw hB hz1 hk1 hS => ?_)
  obtain ⟨d, qb, qr, B⟩ := u
  obtain ⟨hP1, hK1, hD1⟩ := hB
  rw [ht] at hP1
  have hK : va_K D vwCl [(d, .int)] s := va_K.moved hvm.symm hK1
  obtain ⟨hP, hD⟩ := va_join (wr := []) (w1 := EW hE qb qr d (B, z0)) hP hD [0] [] rfl rfl (by decide) (by decide) hk1 hFc hP1 hD1
  have hP : va_P D vwCl (EW hE qb qr d (B, z0)) H1 := hP
  have hD : va_D (fun q : Nat => s.heap.size ≤ q) (EW hE qb qr d (B, z0)) := hD
  have hG : GInv B (fun _ => z0) (fun _ => 0) := hw
  refine W.widen (k := 3) (n := 322) (by omega) (by omega) ?_
  refine lv_astore_n (lv' := [(1, .ref hE), (0, .ref b)]) hx hb dL_law_7 rfl hl (by decide) rfl (fun ls hl => ?_)
  refine va_new (ci := 1) (fs := [.null, .null, .null, .null]) (C := RX1) (T := TX1) (N := 4) hx hb hts in_X1 tyX1 tyX1_ok hown (hts _ q191) (hts _ q192) (hts _ q34) hK hP hD hS hA rfl (fun j hj => by rcases (show j = 0 ∨ j = 1 ∨ j = 2 ∨ j = 3 by omega) with rfl | rfl | rfl | rfl <;> rfl) (Nat.le_of_ble_eq_true rfl) (Nat.le_of_ble_eq_true rfl) dL_law_8 (fun hM H hP hD hS => ?_)
  have hP : va_P D vwCl (EW hE qb qr d (B, z0) ++ M0 hM) H := hP
  have hD : va_D (fun q : Nat => s.heap.size ≤ q) (EW hE qb qr d (B, z0) ++ M0 hM) := hD
  refine W.widen (k := 4) (n := 326) (by omega) (by omega) ?_
  refine lv_dup hx hb dL_law_11 rfl ?_
  have hPc := hP.sub (ws' := M0 hM) [3] rfl
  have hDc := hD.sub (ws' := M0 hM) [3] (by decide) rfl
  have hFc := va_free (wc := M0 hM) hD hS hA [3] rfl
  refine va_callv (va_runI (As := []) (rest := [.ref hM]) ⟨hx, hb, hml, hown, hts⟩ (metX1_init l D d hM H.size) (cwI 0 hts (lw_meth q195) rfl rfl rfl (hts _ q34) (hts _ q193) (hts _ q194) rfl (by decide +kernel) ⟨Nat.le_of_ble_eq_true rfl, Nat.le_of_ble_eq_true rfl⟩) ⟨g_blind, fun U hU hW => ⟨rfl, by rw [hU], by rw [hU]; exact hPc, va_K.moved hW.alike hK, hDc.weaken (fun _ _ _ _ => trivial)⟩⟩ rfl rfl hl.1 rfl (lv_room (Nat.le_of_ble_eq_true rfl)) dL_law_12 ⟨Nat.le_of_ble_eq_true rfl, Nat.le_of_ble_eq_true rfl⟩) hS (fun q _ h => hFc q h) hFc (fun u t H2 locs ht hvm hw hB hz1 hk1 hS => ?_)
  obtain ⟨qt, qw, qm, qf⟩ := u
  obtain ⟨hP1, hK1, hD1⟩ := hB
  rw [ht] at hP1
  obtain ⟨hP, hD⟩ := va_join (wr := EW hE qb qr d (B, z0)) (w1 := MW hM qt qw qm qf d (zB, z0, zB, z0)) hP hD [3] [0, 1, 2] rfl rfl (by decide) (by decide) hk1 hFc hP1 hD1
  refine W.widen (k := 8) (n := 1145) (by omega) (by omega) ?_
  refine lv_astore_n (lv' := [(2, .ref hM), (1, .ref hE), (0, .ref b)]) hx hb dL_law_15 rfl hl (by decide) rfl (fun ls hl => ?_)
  refine x_iconst hx hb dL_law_16 ?_
  refine lv_istore_n (lv' := [(3, .int (iI 0)), (2, .ref hM), (1, .ref hE), (0, .ref b)]) hx hb dL_law_17 rfl hl (by decide) rfl (fun ls hl => ?_)
  exact law_loop hx hb hr hlocks hml hown hts hX hbl hK hL (L + 1) 0 (Nat.zero_le L) (by omega) B z0 zB z0 zB z0 ⟨_, _, hG, minv_z⟩ _ _ hP hD hS ls (lv_sub hl [3, 2, 1, 0] rfl)
set_option maxHeartbeats 4000000 in
theorem lw_walk (l : Launch) (b : Addr) (xs : List Int32) : MetFree l x (headSpec (Jvm.Cond.code x code maxLocals ret :: tables_1) room_1) (lw_P b xs) (fun _ _ _ _ _ => True) lw_Q := by
  refine MetFree.of_bodyS (code := code) (maxLocals := maxLocals) (ret := ret) (by decide) ?_ ?_
  · intro args s m h hn
    obtain ⟨meth, c, h1, h2, h3, h4, h5, h6, -, -⟩ := Cond.code_spec hn (atoms_spec (ws := Jvm.Cond.code x code maxLocals ret :: tables_1) h _ List.mem_cons_self)
    exact ⟨meth, c, h1, h2, h3, h4, h5, h6⟩
  · intro p e s m args below meth c s₁ B hml0 hP _
    obtain ⟨rfl, hx, hbd, hgv⟩ := hP
    obtain ⟨scr, harrAt, hlist, hof, hsmall⟩ := hx
    obtain ⟨hcb, hkn, -, -⟩ := State.arrayAt?_spec harrAt
    have hown : s.vm.findClass R_law = some m.cls := findClass_of_methodNamed B.named
    have hts0 : ∀ c ∈ (Jvm.Cond.code x code maxLocals ret :: tables_1), c.before #[Value.ref b] s = true := atoms_spec (ws := Jvm.Cond.code x code maxLocals ret :: tables_1) B.pre
    have hts : ∀ w ∈ lw_tbl, w.before #[Value.ref b] s = true := k2_hts_sels lw_privs (fun w hw => hts0 w (List.mem_cons_of_mem _ hw)) lw_privs_ok
    have hml : c.maxLocals = 4 := B.maxLocals_eq (hts0 _ List.mem_cons_self)
    have X₀ : Stand p l e room_1 s m #[Value.ref b] below meth c s₁ [] 0 0 := Stand.of_body B
    have hh0 : s₁.heap = s.heap := by rw [B.state]; rfl
    have hsz : scr.slots.size = xs.length := by rw [← Array.length_toList, hlist, List.length_map]
    have hval : ∀ j : Nat, j < xs.length → scr.slots[j]? = some (.int (xs.getD j 0)) := fun j hj => by
      rw [← Array.getElem?_toList, hlist]
      simp [hj]
    have hbl : b < s.heap.size := (Array.getElem?_eq_some_iff.mp hcb).1
    have hX : va_X b xs.length (fun j => xs.getD j 0) s s.heap := ⟨scr, hcb, hof, hkn, hsz, hval⟩
    have K : W p l e room_1 s m #[Value.ref b] below meth c s₁.heap [] 0 0 (lw_Z below #[Value.ref b] s) (entryFrame m ([Value.ref b] : List Value).toArray 4) := by
      rw [hh0]
      exact whole_start l hbd ⟨B.exec, B.bytes, B.returns, hml, hown, hts, hX, hbl, B.notSynchronized, hgv⟩
    obtain ⟨t, a1, o, b1, b2, b3⟩ := K s₁ rfl X₀
    exact ⟨t, o, a1, b1, b2, b3⟩
theorem lw_pre_spec {args : Array Value} {s : State} (h : (Jvm.Cond.and given_1 narrow_1).before args s = true) (hr : rest_1_c.before args s = true) : ∃ (b : Addr) (xs : List Int32), lw_P b xs args s := by
  have hs := flat_of_before _ h
  have hq := flat_of_before _ hr
  have hc : (Cond.count 1).before args s = true := hs _ (by decide +kernel)
  have harr : (Cond.arrayOf (.arg 0) .int).before args s = true := hs _ (by decide +kernel)
  have hle : (Cond.le (.length (.arg 0)) (.int 320)).before args s = true := hs _ (by decide +kernel)
  have hlen : (Cond.isInt (.length (.arg 0))).before args s = true := hq _ (by decide +kernel)
  have hall : (Cond.all (.arg 0) (.isInt (.elem (.arg 0) (.index 0)))).before args s = true := hq _ (by decide +kernel)
  obtain ⟨b, xs, hb, hx⟩ := State.ints_of_pre rfl harr hlen hall
  have hsm : xs.length < 2 ^ 31 := hx.choose_spec.2.2.2
  have hev : (Term.length (.arg 0)).eval args s none [] s = some (.int xs.length.toInt32) := hx.length_eval hb
  have hv := Cond.le_ints hev (show (Term.int 320).eval args s none [] s = some (.int 320) from rfl)
  have hd : xs.length.toInt32 ≤ 320 := by
    simpa [Cond.before, Cond.holds, hv] using hle
  have hN : xs.length ≤ 320 := (Int32.ofNat_le_ofNat hsm (by decide)).mp (show Int32.ofNat xs.length ≤ Int32.ofNat 320 from hd)
  exact ⟨b, xs, Cond.one_arg hc (show args[0]? = some (.ref b) from hb), hx, hN, h⟩
theorem lw_comes (l : Launch) : Comes l x (Jvm.Cond.code x code maxLocals ret :: tables_1) room_1 (fun tb e args s => Calls_1 tb e args s ∧ rest_1 tb e args s ∧ Pre_1 tb e args s)
    (fun _ _ args s o t => lw_Q args s o t) := by
  intro p e ha hc hk s m args below hf hfit hheap happ hpre
  obtain ⟨b, xs, hP⟩ := lw_pre_spec hpre.2.2 hpre.2.1
  obtain ⟨k, o, h1, h2, h3, hQ⟩ := lw_walk l b xs p e ha hc hk s m args below hf ((Spec.applies_iff_loose hf).mp happ).1 hP trivial
  exact ⟨k, o, h1, h2, h3, hQ⟩
theorem lw_frame {s t : State} {o : Outcome} {args : Array Value} (h : Framed s o t [] 600000 7290000) :
    Framed s o t (fieldLocs frame_1_writes args s ++ arrayLocs frame_1_arrays args s ++ staticLocs frame_1_statics s) 600000 7290000 := h
theorem lw_limb (L : Cond) (hL : ∀ (args : Array Value) (s t : State), L.after args s (.returned (some (.int 1))) t = true) :
    ArmFor flags0 classFile x code maxLocals ret World_1 tables_1 room_1 Calls_1 rest_1 Pre_1
      (fun tb e a s o t => postC L tb e a s o t ∧ Framed s o t (fieldLocs frame_1_writes a s ++ arrayLocs frame_1_arrays a s ++ staticLocs frame_1_statics s) 600000 7290000) := by
  intro l _ _ _ p e ha hc hk s m args below hf hfit hheap happ hpre
  obtain ⟨k, o, h1, h2, h3, rfl, hF⟩ := lw_comes l p e ha hc hk s m args below hf hfit hheap happ hpre
  exact ⟨k, _, h1, h2, h3, hL args s _, lw_frame hF⟩
theorem i_vc : Claimed_1_1 ∧ Claimed_1_2 := ⟨lw_limb limb_1_1 (fun args s t => by simp [limb_1_1, Cond.after, Cond.holds, Cond.value]), lw_limb limb_1_2 (fun args s t => Cond.after_iff.mpr (by
  first | (rw [show limb_1_2 = Cond.eq .result (.int 1) from rfl, Cond.eq_ints (x := 1) (y := 1) rfl rfl]; simp; done) | (simp [limb_1_2, Cond.value, Term.eval]; done)))⟩
end
