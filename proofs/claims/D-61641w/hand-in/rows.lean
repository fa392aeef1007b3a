section
-- ===== PART A: goes FIRST, ahead of the names: the tables' words, and 'selects' of the private methods out of them =====
/-- a private method of a class that the tables say can be made, by its rows of tables_1 -/
def lw_okq (q : MethodName × Nat) : Prop := (q.1.cls ≠ "java/lang/invoke/MethodHandle" ∧ q.1.cls ≠ "java/lang/invoke/VarHandle") ∧ Cond.instantiable q.1.cls q.2 ∈ tables_1 ∧ Cond.privateMethod q.1 ∈ tables_1 ∧ Cond.instanceMethod q.1 ∈ tables_1
set_option maxRecDepth 100000
theorem lw_t1 {w : Cond} (h : w ∈ tables_1_1) : w ∈ tables_1 := List.mem_append_left _ h
theorem lw_t2 {w : Cond} (h : w ∈ tables_1_2) : w ∈ tables_1 := List.mem_append_right _ h
theorem lw_p0 : lw_okq (⟨"TestTreeRunner", "clearNode", "(IIZ)V"⟩, 19) := ⟨⟨by decide +kernel, by decide +kernel⟩, lw_t1 (List.mem_of_getElem? (i := 4) rfl), lw_t1 (List.mem_of_getElem? (i := 12) rfl), lw_t1 (List.mem_of_getElem? (i := 13) rfl)⟩
theorem lw_p1 : lw_okq (⟨"TestTreeRunner", "add", "(IZ)I"⟩, 19) := ⟨⟨by decide +kernel, by decide +kernel⟩, lw_t1 (List.mem_of_getElem? (i := 4) rfl), lw_t1 (List.mem_of_getElem? (i := 80) rfl), lw_t1 (List.mem_of_getElem? (i := 81) rfl)⟩
theorem lw_p2 : lw_okq (⟨"TestTreeRunner", "noContainer", "(I)Z"⟩, 19) := ⟨⟨by decide +kernel, by decide +kernel⟩, lw_t1 (List.mem_of_getElem? (i := 4) rfl), lw_t1 (List.mem_of_getElem? (i := 84) rfl), lw_t1 (List.mem_of_getElem? (i := 85) rfl)⟩
theorem lw_p3 : lw_okq (⟨"TestTreeRunner", "noNode", "(I)Z"⟩, 19) := ⟨⟨by decide +kernel, by decide +kernel⟩, lw_t1 (List.mem_of_getElem? (i := 4) rfl), lw_t1 (List.mem_of_getElem? (i := 88) rfl), lw_t1 (List.mem_of_getElem? (i := 89) rfl)⟩
theorem lw_p4 : lw_okq (⟨"TestTreeRunner", "noTest", "(I)Z"⟩, 19) := ⟨⟨by decide +kernel, by decide +kernel⟩, lw_t1 (List.mem_of_getElem? (i := 4) rfl), lw_t1 (List.mem_of_getElem? (i := 104) rfl), lw_t1 (List.mem_of_getElem? (i := 105) rfl)⟩
theorem lw_p5 : lw_okq (⟨"TestTreeRunner", "choose", "(I)V"⟩, 19) := ⟨⟨by decide +kernel, by decide +kernel⟩, lw_t1 (List.mem_of_getElem? (i := 4) rfl), lw_t1 (List.mem_of_getElem? (i := 120) rfl), lw_t1 (List.mem_of_getElem? (i := 121) rfl)⟩
theorem lw_p6 : lw_okq (⟨"TestTreeRunner", "childTakesPart", "(I)Z"⟩, 19) := ⟨⟨by decide +kernel, by decide +kernel⟩, lw_t1 (List.mem_of_getElem? (i := 4) rfl), lw_t1 (List.mem_of_getElem? (i := 124) rfl), lw_t1 (List.mem_of_getElem? (i := 125) rfl)⟩
theorem lw_p7 : lw_okq (⟨"TestTreeRunner", "walk", "()V"⟩, 19) := ⟨⟨by decide +kernel, by decide +kernel⟩, lw_t1 (List.mem_of_getElem? (i := 4) rfl), lw_t1 (List.mem_of_getElem? (i := 128) rfl), lw_t1 (List.mem_of_getElem? (i := 129) rfl)⟩
theorem lw_p8 : lw_okq (⟨"TestTreeRunner", "enter", "(I)I"⟩, 19) := ⟨⟨by decide +kernel, by decide +kernel⟩, lw_t1 (List.mem_of_getElem? (i := 4) rfl), lw_t1 (List.mem_of_getElem? (i := 132) rfl), lw_t1 (List.mem_of_getElem? (i := 133) rfl)⟩
theorem lw_p9 : lw_okq (⟨"TestTreeRunner", "carryOut", "(II)I"⟩, 19) := ⟨⟨by decide +kernel, by decide +kernel⟩, lw_t1 (List.mem_of_getElem? (i := 4) rfl), lw_t1 (List.mem_of_getElem? (i := 136) rfl), lw_t1 (List.mem_of_getElem? (i := 137) rfl)⟩
theorem lw_p10 : lw_okq (⟨"TestTreeRunner", "leave", "()V"⟩, 19) := ⟨⟨by decide +kernel, by decide +kernel⟩, lw_t1 (List.mem_of_getElem? (i := 4) rfl), lw_t1 (List.mem_of_getElem? (i := 143) rfl), lw_t1 (List.mem_of_getElem? (i := 144) rfl)⟩
theorem lw_p11 : lw_okq (⟨"TestTreeRunner", "runTest", "(I)V"⟩, 19) := ⟨⟨by decide +kernel, by decide +kernel⟩, lw_t1 (List.mem_of_getElem? (i := 4) rfl), lw_t1 (List.mem_of_getElem? (i := 147) rfl), lw_t1 (List.mem_of_getElem? (i := 148) rfl)⟩
theorem lw_p12 : lw_okq (⟨"TestTreeRunner", "attempt", "(II)I"⟩, 19) := ⟨⟨by decide +kernel, by decide +kernel⟩, lw_t1 (List.mem_of_getElem? (i := 4) rfl), lw_t1 (List.mem_of_getElem? (i := 151) rfl), lw_t1 (List.mem_of_getElem? (i := 152) rfl)⟩
theorem lw_p13 : lw_okq (⟨"TestTreeRunner", "goDown", "()I"⟩, 19) := ⟨⟨by decide +kernel, by decide +kernel⟩, lw_t1 (List.mem_of_getElem? (i := 4) rfl), lw_t1 (List.mem_of_getElem? (i := 155) rfl), lw_t1 (List.mem_of_getElem? (i := 156) rfl)⟩
theorem lw_p14 : lw_okq (⟨"TestTreeRunner", "note", "(I)V"⟩, 19) := ⟨⟨by decide +kernel, by decide +kernel⟩, lw_t1 (List.mem_of_getElem? (i := 4) rfl), lw_t1 (List.mem_of_getElem? (i := 159) rfl), lw_t1 (List.mem_of_getElem? (i := 160) rfl)⟩
theorem lw_p15 : lw_okq (⟨"TestTreeRunner", "bodyOutcome", "(II)I"⟩, 19) := ⟨⟨by decide +kernel, by decide +kernel⟩, lw_t1 (List.mem_of_getElem? (i := 4) rfl), lw_t1 (List.mem_of_getElem? (i := 163) rfl), lw_t1 (List.mem_of_getElem? (i := 164) rfl)⟩
def lw_privs_1 : List (MethodName × Nat) := [(⟨"TestTreeRunner", "clearNode", "(IIZ)V"⟩, 19), (⟨"TestTreeRunner", "add", "(IZ)I"⟩, 19), (⟨"TestTreeRunner", "noContainer", "(I)Z"⟩, 19), (⟨"TestTreeRunner", "noNode", "(I)Z"⟩, 19), (⟨"TestTreeRunner", "noTest", "(I)Z"⟩, 19), (⟨"TestTreeRunner", "choose", "(I)V"⟩, 19), (⟨"TestTreeRunner", "childTakesPart", "(I)Z"⟩, 19), (⟨"TestTreeRunner", "walk", "()V"⟩, 19), (⟨"TestTreeRunner", "enter", "(I)I"⟩, 19), (⟨"TestTreeRunner", "carryOut", "(II)I"⟩, 19), (⟨"TestTreeRunner", "leave", "()V"⟩, 19), (⟨"TestTreeRunner", "runTest", "(I)V"⟩, 19), (⟨"TestTreeRunner", "attempt", "(II)I"⟩, 19), (⟨"TestTreeRunner", "goDown", "()I"⟩, 19), (⟨"TestTreeRunner", "note", "(I)V"⟩, 19), (⟨"TestTreeRunner", "bodyOutcome", "(II)I"⟩, 19)]
theorem lw_r1 : ∀ q ∈ lw_privs_1, lw_okq q := List.forall_mem_cons.mpr ⟨lw_p0, List.forall_mem_cons.mpr ⟨lw_p1, List.forall_mem_cons.mpr ⟨lw_p2, List.forall_mem_cons.mpr ⟨lw_p3, List.forall_mem_cons.mpr ⟨lw_p4, List.forall_mem_cons.mpr ⟨lw_p5, List.forall_mem_cons.mpr ⟨lw_p6, List.forall_mem_cons.mpr ⟨lw_p7, List.forall_mem_cons.mpr ⟨lw_p8, List.forall_mem_cons.mpr ⟨lw_p9, List.forall_mem_cons.mpr ⟨lw_p10, List.forall_mem_cons.mpr ⟨lw_p11, List.forall_mem_cons.mpr ⟨lw_p12, List.forall_mem_cons.mpr ⟨lw_p13, List.forall_mem_cons.mpr ⟨lw_p14, List.forall_mem_cons.mpr ⟨lw_p15, fun _ h => absurd h List.not_mem_nil⟩⟩⟩⟩⟩⟩⟩⟩⟩⟩⟩⟩⟩⟩⟩⟩
theorem lw_p16 : lw_okq (⟨"TestTreeRunnerModel", "add", "(IZ)I"⟩, 11) := ⟨⟨by decide +kernel, by decide +kernel⟩, lw_t1 (List.mem_of_getElem? (i := 188) rfl), lw_t1 (List.mem_of_getElem? (i := 232) rfl), lw_t1 (List.mem_of_getElem? (i := 233) rfl)⟩
theorem lw_p17 : lw_okq (⟨"TestTreeRunnerModel", "noNode", "(I)Z"⟩, 11) := ⟨⟨by decide +kernel, by decide +kernel⟩, lw_t1 (List.mem_of_getElem? (i := 188) rfl), lw_t1 (List.mem_of_getElem? (i := 236) rfl), lw_t1 (List.mem_of_getElem? (i := 237) rfl)⟩
theorem lw_p18 : lw_okq (⟨"TestTreeRunnerModel", "passes", "(II)Z"⟩, 11) := ⟨⟨by decide +kernel, by decide +kernel⟩, lw_t1 (List.mem_of_getElem? (i := 188) rfl), lw_t2 (List.mem_of_getElem? (i := 24) rfl), lw_t2 (List.mem_of_getElem? (i := 25) rfl)⟩
theorem lw_p19 : lw_okq (⟨"TestTreeRunnerModel", "above", "(II)Z"⟩, 11) := ⟨⟨by decide +kernel, by decide +kernel⟩, lw_t1 (List.mem_of_getElem? (i := 188) rfl), lw_t2 (List.mem_of_getElem? (i := 28) rfl), lw_t2 (List.mem_of_getElem? (i := 29) rfl)⟩
theorem lw_p20 : lw_okq (⟨"TestTreeRunnerModel", "selected", "(II)Z"⟩, 11) := ⟨⟨by decide +kernel, by decide +kernel⟩, lw_t1 (List.mem_of_getElem? (i := 188) rfl), lw_t2 (List.mem_of_getElem? (i := 32) rfl), lw_t2 (List.mem_of_getElem? (i := 33) rfl)⟩
theorem lw_p21 : lw_okq (⟨"TestTreeRunnerModel", "runTest", "(I)V"⟩, 11) := ⟨⟨by decide +kernel, by decide +kernel⟩, lw_t1 (List.mem_of_getElem? (i := 188) rfl), lw_t2 (List.mem_of_getElem? (i := 36) rfl), lw_t2 (List.mem_of_getElem? (i := 37) rfl)⟩
theorem lw_p22 : lw_okq (⟨"TestTreeRunnerModel", "has", "(III)Z"⟩, 11) := ⟨⟨by decide +kernel, by decide +kernel⟩, lw_t1 (List.mem_of_getElem? (i := 188) rfl), lw_t2 (List.mem_of_getElem? (i := 40) rfl), lw_t2 (List.mem_of_getElem? (i := 41) rfl)⟩
theorem lw_p23 : lw_okq (⟨"TestTreeRunnerModel", "inUse", "(II)Z"⟩, 11) := ⟨⟨by decide +kernel, by decide +kernel⟩, lw_t1 (List.mem_of_getElem? (i := 188) rfl), lw_t2 (List.mem_of_getElem? (i := 44) rfl), lw_t2 (List.mem_of_getElem? (i := 45) rfl)⟩
theorem lw_p24 : lw_okq (⟨"TestTreeRunnerModel", "runContainer", "(I)V"⟩, 11) := ⟨⟨by decide +kernel, by decide +kernel⟩, lw_t1 (List.mem_of_getElem? (i := 188) rfl), lw_t2 (List.mem_of_getElem? (i := 48) rfl), lw_t2 (List.mem_of_getElem? (i := 49) rfl)⟩
theorem lw_p25 : lw_okq (⟨"TestTreeRunnerModel", "each", "(I)V"⟩, 11) := ⟨⟨by decide +kernel, by decide +kernel⟩, lw_t1 (List.mem_of_getElem? (i := 188) rfl), lw_t2 (List.mem_of_getElem? (i := 52) rfl), lw_t2 (List.mem_of_getElem? (i := 53) rfl)⟩
def lw_privs_2 : List (MethodName × Nat) := [(⟨"TestTreeRunnerModel", "add", "(IZ)I"⟩, 11), (⟨"TestTreeRunnerModel", "noNode", "(I)Z"⟩, 11), (⟨"TestTreeRunnerModel", "passes", "(II)Z"⟩, 11), (⟨"TestTreeRunnerModel", "above", "(II)Z"⟩, 11), (⟨"TestTreeRunnerModel", "selected", "(II)Z"⟩, 11), (⟨"TestTreeRunnerModel", "runTest", "(I)V"⟩, 11), (⟨"TestTreeRunnerModel", "has", "(III)Z"⟩, 11), (⟨"TestTreeRunnerModel", "inUse", "(II)Z"⟩, 11), (⟨"TestTreeRunnerModel", "runContainer", "(I)V"⟩, 11), (⟨"TestTreeRunnerModel", "each", "(I)V"⟩, 11)]
theorem lw_r2 : ∀ q ∈ lw_privs_2, lw_okq q := List.forall_mem_cons.mpr ⟨lw_p16, List.forall_mem_cons.mpr ⟨lw_p17, List.forall_mem_cons.mpr ⟨lw_p18, List.forall_mem_cons.mpr ⟨lw_p19, List.forall_mem_cons.mpr ⟨lw_p20, List.forall_mem_cons.mpr ⟨lw_p21, List.forall_mem_cons.mpr ⟨lw_p22, List.forall_mem_cons.mpr ⟨lw_p23, List.forall_mem_cons.mpr ⟨lw_p24, List.forall_mem_cons.mpr ⟨lw_p25, fun _ h => absurd h List.not_mem_nil⟩⟩⟩⟩⟩⟩⟩⟩⟩⟩
def lw_privs : List (MethodName × Nat) := lw_privs_1 ++ (lw_privs_2)
def lw_tbl : List Cond := k2_sels lw_privs ++ tables_1
theorem lw_privs_ok : ∀ q ∈ lw_privs, lw_okq q := by
  show ∀ q ∈ lw_privs_1 ++ (lw_privs_2), lw_okq q
  exact List.forall_mem_append.mpr ⟨lw_r1, lw_r2⟩
-- ===== ONE list of words for every method: the tables' words that hold all through a run =====
def lw_all : List Cond := lw_tbl.filter goodWord
/-- a word of the tables by its place: claim/WORDS.tsv -/
theorem lw_w {w : Cond} (i : Nat) (h : lw_tbl[i]? = some w) (g : goodWord w = true) : w ∈ lw_all := List.mem_filter.mpr ⟨List.mem_of_getElem? h, g⟩
theorem lw_all_tbl {w : Cond} (h : w ∈ lw_all) : w ∈ lw_tbl := (List.mem_filter.mp h).1
theorem lw_self : GoodIn lw_all lw_all := fun w h => ⟨h, good_of_word (List.mem_filter.mp h).2⟩
/-- a class's field words, by their places -/
theorem lw_in (ws : List Cond) (ps : List Nat) (hp : ws = ps.filterMap (fun i => lw_tbl[i]?)) (hg : ws.all goodWord = true) : ∀ w ∈ ws, w ∈ lw_all := by
  intro w h
  have h1 := List.all_eq_true.mp hg w h
  rw [hp] at h
  obtain ⟨i, -, hi⟩ := List.mem_filterMap.mp h
  exact lw_w i hi h1
/-- the words of a contract for the method y with code b, L locals, answer r -/
abbrev ws_ (y : MethodName) (b : ByteArray) (L : Nat) (r : Option FieldType) : List Cond := Cond.code y b L r :: lw_all
theorem lw_meth {y : MethodName} {b : ByteArray} {L : Nat} {r : Option FieldType} (h : Cond.code y b L r ∈ lw_all) : GoodIn lw_all (ws_ y b L r) := by
  intro w hw
  rcases List.mem_cons.mp hw with e | e
  · rw [e]
    exact lw_self _ h
  · exact lw_self _ e
theorem lw_app {a c : List Cond} (ha : ∀ w ∈ a, w ∈ lw_all) (hc : GoodIn lw_all c) : GoodIn lw_all (a ++ c) := by
  intro w hw
  rcases List.mem_append.mp hw with e | e
  · exact lw_self w (ha w e)
  · exact hc w e
/-- what a call through an object asks: cwV n hts (lw_V ..) -/
theorem lw_V {own : String} {idx : Nat} {C : String} {y : MethodName} {b : ByteArray} {L : Nat} {r : Option FieldType} (h1 : Cond.methodLink own idx y ∈ lw_all) (h2 : Cond.instanceMethod y ∈ lw_all) (h3 : Cond.selects C y y ∈ lw_all) (h4 : Cond.initialized C ∈ lw_all) (h5 : Cond.code y b L r ∈ lw_all) : GoodIn lw_all (wsV own idx C y (ws_ y b L r)) := by
  refine lw_app ?_ (lw_meth h5)
  intro w hw
  simp only [List.mem_cons, List.not_mem_nil, or_false] at hw
  rcases hw with e | e | e | e
  · rw [e]; exact h1
  · rw [e]; exact h2
  · rw [e]; exact h3
  · rw [e]; exact h4
/-- what a static call asks: va_cwS n hts (lw_S ..) -/
theorem lw_S {own : String} {idx : Nat} {y : MethodName} {b : ByteArray} {L : Nat} {r : Option FieldType} (h1 : Cond.methodLink own idx y ∈ lw_all) (h2 : Cond.static y ∈ lw_all) (h3 : Cond.initialized y.cls ∈ lw_all) (h4 : Cond.code y b L r ∈ lw_all) : GoodIn lw_all (va_wsS own idx y (ws_ y b L r)) := by
  refine lw_app ?_ (lw_meth h4)
  intro w hw
  simp only [List.mem_cons, List.not_mem_nil, or_false] at hw
  rcases hw with e | e | e
  · rw [e]; exact h1
  · rw [e]; exact h2
  · rw [e]; exact h3
/-- the words of a contract for a method WITH HANDLERS (hh: its table) -/
abbrev wsW_ (y : MethodName) (b : ByteArray) (L : Nat) (r : Option FieldType) (hh : List (Nat × Nat × Nat × Nat)) : List Cond := Cond.codeWith y b L r hh :: lw_all
theorem lw_methW {y : MethodName} {b : ByteArray} {L : Nat} {r : Option FieldType} {hh : List (Nat × Nat × Nat × Nat)} (h : Cond.codeWith y b L r hh ∈ lw_all) : GoodIn lw_all (wsW_ y b L r hh) := by
  intro w hw
  rcases List.mem_cons.mp hw with e | e
  · rw [e]
    exact lw_self _ h
  · exact lw_self _ e
/-- any list of words by their places (lw_in), good -/
theorem lw_good {ws : List Cond} (h : ∀ w ∈ ws, w ∈ lw_all) : GoodIn lw_all ws := fun w hw => lw_self w (h w hw)
/-- what a call of a method with handlers asks: vx_cwVW n hts (lw_VW ..), vx_cwSW n hts (lw_SW ..) -/
theorem lw_VW {own : String} {idx : Nat} {C : String} {y : MethodName} {b : ByteArray} {L : Nat} {r : Option FieldType} {hh : List (Nat × Nat × Nat × Nat)} (h1 : Cond.methodLink own idx y ∈ lw_all) (h2 : Cond.instanceMethod y ∈ lw_all) (h3 : Cond.selects C y y ∈ lw_all) (h4 : Cond.initialized C ∈ lw_all) (h5 : Cond.codeWith y b L r hh ∈ lw_all) : GoodIn lw_all (wsV own idx C y (wsW_ y b L r hh)) := by
  refine lw_app ?_ (lw_methW h5)
  intro w hw
  simp only [List.mem_cons, List.not_mem_nil, or_false] at hw
  rcases hw with e | e | e | e
  · rw [e]; exact h1
  · rw [e]; exact h2
  · rw [e]; exact h3
  · rw [e]; exact h4
theorem lw_SW {own : String} {idx : Nat} {y : MethodName} {b : ByteArray} {L : Nat} {r : Option FieldType} {hh : List (Nat × Nat × Nat × Nat)} (h1 : Cond.methodLink own idx y ∈ lw_all) (h2 : Cond.static y ∈ lw_all) (h3 : Cond.initialized y.cls ∈ lw_all) (h4 : Cond.codeWith y b L r hh ∈ lw_all) : GoodIn lw_all (va_wsS own idx y (wsW_ y b L r hh)) := by
  refine lw_app ?_ (lw_methW h4)
  intro w hw
  simp only [List.mem_cons, List.not_mem_nil, or_false] at hw
  rcases hw with e | e | e
  · rw [e]; exact h1
  · rw [e]; exact h2
  · rw [e]; exact h3
/-- a word by its place in its run of the tables -/
theorem lw_at {r : List Cond} (hr : ∀ w ∈ r, w ∈ lw_tbl) {w : Cond} (i : Nat) (h : r[i]? = some w) : w ∈ lw_tbl := hr w (List.mem_of_getElem? h)
theorem lw_g {w : Cond} (h : w ∈ lw_tbl) (g : goodWord w = true) : w ∈ lw_all := List.mem_filter.mpr ⟨h, g⟩
theorem lw_ms : ∀ w ∈ k2_sels lw_privs, w ∈ lw_tbl := fun w h => show w ∈ k2_sels lw_privs ++ tables_1 from List.mem_append_left _ h
theorem lw_m1 : ∀ w ∈ tables_1_1, w ∈ lw_tbl := fun w h => show w ∈ k2_sels lw_privs ++ tables_1 from List.mem_append_right (k2_sels lw_privs) (show w ∈ tables_1 from List.mem_append_left _ h)
theorem lw_m2 : ∀ w ∈ tables_1_2, w ∈ lw_tbl := fun w h => show w ∈ k2_sels lw_privs ++ tables_1 from List.mem_append_right (k2_sels lw_privs) (show w ∈ tables_1 from List.mem_append_right _ h)
theorem qs0 : (Cond.selects "TestTreeRunner" ⟨"TestTreeRunner", "clearNode", "(IIZ)V"⟩ ⟨"TestTreeRunner", "clearNode", "(IIZ)V"⟩) ∈ lw_all := lw_g (lw_at lw_ms 0 rfl) rfl
theorem qs1 : (Cond.selects "TestTreeRunner" ⟨"TestTreeRunner", "add", "(IZ)I"⟩ ⟨"TestTreeRunner", "add", "(IZ)I"⟩) ∈ lw_all := lw_g (lw_at lw_ms 1 rfl) rfl
theorem qs2 : (Cond.selects "TestTreeRunner" ⟨"TestTreeRunner", "noContainer", "(I)Z"⟩ ⟨"TestTreeRunner", "noContainer", "(I)Z"⟩) ∈ lw_all := lw_g (lw_at lw_ms 2 rfl) rfl
theorem qs3 : (Cond.selects "TestTreeRunner" ⟨"TestTreeRunner", "noNode", "(I)Z"⟩ ⟨"TestTreeRunner", "noNode", "(I)Z"⟩) ∈ lw_all := lw_g (lw_at lw_ms 3 rfl) rfl
theorem qs4 : (Cond.selects "TestTreeRunner" ⟨"TestTreeRunner", "noTest", "(I)Z"⟩ ⟨"TestTreeRunner", "noTest", "(I)Z"⟩) ∈ lw_all := lw_g (lw_at lw_ms 4 rfl) rfl
theorem qs5 : (Cond.selects "TestTreeRunner" ⟨"TestTreeRunner", "choose", "(I)V"⟩ ⟨"TestTreeRunner", "choose", "(I)V"⟩) ∈ lw_all := lw_g (lw_at lw_ms 5 rfl) rfl
theorem qs6 : (Cond.selects "TestTreeRunner" ⟨"TestTreeRunner", "childTakesPart", "(I)Z"⟩ ⟨"TestTreeRunner", "childTakesPart", "(I)Z"⟩) ∈ lw_all := lw_g (lw_at lw_ms 6 rfl) rfl
theorem qs7 : (Cond.selects "TestTreeRunner" ⟨"TestTreeRunner", "walk", "()V"⟩ ⟨"TestTreeRunner", "walk", "()V"⟩) ∈ lw_all := lw_g (lw_at lw_ms 7 rfl) rfl
theorem qs8 : (Cond.selects "TestTreeRunner" ⟨"TestTreeRunner", "enter", "(I)I"⟩ ⟨"TestTreeRunner", "enter", "(I)I"⟩) ∈ lw_all := lw_g (lw_at lw_ms 8 rfl) rfl
theorem qs9 : (Cond.selects "TestTreeRunner" ⟨"TestTreeRunner", "carryOut", "(II)I"⟩ ⟨"TestTreeRunner", "carryOut", "(II)I"⟩) ∈ lw_all := lw_g (lw_at lw_ms 9 rfl) rfl
theorem qs10 : (Cond.selects "TestTreeRunner" ⟨"TestTreeRunner", "leave", "()V"⟩ ⟨"TestTreeRunner", "leave", "()V"⟩) ∈ lw_all := lw_g (lw_at lw_ms 10 rfl) rfl
theorem qs11 : (Cond.selects "TestTreeRunner" ⟨"TestTreeRunner", "runTest", "(I)V"⟩ ⟨"TestTreeRunner", "runTest", "(I)V"⟩) ∈ lw_all := lw_g (lw_at lw_ms 11 rfl) rfl
theorem qs12 : (Cond.selects "TestTreeRunner" ⟨"TestTreeRunner", "attempt", "(II)I"⟩ ⟨"TestTreeRunner", "attempt", "(II)I"⟩) ∈ lw_all := lw_g (lw_at lw_ms 12 rfl) rfl
theorem qs13 : (Cond.selects "TestTreeRunner" ⟨"TestTreeRunner", "goDown", "()I"⟩ ⟨"TestTreeRunner", "goDown", "()I"⟩) ∈ lw_all := lw_g (lw_at lw_ms 13 rfl) rfl
theorem qs14 : (Cond.selects "TestTreeRunner" ⟨"TestTreeRunner", "note", "(I)V"⟩ ⟨"TestTreeRunner", "note", "(I)V"⟩) ∈ lw_all := lw_g (lw_at lw_ms 14 rfl) rfl
theorem qs15 : (Cond.selects "TestTreeRunner" ⟨"TestTreeRunner", "bodyOutcome", "(II)I"⟩ ⟨"TestTreeRunner", "bodyOutcome", "(II)I"⟩) ∈ lw_all := lw_g (lw_at lw_ms 15 rfl) rfl
theorem qs16 : (Cond.selects "TestTreeRunnerModel" ⟨"TestTreeRunnerModel", "add", "(IZ)I"⟩ ⟨"TestTreeRunnerModel", "add", "(IZ)I"⟩) ∈ lw_all := lw_g (lw_at lw_ms 16 rfl) rfl
theorem qs17 : (Cond.selects "TestTreeRunnerModel" ⟨"TestTreeRunnerModel", "noNode", "(I)Z"⟩ ⟨"TestTreeRunnerModel", "noNode", "(I)Z"⟩) ∈ lw_all := lw_g (lw_at lw_ms 17 rfl) rfl
theorem qs18 : (Cond.selects "TestTreeRunnerModel" ⟨"TestTreeRunnerModel", "passes", "(II)Z"⟩ ⟨"TestTreeRunnerModel", "passes", "(II)Z"⟩) ∈ lw_all := lw_g (lw_at lw_ms 18 rfl) rfl
theorem qs19 : (Cond.selects "TestTreeRunnerModel" ⟨"TestTreeRunnerModel", "above", "(II)Z"⟩ ⟨"TestTreeRunnerModel", "above", "(II)Z"⟩) ∈ lw_all := lw_g (lw_at lw_ms 19 rfl) rfl
theorem qs20 : (Cond.selects "TestTreeRunnerModel" ⟨"TestTreeRunnerModel", "selected", "(II)Z"⟩ ⟨"TestTreeRunnerModel", "selected", "(II)Z"⟩) ∈ lw_all := lw_g (lw_at lw_ms 20 rfl) rfl
theorem qs21 : (Cond.selects "TestTreeRunnerModel" ⟨"TestTreeRunnerModel", "runTest", "(I)V"⟩ ⟨"TestTreeRunnerModel", "runTest", "(I)V"⟩) ∈ lw_all := lw_g (lw_at lw_ms 21 rfl) rfl
theorem qs22 : (Cond.selects "TestTreeRunnerModel" ⟨"TestTreeRunnerModel", "has", "(III)Z"⟩ ⟨"TestTreeRunnerModel", "has", "(III)Z"⟩) ∈ lw_all := lw_g (lw_at lw_ms 22 rfl) rfl
theorem qs23 : (Cond.selects "TestTreeRunnerModel" ⟨"TestTreeRunnerModel", "inUse", "(II)Z"⟩ ⟨"TestTreeRunnerModel", "inUse", "(II)Z"⟩) ∈ lw_all := lw_g (lw_at lw_ms 23 rfl) rfl
theorem qs24 : (Cond.selects "TestTreeRunnerModel" ⟨"TestTreeRunnerModel", "runContainer", "(I)V"⟩ ⟨"TestTreeRunnerModel", "runContainer", "(I)V"⟩) ∈ lw_all := lw_g (lw_at lw_ms 24 rfl) rfl
theorem qs25 : (Cond.selects "TestTreeRunnerModel" ⟨"TestTreeRunnerModel", "each", "(I)V"⟩ ⟨"TestTreeRunnerModel", "each", "(I)V"⟩) ∈ lw_all := lw_g (lw_at lw_ms 25 rfl) rfl
end
section
theorem q99 : (Jvm.Cond.arrayClass Jvm.ClassFile.FieldType.boolean) ∈ lw_all := lw_g (lw_at lw_m1 73 rfl) rfl
set_option maxRecDepth 100000
theorem q100 : (Jvm.Cond.arrayClass Jvm.ClassFile.FieldType.int) ∈ lw_all := lw_g (lw_at lw_m1 74 rfl) rfl
/-! java/lang/Object -/
set_option maxRecDepth 100000
def RJ0 : String := "java/lang/Object"
abbrev cJ0_init : ByteArray := object_method_1_code
def yJ0_init : MethodName := ⟨RJ0, "<init>", "()V"⟩
theorem dJ0_init_0 : decode cJ0_init 0 = .ok (.return_, 1) := by decide +kernel
theorem q35 : (Jvm.Cond.instanceMethod ({ cls := "java/lang/Object", name := "<init>", desc := "()V" } : Jvm.MethodName)) ∈ lw_all := lw_g (lw_at lw_m1 9 rfl) rfl
theorem q36 : (Jvm.Cond.code ({ cls := "java/lang/Object", name := "<init>", desc := "()V" } : Jvm.MethodName) object_method_1_code (1 : Nat) (Option.none : Option Jvm.ClassFile.FieldType)) ∈ lw_all := lw_g (lw_at lw_m1 10 rfl) rfl
theorem q26 : (Jvm.Cond.initialized "TestTreeRunnerLaw") ∈ lw_all := lw_g (lw_at lw_m1 0 rfl) rfl
set_option maxRecDepth 100000
theorem q29 : (Jvm.Cond.classLink "TestTreeRunnerLaw" (7 : Nat) "TestTreeRunner") ∈ lw_all := lw_g (lw_at lw_m1 3 rfl) rfl
theorem q31 : (Jvm.Cond.methodLink "TestTreeRunnerLaw" (9 : Nat) ({ cls := "TestTreeRunner", name := "<init>", desc := "()V" } : Jvm.MethodName)) ∈ lw_all := lw_g (lw_at lw_m1 5 rfl) rfl
theorem q101 : (Jvm.Cond.methodLink "TestTreeRunnerLaw" (13 : Nat) ({ cls := "TestTreeRunner", name := "container", desc := "(I)I" } : Jvm.MethodName)) ∈ lw_all := lw_g (lw_at lw_m1 75 rfl) rfl
theorem q117 : (Jvm.Cond.methodLink "TestTreeRunnerLaw" (18 : Nat) ({ cls := "TestTreeRunner", name := "test", desc := "(I)I" } : Jvm.MethodName)) ∈ lw_all := lw_g (lw_at lw_m1 91 rfl) rfl
theorem q121 : (Jvm.Cond.methodLink "TestTreeRunnerLaw" (22 : Nat) ({ cls := "TestTreeRunner", name := "hook", desc := "(III)I" } : Jvm.MethodName)) ∈ lw_all := lw_g (lw_at lw_m1 95 rfl) rfl
theorem q125 : (Jvm.Cond.methodLink "TestTreeRunnerLaw" (27 : Nat) ({ cls := "TestTreeRunner", name := "body", desc := "(III)I" } : Jvm.MethodName)) ∈ lw_all := lw_g (lw_at lw_m1 99 rfl) rfl
theorem q133 : (Jvm.Cond.methodLink "TestTreeRunnerLaw" (31 : Nat) ({ cls := "TestTreeRunner", name := "tags", desc := "(II)I" } : Jvm.MethodName)) ∈ lw_all := lw_g (lw_at lw_m1 107 rfl) rfl
theorem q137 : (Jvm.Cond.methodLink "TestTreeRunnerLaw" (36 : Nat) ({ cls := "TestTreeRunner", name := "disable", desc := "(IZ)I" } : Jvm.MethodName)) ∈ lw_all := lw_g (lw_at lw_m1 111 rfl) rfl
theorem q141 : (Jvm.Cond.methodLink "TestTreeRunnerLaw" (41 : Nat) ({ cls := "TestTreeRunner", name := "run", desc := "(I)I" } : Jvm.MethodName)) ∈ lw_all := lw_g (lw_at lw_m1 115 rfl) rfl
theorem q196 : (Jvm.Cond.methodLink "TestTreeRunnerLaw" (45 : Nat) ({ cls := "TestTreeRunner", name := "result", desc := "(I)I" } : Jvm.MethodName)) ∈ lw_all := lw_g (lw_at lw_m1 170 rfl) rfl
theorem q200 : (Jvm.Cond.methodLink "TestTreeRunnerLaw" (49 : Nat) ({ cls := "TestTreeRunner", name := "times", desc := "(II)I" } : Jvm.MethodName)) ∈ lw_all := lw_g (lw_at lw_m1 174 rfl) rfl
theorem q204 : (Jvm.Cond.methodLink "TestTreeRunnerLaw" (53 : Nat) ({ cls := "TestTreeRunner", name := "count", desc := "(I)I" } : Jvm.MethodName)) ∈ lw_all := lw_g (lw_at lw_m1 178 rfl) rfl
theorem q205 : (Jvm.Cond.methodLink "TestTreeRunnerLaw" (57 : Nat) ({ cls := "TestTreeRunner", name := "steps", desc := "()I" } : Jvm.MethodName)) ∈ lw_all := lw_g (lw_at lw_m1 179 rfl) rfl
theorem q209 : (Jvm.Cond.methodLink "TestTreeRunnerLaw" (62 : Nat) ({ cls := "TestTreeRunner", name := "attempts", desc := "(I)I" } : Jvm.MethodName)) ∈ lw_all := lw_g (lw_at lw_m1 183 rfl) rfl
theorem q213 : (Jvm.Cond.classLink "TestTreeRunnerLaw" (10 : Nat) "TestTreeRunnerModel") ∈ lw_all := lw_g (lw_at lw_m1 187 rfl) rfl
theorem q215 : (Jvm.Cond.methodLink "TestTreeRunnerLaw" (12 : Nat) ({ cls := "TestTreeRunnerModel", name := "<init>", desc := "()V" } : Jvm.MethodName)) ∈ lw_all := lw_g (lw_at lw_m1 189 rfl) rfl
theorem q253 : (Jvm.Cond.methodLink "TestTreeRunnerLaw" (17 : Nat) ({ cls := "TestTreeRunnerModel", name := "container", desc := "(I)I" } : Jvm.MethodName)) ∈ lw_all := lw_g (lw_at lw_m1 227 rfl) rfl
theorem q265 : (Jvm.Cond.methodLink "TestTreeRunnerLaw" (21 : Nat) ({ cls := "TestTreeRunnerModel", name := "test", desc := "(I)I" } : Jvm.MethodName)) ∈ lw_all := lw_g (lw_at lw_m1 239 rfl) rfl
theorem q269 : (Jvm.Cond.methodLink "TestTreeRunnerLaw" (26 : Nat) ({ cls := "TestTreeRunnerModel", name := "hook", desc := "(III)I" } : Jvm.MethodName)) ∈ lw_all := lw_g (lw_at lw_m2 3 rfl) rfl
theorem q273 : (Jvm.Cond.methodLink "TestTreeRunnerLaw" (30 : Nat) ({ cls := "TestTreeRunnerModel", name := "body", desc := "(III)I" } : Jvm.MethodName)) ∈ lw_all := lw_g (lw_at lw_m2 7 rfl) rfl
theorem q277 : (Jvm.Cond.methodLink "TestTreeRunnerLaw" (35 : Nat) ({ cls := "TestTreeRunnerModel", name := "tags", desc := "(II)I" } : Jvm.MethodName)) ∈ lw_all := lw_g (lw_at lw_m2 11 rfl) rfl
theorem q281 : (Jvm.Cond.methodLink "TestTreeRunnerLaw" (40 : Nat) ({ cls := "TestTreeRunnerModel", name := "disable", desc := "(IZ)I" } : Jvm.MethodName)) ∈ lw_all := lw_g (lw_at lw_m2 15 rfl) rfl
theorem q285 : (Jvm.Cond.methodLink "TestTreeRunnerLaw" (44 : Nat) ({ cls := "TestTreeRunnerModel", name := "run", desc := "(I)I" } : Jvm.MethodName)) ∈ lw_all := lw_g (lw_at lw_m2 19 rfl) rfl
theorem q325 : (Jvm.Cond.methodLink "TestTreeRunnerLaw" (48 : Nat) ({ cls := "TestTreeRunnerModel", name := "result", desc := "(I)I" } : Jvm.MethodName)) ∈ lw_all := lw_g (lw_at lw_m2 59 rfl) rfl
theorem q329 : (Jvm.Cond.methodLink "TestTreeRunnerLaw" (52 : Nat) ({ cls := "TestTreeRunnerModel", name := "times", desc := "(II)I" } : Jvm.MethodName)) ∈ lw_all := lw_g (lw_at lw_m2 63 rfl) rfl
theorem q333 : (Jvm.Cond.methodLink "TestTreeRunnerLaw" (56 : Nat) ({ cls := "TestTreeRunnerModel", name := "count", desc := "(I)I" } : Jvm.MethodName)) ∈ lw_all := lw_g (lw_at lw_m2 67 rfl) rfl
theorem q334 : (Jvm.Cond.methodLink "TestTreeRunnerLaw" (61 : Nat) ({ cls := "TestTreeRunnerModel", name := "steps", desc := "()I" } : Jvm.MethodName)) ∈ lw_all := lw_g (lw_at lw_m2 68 rfl) rfl
theorem q338 : (Jvm.Cond.methodLink "TestTreeRunnerLaw" (65 : Nat) ({ cls := "TestTreeRunnerModel", name := "attempts", desc := "(I)I" } : Jvm.MethodName)) ∈ lw_all := lw_g (lw_at lw_m2 72 rfl) rfl
end
section
/-! TestTreeRunner -/
set_option maxRecDepth 100000
def RX0 : String := "TestTreeRunner"
def TX0 : u_T := fun k => match k with
  | 0 => ("TestTreeRunner", "nodes", "I", false)
  | 1 => ("TestTreeRunner", "isTest", "[Z", true)
  | 2 => ("TestTreeRunner", "parent", "[I", true)
  | 3 => ("TestTreeRunner", "firstChild", "[I", true)
  | 4 => ("TestTreeRunner", "lastChild", "[I", true)
  | 5 => ("TestTreeRunner", "sibling", "[I", true)
  | 6 => ("TestTreeRunner", "hooks", "[I", true)
  | 7 => ("TestTreeRunner", "tries", "[I", true)
  | 8 => ("TestTreeRunner", "outcomes", "[I", true)
  | 9 => ("TestTreeRunner", "tagSet", "[I", true)
  | 10 => ("TestTreeRunner", "disabled", "[Z", true)
  | 11 => ("TestTreeRunner", "results", "[I", true)
  | 12 => ("TestTreeRunner", "carried", "[I", true)
  | 13 => ("TestTreeRunner", "made", "[I", true)
  | 14 => ("TestTreeRunner", "total", "I", false)
  | 15 => ("TestTreeRunner", "takesPart", "[Z", true)
  | 16 => ("TestTreeRunner", "open", "I", false)
  | 17 => ("TestTreeRunner", "way", "[I", true)
  | _ => ("TestTreeRunner", "standing", "I", false)
def tyX0 : Nat → FieldType := fun k => match k with
  | 0 => .int
  | 1 => .array .boolean
  | 2 => .array .int
  | 3 => .array .int
  | 4 => .array .int
  | 5 => .array .int
  | 6 => .array .int
  | 7 => .array .int
  | 8 => .array .int
  | 9 => .array .int
  | 10 => .array .boolean
  | 11 => .array .int
  | 12 => .array .int
  | 13 => .array .int
  | 14 => .int
  | 15 => .array .boolean
  | 16 => .int
  | 17 => .array .int
  | _ => .int
abbrev wsX00 : List Cond := u_ws RX0 TX0 19
set_option maxRecDepth 100000 in
theorem nmX0 : ∀ a, a < 19 → ∀ b, b < 19 → a ≠ b → (TX0 a).2.1 ≠ (TX0 b).2.1 := by decide +kernel
set_option maxRecDepth 100000 in
theorem tyX0_ok : ∀ k, k < 19 → parseFieldDescriptor (TX0 k).2.2.1 = some (tyX0 k) := by decide +kernel
abbrev cX0_init : ByteArray := prog_1_method_1_code
def yX0_init : MethodName := ⟨RX0, "<init>", "()V"⟩
abbrev cX0_clearNode : ByteArray := prog_1_method_2_code
def yX0_clearNode : MethodName := ⟨RX0, "clearNode", "(IIZ)V"⟩
abbrev cX0_container : ByteArray := prog_1_method_7_code
def yX0_container : MethodName := ⟨RX0, "container", "(I)I"⟩
abbrev cX0_add : ByteArray := prog_1_method_6_code
def yX0_add : MethodName := ⟨RX0, "add", "(IZ)I"⟩
abbrev cX0_noContainer : ByteArray := prog_1_method_4_code
def yX0_noContainer : MethodName := ⟨RX0, "noContainer", "(I)Z"⟩
abbrev cX0_noNode : ByteArray := prog_1_method_3_code
def yX0_noNode : MethodName := ⟨RX0, "noNode", "(I)Z"⟩
abbrev cX0_test : ByteArray := prog_1_method_8_code
def yX0_test : MethodName := ⟨RX0, "test", "(I)I"⟩
abbrev cX0_hook : ByteArray := prog_1_method_9_code
def yX0_hook : MethodName := ⟨RX0, "hook", "(III)I"⟩
abbrev cX0_body : ByteArray := prog_1_method_10_code
def yX0_body : MethodName := ⟨RX0, "body", "(III)I"⟩
abbrev cX0_noTest : ByteArray := prog_1_method_5_code
def yX0_noTest : MethodName := ⟨RX0, "noTest", "(I)Z"⟩
abbrev cX0_tags : ByteArray := prog_1_method_11_code
def yX0_tags : MethodName := ⟨RX0, "tags", "(II)I"⟩
abbrev cX0_disable : ByteArray := prog_1_method_12_code
def yX0_disable : MethodName := ⟨RX0, "disable", "(IZ)I"⟩
abbrev cX0_run : ByteArray := prog_1_method_25_code
def yX0_run : MethodName := ⟨RX0, "run", "(I)I"⟩
abbrev cX0_choose : ByteArray := prog_1_method_13_code
def yX0_choose : MethodName := ⟨RX0, "choose", "(I)V"⟩
abbrev cX0_childTakesPart : ByteArray := prog_1_method_14_code
def yX0_childTakesPart : MethodName := ⟨RX0, "childTakesPart", "(I)Z"⟩
abbrev cX0_walk : ByteArray := prog_1_method_24_code
def yX0_walk : MethodName := ⟨RX0, "walk", "()V"⟩
abbrev cX0_enter : ByteArray := prog_1_method_22_code
def yX0_enter : MethodName := ⟨RX0, "enter", "(I)I"⟩
abbrev cX0_carryOut : ByteArray := prog_1_method_15_code
def yX0_carryOut : MethodName := ⟨RX0, "carryOut", "(II)I"⟩
abbrev cX0_worse : ByteArray := prog_1_method_16_code
def yX0_worse : MethodName := ⟨RX0, "worse", "(II)I"⟩
abbrev cX0_leave : ByteArray := prog_1_method_23_code
def yX0_leave : MethodName := ⟨RX0, "leave", "()V"⟩
abbrev cX0_runTest : ByteArray := prog_1_method_21_code
def yX0_runTest : MethodName := ⟨RX0, "runTest", "(I)V"⟩
abbrev cX0_attempt : ByteArray := prog_1_method_20_code
def yX0_attempt : MethodName := ⟨RX0, "attempt", "(II)I"⟩
abbrev cX0_goDown : ByteArray := prog_1_method_18_code
def yX0_goDown : MethodName := ⟨RX0, "goDown", "()I"⟩
abbrev cX0_note : ByteArray := prog_1_method_17_code
def yX0_note : MethodName := ⟨RX0, "note", "(I)V"⟩
abbrev cX0_bodyOutcome : ByteArray := prog_1_method_19_code
def yX0_bodyOutcome : MethodName := ⟨RX0, "bodyOutcome", "(II)I"⟩
abbrev cX0_count : ByteArray := prog_1_method_28_code
def yX0_count : MethodName := ⟨RX0, "count", "(I)I"⟩
abbrev cX0_result : ByteArray := prog_1_method_26_code
def yX0_result : MethodName := ⟨RX0, "result", "(I)I"⟩
abbrev cX0_times : ByteArray := prog_1_method_27_code
def yX0_times : MethodName := ⟨RX0, "times", "(II)I"⟩
abbrev cX0_steps : ByteArray := prog_1_method_29_code
def yX0_steps : MethodName := ⟨RX0, "steps", "()I"⟩
abbrev cX0_attempts : ByteArray := prog_1_method_30_code
def yX0_attempts : MethodName := ⟨RX0, "attempts", "(I)I"⟩

theorem q27 : (Jvm.Cond.initialized "TestTreeRunner") ∈ lw_all := lw_g (lw_at lw_m1 1 rfl) rfl
theorem q30 : (Jvm.Cond.instantiable "TestTreeRunner" (19 : Nat)) ∈ lw_all := lw_g (lw_at lw_m1 4 rfl) rfl
theorem q32 : (Jvm.Cond.instanceMethod ({ cls := "TestTreeRunner", name := "<init>", desc := "()V" } : Jvm.MethodName)) ∈ lw_all := lw_g (lw_at lw_m1 6 rfl) rfl
theorem q33 : (Jvm.Cond.code ({ cls := "TestTreeRunner", name := "<init>", desc := "()V" } : Jvm.MethodName) prog_1_method_1_code (1 : Nat) (Option.none : Option Jvm.ClassFile.FieldType)) ∈ lw_all := lw_g (lw_at lw_m1 7 rfl) rfl
theorem q34 : (Jvm.Cond.methodLink "TestTreeRunner" (1 : Nat) ({ cls := "java/lang/Object", name := "<init>", desc := "()V" } : Jvm.MethodName)) ∈ lw_all := lw_g (lw_at lw_m1 8 rfl) rfl
theorem q37 : (Jvm.Cond.methodLink "TestTreeRunner" (60 : Nat) ({ cls := "TestTreeRunner", name := "clearNode", desc := "(IIZ)V" } : Jvm.MethodName)) ∈ lw_all := lw_g (lw_at lw_m1 11 rfl) rfl
theorem q38 : (Jvm.Cond.privateMethod ({ cls := "TestTreeRunner", name := "clearNode", desc := "(IIZ)V" } : Jvm.MethodName)) ∈ lw_tbl := lw_at lw_m1 12 rfl
theorem q39 : (Jvm.Cond.instanceMethod ({ cls := "TestTreeRunner", name := "clearNode", desc := "(IIZ)V" } : Jvm.MethodName)) ∈ lw_all := lw_g (lw_at lw_m1 13 rfl) rfl
theorem q40 : (Jvm.Cond.code ({ cls := "TestTreeRunner", name := "clearNode", desc := "(IIZ)V" } : Jvm.MethodName) prog_1_method_2_code (4 : Nat) (Option.none : Option Jvm.ClassFile.FieldType)) ∈ lw_all := lw_g (lw_at lw_m1 14 rfl) rfl
theorem q41 : (Jvm.Cond.fieldLink "TestTreeRunner" (56 : Nat) "TestTreeRunner" "nodes" "I") ∈ lw_all := lw_g (lw_at lw_m1 15 rfl) rfl
theorem q42 : (Jvm.Cond.fieldLink "TestTreeRunner" (7 : Nat) "TestTreeRunner" "isTest" "[Z") ∈ lw_all := lw_g (lw_at lw_m1 16 rfl) rfl
theorem q43 : (Jvm.Cond.fieldLink "TestTreeRunner" (13 : Nat) "TestTreeRunner" "parent" "[I") ∈ lw_all := lw_g (lw_at lw_m1 17 rfl) rfl
theorem q44 : (Jvm.Cond.fieldLink "TestTreeRunner" (17 : Nat) "TestTreeRunner" "firstChild" "[I") ∈ lw_all := lw_g (lw_at lw_m1 18 rfl) rfl
theorem q45 : (Jvm.Cond.fieldLink "TestTreeRunner" (20 : Nat) "TestTreeRunner" "lastChild" "[I") ∈ lw_all := lw_g (lw_at lw_m1 19 rfl) rfl
theorem q46 : (Jvm.Cond.fieldLink "TestTreeRunner" (23 : Nat) "TestTreeRunner" "sibling" "[I") ∈ lw_all := lw_g (lw_at lw_m1 20 rfl) rfl
theorem q47 : (Jvm.Cond.fieldLink "TestTreeRunner" (26 : Nat) "TestTreeRunner" "hooks" "[I") ∈ lw_all := lw_g (lw_at lw_m1 21 rfl) rfl
theorem q48 : (Jvm.Cond.fieldLink "TestTreeRunner" (29 : Nat) "TestTreeRunner" "tries" "[I") ∈ lw_all := lw_g (lw_at lw_m1 22 rfl) rfl
theorem q49 : (Jvm.Cond.fieldLink "TestTreeRunner" (32 : Nat) "TestTreeRunner" "outcomes" "[I") ∈ lw_all := lw_g (lw_at lw_m1 23 rfl) rfl
theorem q50 : (Jvm.Cond.fieldLink "TestTreeRunner" (35 : Nat) "TestTreeRunner" "tagSet" "[I") ∈ lw_all := lw_g (lw_at lw_m1 24 rfl) rfl
theorem q51 : (Jvm.Cond.fieldLink "TestTreeRunner" (38 : Nat) "TestTreeRunner" "disabled" "[Z") ∈ lw_all := lw_g (lw_at lw_m1 25 rfl) rfl
theorem q52 : (Jvm.Cond.fieldLink "TestTreeRunner" (41 : Nat) "TestTreeRunner" "results" "[I") ∈ lw_all := lw_g (lw_at lw_m1 26 rfl) rfl
theorem q53 : (Jvm.Cond.fieldLink "TestTreeRunner" (44 : Nat) "TestTreeRunner" "carried" "[I") ∈ lw_all := lw_g (lw_at lw_m1 27 rfl) rfl
theorem q54 : (Jvm.Cond.fieldLink "TestTreeRunner" (47 : Nat) "TestTreeRunner" "made" "[I") ∈ lw_all := lw_g (lw_at lw_m1 28 rfl) rfl
theorem q55 : (Jvm.Cond.fieldLink "TestTreeRunner" (81 : Nat) "TestTreeRunner" "total" "I") ∈ lw_all := lw_g (lw_at lw_m1 29 rfl) rfl
theorem q56 : (Jvm.Cond.fieldLink "TestTreeRunner" (50 : Nat) "TestTreeRunner" "takesPart" "[Z") ∈ lw_all := lw_g (lw_at lw_m1 30 rfl) rfl
theorem q57 : (Jvm.Cond.fieldLink "TestTreeRunner" (91 : Nat) "TestTreeRunner" "open" "I") ∈ lw_all := lw_g (lw_at lw_m1 31 rfl) rfl
theorem q58 : (Jvm.Cond.fieldLink "TestTreeRunner" (53 : Nat) "TestTreeRunner" "way" "[I") ∈ lw_all := lw_g (lw_at lw_m1 32 rfl) rfl
theorem q59 : (Jvm.Cond.fieldLink "TestTreeRunner" (84 : Nat) "TestTreeRunner" "standing" "I") ∈ lw_all := lw_g (lw_at lw_m1 33 rfl) rfl
theorem q60 : (Jvm.Cond.lays "TestTreeRunner" "TestTreeRunner" "nodes" "I") ∈ lw_all := lw_g (lw_at lw_m1 34 rfl) rfl
theorem q61 : (Jvm.Cond.soleField "TestTreeRunner" "nodes") ∈ lw_all := lw_g (lw_at lw_m1 35 rfl) rfl
theorem q62 : (Jvm.Cond.laysFinal "TestTreeRunner" "TestTreeRunner" "isTest" "[Z") ∈ lw_all := lw_g (lw_at lw_m1 36 rfl) rfl
theorem q63 : (Jvm.Cond.soleField "TestTreeRunner" "isTest") ∈ lw_all := lw_g (lw_at lw_m1 37 rfl) rfl
theorem q64 : (Jvm.Cond.laysFinal "TestTreeRunner" "TestTreeRunner" "parent" "[I") ∈ lw_all := lw_g (lw_at lw_m1 38 rfl) rfl
theorem q65 : (Jvm.Cond.soleField "TestTreeRunner" "parent") ∈ lw_all := lw_g (lw_at lw_m1 39 rfl) rfl
theorem q66 : (Jvm.Cond.laysFinal "TestTreeRunner" "TestTreeRunner" "firstChild" "[I") ∈ lw_all := lw_g (lw_at lw_m1 40 rfl) rfl
theorem q67 : (Jvm.Cond.soleField "TestTreeRunner" "firstChild") ∈ lw_all := lw_g (lw_at lw_m1 41 rfl) rfl
theorem q68 : (Jvm.Cond.laysFinal "TestTreeRunner" "TestTreeRunner" "lastChild" "[I") ∈ lw_all := lw_g (lw_at lw_m1 42 rfl) rfl
theorem q69 : (Jvm.Cond.soleField "TestTreeRunner" "lastChild") ∈ lw_all := lw_g (lw_at lw_m1 43 rfl) rfl
theorem q70 : (Jvm.Cond.laysFinal "TestTreeRunner" "TestTreeRunner" "sibling" "[I") ∈ lw_all := lw_g (lw_at lw_m1 44 rfl) rfl
theorem q71 : (Jvm.Cond.soleField "TestTreeRunner" "sibling") ∈ lw_all := lw_g (lw_at lw_m1 45 rfl) rfl
theorem q72 : (Jvm.Cond.laysFinal "TestTreeRunner" "TestTreeRunner" "hooks" "[I") ∈ lw_all := lw_g (lw_at lw_m1 46 rfl) rfl
theorem q73 : (Jvm.Cond.soleField "TestTreeRunner" "hooks") ∈ lw_all := lw_g (lw_at lw_m1 47 rfl) rfl
theorem q74 : (Jvm.Cond.laysFinal "TestTreeRunner" "TestTreeRunner" "tries" "[I") ∈ lw_all := lw_g (lw_at lw_m1 48 rfl) rfl
theorem q75 : (Jvm.Cond.soleField "TestTreeRunner" "tries") ∈ lw_all := lw_g (lw_at lw_m1 49 rfl) rfl
theorem q76 : (Jvm.Cond.laysFinal "TestTreeRunner" "TestTreeRunner" "outcomes" "[I") ∈ lw_all := lw_g (lw_at lw_m1 50 rfl) rfl
theorem q77 : (Jvm.Cond.soleField "TestTreeRunner" "outcomes") ∈ lw_all := lw_g (lw_at lw_m1 51 rfl) rfl
theorem q78 : (Jvm.Cond.laysFinal "TestTreeRunner" "TestTreeRunner" "tagSet" "[I") ∈ lw_all := lw_g (lw_at lw_m1 52 rfl) rfl
theorem q79 : (Jvm.Cond.soleField "TestTreeRunner" "tagSet") ∈ lw_all := lw_g (lw_at lw_m1 53 rfl) rfl
theorem q80 : (Jvm.Cond.laysFinal "TestTreeRunner" "TestTreeRunner" "disabled" "[Z") ∈ lw_all := lw_g (lw_at lw_m1 54 rfl) rfl
theorem q81 : (Jvm.Cond.soleField "TestTreeRunner" "disabled") ∈ lw_all := lw_g (lw_at lw_m1 55 rfl) rfl
theorem q82 : (Jvm.Cond.laysFinal "TestTreeRunner" "TestTreeRunner" "results" "[I") ∈ lw_all := lw_g (lw_at lw_m1 56 rfl) rfl
theorem q83 : (Jvm.Cond.soleField "TestTreeRunner" "results") ∈ lw_all := lw_g (lw_at lw_m1 57 rfl) rfl
theorem q84 : (Jvm.Cond.laysFinal "TestTreeRunner" "TestTreeRunner" "carried" "[I") ∈ lw_all := lw_g (lw_at lw_m1 58 rfl) rfl
theorem q85 : (Jvm.Cond.soleField "TestTreeRunner" "carried") ∈ lw_all := lw_g (lw_at lw_m1 59 rfl) rfl
theorem q86 : (Jvm.Cond.laysFinal "TestTreeRunner" "TestTreeRunner" "made" "[I") ∈ lw_all := lw_g (lw_at lw_m1 60 rfl) rfl
theorem q87 : (Jvm.Cond.soleField "TestTreeRunner" "made") ∈ lw_all := lw_g (lw_at lw_m1 61 rfl) rfl
theorem q88 : (Jvm.Cond.lays "TestTreeRunner" "TestTreeRunner" "total" "I") ∈ lw_all := lw_g (lw_at lw_m1 62 rfl) rfl
theorem q89 : (Jvm.Cond.soleField "TestTreeRunner" "total") ∈ lw_all := lw_g (lw_at lw_m1 63 rfl) rfl
theorem q90 : (Jvm.Cond.laysFinal "TestTreeRunner" "TestTreeRunner" "takesPart" "[Z") ∈ lw_all := lw_g (lw_at lw_m1 64 rfl) rfl
theorem q91 : (Jvm.Cond.soleField "TestTreeRunner" "takesPart") ∈ lw_all := lw_g (lw_at lw_m1 65 rfl) rfl
theorem q92 : (Jvm.Cond.lays "TestTreeRunner" "TestTreeRunner" "open" "I") ∈ lw_all := lw_g (lw_at lw_m1 66 rfl) rfl
theorem q93 : (Jvm.Cond.soleField "TestTreeRunner" "open") ∈ lw_all := lw_g (lw_at lw_m1 67 rfl) rfl
theorem q94 : (Jvm.Cond.laysFinal "TestTreeRunner" "TestTreeRunner" "way" "[I") ∈ lw_all := lw_g (lw_at lw_m1 68 rfl) rfl
theorem q95 : (Jvm.Cond.soleField "TestTreeRunner" "way") ∈ lw_all := lw_g (lw_at lw_m1 69 rfl) rfl
theorem q96 : (Jvm.Cond.lays "TestTreeRunner" "TestTreeRunner" "standing" "I") ∈ lw_all := lw_g (lw_at lw_m1 70 rfl) rfl
theorem q97 : (Jvm.Cond.soleField "TestTreeRunner" "standing") ∈ lw_all := lw_g (lw_at lw_m1 71 rfl) rfl
theorem q98 : (Jvm.Cond.superclass "TestTreeRunner" "java/lang/Object") ∈ lw_all := lw_g (lw_at lw_m1 72 rfl) rfl
theorem q102 : (Jvm.Cond.instanceMethod ({ cls := "TestTreeRunner", name := "container", desc := "(I)I" } : Jvm.MethodName)) ∈ lw_all := lw_g (lw_at lw_m1 76 rfl) rfl
theorem q103 : (Jvm.Cond.selects "TestTreeRunner" ({ cls := "TestTreeRunner", name := "container", desc := "(I)I" } : Jvm.MethodName) ({ cls := "TestTreeRunner", name := "container", desc := "(I)I" } : Jvm.MethodName)) ∈ lw_all := lw_g (lw_at lw_m1 77 rfl) rfl
theorem q104 : (Jvm.Cond.code ({ cls := "TestTreeRunner", name := "container", desc := "(I)I" } : Jvm.MethodName) prog_1_method_7_code (2 : Nat) (Option.some Jvm.ClassFile.FieldType.int)) ∈ lw_all := lw_g (lw_at lw_m1 78 rfl) rfl
theorem q105 : (Jvm.Cond.methodLink "TestTreeRunner" (71 : Nat) ({ cls := "TestTreeRunner", name := "add", desc := "(IZ)I" } : Jvm.MethodName)) ∈ lw_all := lw_g (lw_at lw_m1 79 rfl) rfl
theorem q106 : (Jvm.Cond.privateMethod ({ cls := "TestTreeRunner", name := "add", desc := "(IZ)I" } : Jvm.MethodName)) ∈ lw_tbl := lw_at lw_m1 80 rfl
theorem q107 : (Jvm.Cond.instanceMethod ({ cls := "TestTreeRunner", name := "add", desc := "(IZ)I" } : Jvm.MethodName)) ∈ lw_all := lw_g (lw_at lw_m1 81 rfl) rfl
theorem q108 : (Jvm.Cond.code ({ cls := "TestTreeRunner", name := "add", desc := "(IZ)I" } : Jvm.MethodName) prog_1_method_6_code (4 : Nat) (Option.some Jvm.ClassFile.FieldType.int)) ∈ lw_all := lw_g (lw_at lw_m1 82 rfl) rfl
theorem q109 : (Jvm.Cond.methodLink "TestTreeRunner" (68 : Nat) ({ cls := "TestTreeRunner", name := "noContainer", desc := "(I)Z" } : Jvm.MethodName)) ∈ lw_all := lw_g (lw_at lw_m1 83 rfl) rfl
theorem q110 : (Jvm.Cond.privateMethod ({ cls := "TestTreeRunner", name := "noContainer", desc := "(I)Z" } : Jvm.MethodName)) ∈ lw_tbl := lw_at lw_m1 84 rfl
theorem q111 : (Jvm.Cond.instanceMethod ({ cls := "TestTreeRunner", name := "noContainer", desc := "(I)Z" } : Jvm.MethodName)) ∈ lw_all := lw_g (lw_at lw_m1 85 rfl) rfl
theorem q112 : (Jvm.Cond.code ({ cls := "TestTreeRunner", name := "noContainer", desc := "(I)Z" } : Jvm.MethodName) prog_1_method_4_code (2 : Nat) (Option.some Jvm.ClassFile.FieldType.boolean)) ∈ lw_all := lw_g (lw_at lw_m1 86 rfl) rfl
theorem q113 : (Jvm.Cond.methodLink "TestTreeRunner" (64 : Nat) ({ cls := "TestTreeRunner", name := "noNode", desc := "(I)Z" } : Jvm.MethodName)) ∈ lw_all := lw_g (lw_at lw_m1 87 rfl) rfl
theorem q114 : (Jvm.Cond.privateMethod ({ cls := "TestTreeRunner", name := "noNode", desc := "(I)Z" } : Jvm.MethodName)) ∈ lw_tbl := lw_at lw_m1 88 rfl
theorem q115 : (Jvm.Cond.instanceMethod ({ cls := "TestTreeRunner", name := "noNode", desc := "(I)Z" } : Jvm.MethodName)) ∈ lw_all := lw_g (lw_at lw_m1 89 rfl) rfl
theorem q116 : (Jvm.Cond.code ({ cls := "TestTreeRunner", name := "noNode", desc := "(I)Z" } : Jvm.MethodName) prog_1_method_3_code (2 : Nat) (Option.some Jvm.ClassFile.FieldType.boolean)) ∈ lw_all := lw_g (lw_at lw_m1 90 rfl) rfl
theorem q118 : (Jvm.Cond.instanceMethod ({ cls := "TestTreeRunner", name := "test", desc := "(I)I" } : Jvm.MethodName)) ∈ lw_all := lw_g (lw_at lw_m1 92 rfl) rfl
theorem q119 : (Jvm.Cond.selects "TestTreeRunner" ({ cls := "TestTreeRunner", name := "test", desc := "(I)I" } : Jvm.MethodName) ({ cls := "TestTreeRunner", name := "test", desc := "(I)I" } : Jvm.MethodName)) ∈ lw_all := lw_g (lw_at lw_m1 93 rfl) rfl
theorem q120 : (Jvm.Cond.code ({ cls := "TestTreeRunner", name := "test", desc := "(I)I" } : Jvm.MethodName) prog_1_method_8_code (2 : Nat) (Option.some Jvm.ClassFile.FieldType.int)) ∈ lw_all := lw_g (lw_at lw_m1 94 rfl) rfl
theorem q122 : (Jvm.Cond.instanceMethod ({ cls := "TestTreeRunner", name := "hook", desc := "(III)I" } : Jvm.MethodName)) ∈ lw_all := lw_g (lw_at lw_m1 96 rfl) rfl
theorem q123 : (Jvm.Cond.selects "TestTreeRunner" ({ cls := "TestTreeRunner", name := "hook", desc := "(III)I" } : Jvm.MethodName) ({ cls := "TestTreeRunner", name := "hook", desc := "(III)I" } : Jvm.MethodName)) ∈ lw_all := lw_g (lw_at lw_m1 97 rfl) rfl
theorem q124 : (Jvm.Cond.code ({ cls := "TestTreeRunner", name := "hook", desc := "(III)I" } : Jvm.MethodName) prog_1_method_9_code (5 : Nat) (Option.some Jvm.ClassFile.FieldType.int)) ∈ lw_all := lw_g (lw_at lw_m1 98 rfl) rfl
theorem q126 : (Jvm.Cond.instanceMethod ({ cls := "TestTreeRunner", name := "body", desc := "(III)I" } : Jvm.MethodName)) ∈ lw_all := lw_g (lw_at lw_m1 100 rfl) rfl
theorem q127 : (Jvm.Cond.selects "TestTreeRunner" ({ cls := "TestTreeRunner", name := "body", desc := "(III)I" } : Jvm.MethodName) ({ cls := "TestTreeRunner", name := "body", desc := "(III)I" } : Jvm.MethodName)) ∈ lw_all := lw_g (lw_at lw_m1 101 rfl) rfl
theorem q128 : (Jvm.Cond.code ({ cls := "TestTreeRunner", name := "body", desc := "(III)I" } : Jvm.MethodName) prog_1_method_10_code (4 : Nat) (Option.some Jvm.ClassFile.FieldType.int)) ∈ lw_all := lw_g (lw_at lw_m1 102 rfl) rfl
theorem q129 : (Jvm.Cond.methodLink "TestTreeRunner" (75 : Nat) ({ cls := "TestTreeRunner", name := "noTest", desc := "(I)Z" } : Jvm.MethodName)) ∈ lw_all := lw_g (lw_at lw_m1 103 rfl) rfl
theorem q130 : (Jvm.Cond.privateMethod ({ cls := "TestTreeRunner", name := "noTest", desc := "(I)Z" } : Jvm.MethodName)) ∈ lw_tbl := lw_at lw_m1 104 rfl
theorem q131 : (Jvm.Cond.instanceMethod ({ cls := "TestTreeRunner", name := "noTest", desc := "(I)Z" } : Jvm.MethodName)) ∈ lw_all := lw_g (lw_at lw_m1 105 rfl) rfl
theorem q132 : (Jvm.Cond.code ({ cls := "TestTreeRunner", name := "noTest", desc := "(I)Z" } : Jvm.MethodName) prog_1_method_5_code (2 : Nat) (Option.some Jvm.ClassFile.FieldType.boolean)) ∈ lw_all := lw_g (lw_at lw_m1 106 rfl) rfl
theorem q134 : (Jvm.Cond.instanceMethod ({ cls := "TestTreeRunner", name := "tags", desc := "(II)I" } : Jvm.MethodName)) ∈ lw_all := lw_g (lw_at lw_m1 108 rfl) rfl
theorem q135 : (Jvm.Cond.selects "TestTreeRunner" ({ cls := "TestTreeRunner", name := "tags", desc := "(II)I" } : Jvm.MethodName) ({ cls := "TestTreeRunner", name := "tags", desc := "(II)I" } : Jvm.MethodName)) ∈ lw_all := lw_g (lw_at lw_m1 109 rfl) rfl
theorem q136 : (Jvm.Cond.code ({ cls := "TestTreeRunner", name := "tags", desc := "(II)I" } : Jvm.MethodName) prog_1_method_11_code (3 : Nat) (Option.some Jvm.ClassFile.FieldType.int)) ∈ lw_all := lw_g (lw_at lw_m1 110 rfl) rfl
theorem q138 : (Jvm.Cond.instanceMethod ({ cls := "TestTreeRunner", name := "disable", desc := "(IZ)I" } : Jvm.MethodName)) ∈ lw_all := lw_g (lw_at lw_m1 112 rfl) rfl
theorem q139 : (Jvm.Cond.selects "TestTreeRunner" ({ cls := "TestTreeRunner", name := "disable", desc := "(IZ)I" } : Jvm.MethodName) ({ cls := "TestTreeRunner", name := "disable", desc := "(IZ)I" } : Jvm.MethodName)) ∈ lw_all := lw_g (lw_at lw_m1 113 rfl) rfl
theorem q140 : (Jvm.Cond.code ({ cls := "TestTreeRunner", name := "disable", desc := "(IZ)I" } : Jvm.MethodName) prog_1_method_12_code (4 : Nat) (Option.some Jvm.ClassFile.FieldType.int)) ∈ lw_all := lw_g (lw_at lw_m1 114 rfl) rfl
theorem q142 : (Jvm.Cond.instanceMethod ({ cls := "TestTreeRunner", name := "run", desc := "(I)I" } : Jvm.MethodName)) ∈ lw_all := lw_g (lw_at lw_m1 116 rfl) rfl
theorem q143 : (Jvm.Cond.selects "TestTreeRunner" ({ cls := "TestTreeRunner", name := "run", desc := "(I)I" } : Jvm.MethodName) ({ cls := "TestTreeRunner", name := "run", desc := "(I)I" } : Jvm.MethodName)) ∈ lw_all := lw_g (lw_at lw_m1 117 rfl) rfl
theorem q144 : (Jvm.Cond.code ({ cls := "TestTreeRunner", name := "run", desc := "(I)I" } : Jvm.MethodName) prog_1_method_25_code (3 : Nat) (Option.some Jvm.ClassFile.FieldType.int)) ∈ lw_all := lw_g (lw_at lw_m1 118 rfl) rfl
theorem q145 : (Jvm.Cond.methodLink "TestTreeRunner" (121 : Nat) ({ cls := "TestTreeRunner", name := "choose", desc := "(I)V" } : Jvm.MethodName)) ∈ lw_all := lw_g (lw_at lw_m1 119 rfl) rfl
theorem q146 : (Jvm.Cond.privateMethod ({ cls := "TestTreeRunner", name := "choose", desc := "(I)V" } : Jvm.MethodName)) ∈ lw_tbl := lw_at lw_m1 120 rfl
theorem q147 : (Jvm.Cond.instanceMethod ({ cls := "TestTreeRunner", name := "choose", desc := "(I)V" } : Jvm.MethodName)) ∈ lw_all := lw_g (lw_at lw_m1 121 rfl) rfl
theorem q148 : (Jvm.Cond.code ({ cls := "TestTreeRunner", name := "choose", desc := "(I)V" } : Jvm.MethodName) prog_1_method_13_code (4 : Nat) (Option.none : Option Jvm.ClassFile.FieldType)) ∈ lw_all := lw_g (lw_at lw_m1 122 rfl) rfl
theorem q149 : (Jvm.Cond.methodLink "TestTreeRunner" (78 : Nat) ({ cls := "TestTreeRunner", name := "childTakesPart", desc := "(I)Z" } : Jvm.MethodName)) ∈ lw_all := lw_g (lw_at lw_m1 123 rfl) rfl
theorem q150 : (Jvm.Cond.privateMethod ({ cls := "TestTreeRunner", name := "childTakesPart", desc := "(I)Z" } : Jvm.MethodName)) ∈ lw_tbl := lw_at lw_m1 124 rfl
theorem q151 : (Jvm.Cond.instanceMethod ({ cls := "TestTreeRunner", name := "childTakesPart", desc := "(I)Z" } : Jvm.MethodName)) ∈ lw_all := lw_g (lw_at lw_m1 125 rfl) rfl
theorem q152 : (Jvm.Cond.code ({ cls := "TestTreeRunner", name := "childTakesPart", desc := "(I)Z" } : Jvm.MethodName) prog_1_method_14_code (4 : Nat) (Option.some Jvm.ClassFile.FieldType.boolean)) ∈ lw_all := lw_g (lw_at lw_m1 126 rfl) rfl
theorem q153 : (Jvm.Cond.methodLink "TestTreeRunner" (124 : Nat) ({ cls := "TestTreeRunner", name := "walk", desc := "()V" } : Jvm.MethodName)) ∈ lw_all := lw_g (lw_at lw_m1 127 rfl) rfl
theorem q154 : (Jvm.Cond.privateMethod ({ cls := "TestTreeRunner", name := "walk", desc := "()V" } : Jvm.MethodName)) ∈ lw_tbl := lw_at lw_m1 128 rfl
theorem q155 : (Jvm.Cond.instanceMethod ({ cls := "TestTreeRunner", name := "walk", desc := "()V" } : Jvm.MethodName)) ∈ lw_all := lw_g (lw_at lw_m1 129 rfl) rfl
theorem q156 : (Jvm.Cond.code ({ cls := "TestTreeRunner", name := "walk", desc := "()V" } : Jvm.MethodName) prog_1_method_24_code (4 : Nat) (Option.none : Option Jvm.ClassFile.FieldType)) ∈ lw_all := lw_g (lw_at lw_m1 130 rfl) rfl
theorem q157 : (Jvm.Cond.methodLink "TestTreeRunner" (111 : Nat) ({ cls := "TestTreeRunner", name := "enter", desc := "(I)I" } : Jvm.MethodName)) ∈ lw_all := lw_g (lw_at lw_m1 131 rfl) rfl
theorem q158 : (Jvm.Cond.privateMethod ({ cls := "TestTreeRunner", name := "enter", desc := "(I)I" } : Jvm.MethodName)) ∈ lw_tbl := lw_at lw_m1 132 rfl
theorem q159 : (Jvm.Cond.instanceMethod ({ cls := "TestTreeRunner", name := "enter", desc := "(I)I" } : Jvm.MethodName)) ∈ lw_all := lw_g (lw_at lw_m1 133 rfl) rfl
theorem q160 : (Jvm.Cond.code ({ cls := "TestTreeRunner", name := "enter", desc := "(I)I" } : Jvm.MethodName) prog_1_method_22_code (3 : Nat) (Option.some Jvm.ClassFile.FieldType.int)) ∈ lw_all := lw_g (lw_at lw_m1 134 rfl) rfl
theorem q161 : (Jvm.Cond.methodLink "TestTreeRunner" (94 : Nat) ({ cls := "TestTreeRunner", name := "carryOut", desc := "(II)I" } : Jvm.MethodName)) ∈ lw_all := lw_g (lw_at lw_m1 135 rfl) rfl
theorem q162 : (Jvm.Cond.privateMethod ({ cls := "TestTreeRunner", name := "carryOut", desc := "(II)I" } : Jvm.MethodName)) ∈ lw_tbl := lw_at lw_m1 136 rfl
theorem q163 : (Jvm.Cond.instanceMethod ({ cls := "TestTreeRunner", name := "carryOut", desc := "(II)I" } : Jvm.MethodName)) ∈ lw_all := lw_g (lw_at lw_m1 137 rfl) rfl
theorem q164 : (Jvm.Cond.code ({ cls := "TestTreeRunner", name := "carryOut", desc := "(II)I" } : Jvm.MethodName) prog_1_method_15_code (4 : Nat) (Option.some Jvm.ClassFile.FieldType.int)) ∈ lw_all := lw_g (lw_at lw_m1 138 rfl) rfl
theorem q165 : (Jvm.Cond.methodLink "TestTreeRunner" (87 : Nat) ({ cls := "TestTreeRunner", name := "worse", desc := "(II)I" } : Jvm.MethodName)) ∈ lw_all := lw_g (lw_at lw_m1 139 rfl) rfl
theorem q166 : (Jvm.Cond.static ({ cls := "TestTreeRunner", name := "worse", desc := "(II)I" } : Jvm.MethodName)) ∈ lw_all := lw_g (lw_at lw_m1 140 rfl) rfl
theorem q167 : (Jvm.Cond.code ({ cls := "TestTreeRunner", name := "worse", desc := "(II)I" } : Jvm.MethodName) prog_1_method_16_code (2 : Nat) (Option.some Jvm.ClassFile.FieldType.int)) ∈ lw_all := lw_g (lw_at lw_m1 141 rfl) rfl
theorem q168 : (Jvm.Cond.methodLink "TestTreeRunner" (115 : Nat) ({ cls := "TestTreeRunner", name := "leave", desc := "()V" } : Jvm.MethodName)) ∈ lw_all := lw_g (lw_at lw_m1 142 rfl) rfl
theorem q169 : (Jvm.Cond.privateMethod ({ cls := "TestTreeRunner", name := "leave", desc := "()V" } : Jvm.MethodName)) ∈ lw_tbl := lw_at lw_m1 143 rfl
theorem q170 : (Jvm.Cond.instanceMethod ({ cls := "TestTreeRunner", name := "leave", desc := "()V" } : Jvm.MethodName)) ∈ lw_all := lw_g (lw_at lw_m1 144 rfl) rfl
theorem q171 : (Jvm.Cond.code ({ cls := "TestTreeRunner", name := "leave", desc := "()V" } : Jvm.MethodName) prog_1_method_23_code (3 : Nat) (Option.none : Option Jvm.ClassFile.FieldType)) ∈ lw_all := lw_g (lw_at lw_m1 145 rfl) rfl
theorem q172 : (Jvm.Cond.methodLink "TestTreeRunner" (118 : Nat) ({ cls := "TestTreeRunner", name := "runTest", desc := "(I)V" } : Jvm.MethodName)) ∈ lw_all := lw_g (lw_at lw_m1 146 rfl) rfl
theorem q173 : (Jvm.Cond.privateMethod ({ cls := "TestTreeRunner", name := "runTest", desc := "(I)V" } : Jvm.MethodName)) ∈ lw_tbl := lw_at lw_m1 147 rfl
theorem q174 : (Jvm.Cond.instanceMethod ({ cls := "TestTreeRunner", name := "runTest", desc := "(I)V" } : Jvm.MethodName)) ∈ lw_all := lw_g (lw_at lw_m1 148 rfl) rfl
theorem q175 : (Jvm.Cond.code ({ cls := "TestTreeRunner", name := "runTest", desc := "(I)V" } : Jvm.MethodName) prog_1_method_21_code (4 : Nat) (Option.none : Option Jvm.ClassFile.FieldType)) ∈ lw_all := lw_g (lw_at lw_m1 149 rfl) rfl
theorem q176 : (Jvm.Cond.methodLink "TestTreeRunner" (108 : Nat) ({ cls := "TestTreeRunner", name := "attempt", desc := "(II)I" } : Jvm.MethodName)) ∈ lw_all := lw_g (lw_at lw_m1 150 rfl) rfl
theorem q177 : (Jvm.Cond.privateMethod ({ cls := "TestTreeRunner", name := "attempt", desc := "(II)I" } : Jvm.MethodName)) ∈ lw_tbl := lw_at lw_m1 151 rfl
theorem q178 : (Jvm.Cond.instanceMethod ({ cls := "TestTreeRunner", name := "attempt", desc := "(II)I" } : Jvm.MethodName)) ∈ lw_all := lw_g (lw_at lw_m1 152 rfl) rfl
theorem q179 : (Jvm.Cond.code ({ cls := "TestTreeRunner", name := "attempt", desc := "(II)I" } : Jvm.MethodName) prog_1_method_20_code (6 : Nat) (Option.some Jvm.ClassFile.FieldType.int)) ∈ lw_all := lw_g (lw_at lw_m1 153 rfl) rfl
theorem q180 : (Jvm.Cond.methodLink "TestTreeRunner" (101 : Nat) ({ cls := "TestTreeRunner", name := "goDown", desc := "()I" } : Jvm.MethodName)) ∈ lw_all := lw_g (lw_at lw_m1 154 rfl) rfl
theorem q181 : (Jvm.Cond.privateMethod ({ cls := "TestTreeRunner", name := "goDown", desc := "()I" } : Jvm.MethodName)) ∈ lw_tbl := lw_at lw_m1 155 rfl
theorem q182 : (Jvm.Cond.instanceMethod ({ cls := "TestTreeRunner", name := "goDown", desc := "()I" } : Jvm.MethodName)) ∈ lw_all := lw_g (lw_at lw_m1 156 rfl) rfl
theorem q183 : (Jvm.Cond.code ({ cls := "TestTreeRunner", name := "goDown", desc := "()I" } : Jvm.MethodName) prog_1_method_18_code (3 : Nat) (Option.some Jvm.ClassFile.FieldType.int)) ∈ lw_all := lw_g (lw_at lw_m1 157 rfl) rfl
theorem q184 : (Jvm.Cond.methodLink "TestTreeRunner" (97 : Nat) ({ cls := "TestTreeRunner", name := "note", desc := "(I)V" } : Jvm.MethodName)) ∈ lw_all := lw_g (lw_at lw_m1 158 rfl) rfl
theorem q185 : (Jvm.Cond.privateMethod ({ cls := "TestTreeRunner", name := "note", desc := "(I)V" } : Jvm.MethodName)) ∈ lw_tbl := lw_at lw_m1 159 rfl
theorem q186 : (Jvm.Cond.instanceMethod ({ cls := "TestTreeRunner", name := "note", desc := "(I)V" } : Jvm.MethodName)) ∈ lw_all := lw_g (lw_at lw_m1 160 rfl) rfl
theorem q187 : (Jvm.Cond.code ({ cls := "TestTreeRunner", name := "note", desc := "(I)V" } : Jvm.MethodName) prog_1_method_17_code (2 : Nat) (Option.none : Option Jvm.ClassFile.FieldType)) ∈ lw_all := lw_g (lw_at lw_m1 161 rfl) rfl
theorem q188 : (Jvm.Cond.methodLink "TestTreeRunner" (105 : Nat) ({ cls := "TestTreeRunner", name := "bodyOutcome", desc := "(II)I" } : Jvm.MethodName)) ∈ lw_all := lw_g (lw_at lw_m1 162 rfl) rfl
theorem q189 : (Jvm.Cond.privateMethod ({ cls := "TestTreeRunner", name := "bodyOutcome", desc := "(II)I" } : Jvm.MethodName)) ∈ lw_tbl := lw_at lw_m1 163 rfl
theorem q190 : (Jvm.Cond.instanceMethod ({ cls := "TestTreeRunner", name := "bodyOutcome", desc := "(II)I" } : Jvm.MethodName)) ∈ lw_all := lw_g (lw_at lw_m1 164 rfl) rfl
theorem q191 : (Jvm.Cond.code ({ cls := "TestTreeRunner", name := "bodyOutcome", desc := "(II)I" } : Jvm.MethodName) prog_1_method_19_code (4 : Nat) (Option.some Jvm.ClassFile.FieldType.int)) ∈ lw_all := lw_g (lw_at lw_m1 165 rfl) rfl
theorem q192 : (Jvm.Cond.methodLink "TestTreeRunner" (127 : Nat) ({ cls := "TestTreeRunner", name := "count", desc := "(I)I" } : Jvm.MethodName)) ∈ lw_all := lw_g (lw_at lw_m1 166 rfl) rfl
theorem q193 : (Jvm.Cond.instanceMethod ({ cls := "TestTreeRunner", name := "count", desc := "(I)I" } : Jvm.MethodName)) ∈ lw_all := lw_g (lw_at lw_m1 167 rfl) rfl
theorem q194 : (Jvm.Cond.selects "TestTreeRunner" ({ cls := "TestTreeRunner", name := "count", desc := "(I)I" } : Jvm.MethodName) ({ cls := "TestTreeRunner", name := "count", desc := "(I)I" } : Jvm.MethodName)) ∈ lw_all := lw_g (lw_at lw_m1 168 rfl) rfl
theorem q195 : (Jvm.Cond.code ({ cls := "TestTreeRunner", name := "count", desc := "(I)I" } : Jvm.MethodName) prog_1_method_28_code (4 : Nat) (Option.some Jvm.ClassFile.FieldType.int)) ∈ lw_all := lw_g (lw_at lw_m1 169 rfl) rfl
theorem q197 : (Jvm.Cond.instanceMethod ({ cls := "TestTreeRunner", name := "result", desc := "(I)I" } : Jvm.MethodName)) ∈ lw_all := lw_g (lw_at lw_m1 171 rfl) rfl
theorem q198 : (Jvm.Cond.selects "TestTreeRunner" ({ cls := "TestTreeRunner", name := "result", desc := "(I)I" } : Jvm.MethodName) ({ cls := "TestTreeRunner", name := "result", desc := "(I)I" } : Jvm.MethodName)) ∈ lw_all := lw_g (lw_at lw_m1 172 rfl) rfl
theorem q199 : (Jvm.Cond.code ({ cls := "TestTreeRunner", name := "result", desc := "(I)I" } : Jvm.MethodName) prog_1_method_26_code (2 : Nat) (Option.some Jvm.ClassFile.FieldType.int)) ∈ lw_all := lw_g (lw_at lw_m1 173 rfl) rfl
theorem q201 : (Jvm.Cond.instanceMethod ({ cls := "TestTreeRunner", name := "times", desc := "(II)I" } : Jvm.MethodName)) ∈ lw_all := lw_g (lw_at lw_m1 175 rfl) rfl
theorem q202 : (Jvm.Cond.selects "TestTreeRunner" ({ cls := "TestTreeRunner", name := "times", desc := "(II)I" } : Jvm.MethodName) ({ cls := "TestTreeRunner", name := "times", desc := "(II)I" } : Jvm.MethodName)) ∈ lw_all := lw_g (lw_at lw_m1 176 rfl) rfl
theorem q203 : (Jvm.Cond.code ({ cls := "TestTreeRunner", name := "times", desc := "(II)I" } : Jvm.MethodName) prog_1_method_27_code (3 : Nat) (Option.some Jvm.ClassFile.FieldType.int)) ∈ lw_all := lw_g (lw_at lw_m1 177 rfl) rfl
theorem q206 : (Jvm.Cond.instanceMethod ({ cls := "TestTreeRunner", name := "steps", desc := "()I" } : Jvm.MethodName)) ∈ lw_all := lw_g (lw_at lw_m1 180 rfl) rfl
theorem q207 : (Jvm.Cond.selects "TestTreeRunner" ({ cls := "TestTreeRunner", name := "steps", desc := "()I" } : Jvm.MethodName) ({ cls := "TestTreeRunner", name := "steps", desc := "()I" } : Jvm.MethodName)) ∈ lw_all := lw_g (lw_at lw_m1 181 rfl) rfl
theorem q208 : (Jvm.Cond.code ({ cls := "TestTreeRunner", name := "steps", desc := "()I" } : Jvm.MethodName) prog_1_method_29_code (1 : Nat) (Option.some Jvm.ClassFile.FieldType.int)) ∈ lw_all := lw_g (lw_at lw_m1 182 rfl) rfl
theorem q210 : (Jvm.Cond.instanceMethod ({ cls := "TestTreeRunner", name := "attempts", desc := "(I)I" } : Jvm.MethodName)) ∈ lw_all := lw_g (lw_at lw_m1 184 rfl) rfl
theorem q211 : (Jvm.Cond.selects "TestTreeRunner" ({ cls := "TestTreeRunner", name := "attempts", desc := "(I)I" } : Jvm.MethodName) ({ cls := "TestTreeRunner", name := "attempts", desc := "(I)I" } : Jvm.MethodName)) ∈ lw_all := lw_g (lw_at lw_m1 185 rfl) rfl
theorem q212 : (Jvm.Cond.code ({ cls := "TestTreeRunner", name := "attempts", desc := "(I)I" } : Jvm.MethodName) prog_1_method_30_code (2 : Nat) (Option.some Jvm.ClassFile.FieldType.int)) ∈ lw_all := lw_g (lw_at lw_m1 186 rfl) rfl
theorem in_X0 : ∀ w ∈ wsX00, w ∈ lw_all := lw_in wsX00 [60, 62, 64, 66, 68, 70, 72, 74, 76, 78, 80, 82, 84, 86, 88, 90, 92, 94, 96] (by decide +kernel) (by decide +kernel)
end
section
set_option maxRecDepth 100000
theorem dX0_init_0 : decode cX0_init 0 = .ok (.aload_n 0, 1) := by decide +kernel
theorem dX0_init_1 : decode cX0_init 1 = .ok (.invokespecial 1, 3) := by decide +kernel
theorem dX0_init_4 : decode cX0_init 4 = .ok (.aload_n 0, 1) := by decide +kernel
theorem dX0_init_5 : decode cX0_init 5 = .ok (.bipush 24, 2) := by decide +kernel
theorem dX0_init_7 : decode cX0_init 7 = .ok (.newarray .boolean, 2) := by decide +kernel
theorem dX0_init_9 : decode cX0_init 9 = .ok (.putfield 7, 3) := by decide +kernel
theorem dX0_init_12 : decode cX0_init 12 = .ok (.aload_n 0, 1) := by decide +kernel
theorem dX0_init_13 : decode cX0_init 13 = .ok (.bipush 24, 2) := by decide +kernel
theorem dX0_init_15 : decode cX0_init 15 = .ok (.newarray .int, 2) := by decide +kernel
theorem dX0_init_17 : decode cX0_init 17 = .ok (.putfield 13, 3) := by decide +kernel
theorem dX0_init_20 : decode cX0_init 20 = .ok (.aload_n 0, 1) := by decide +kernel
theorem dX0_init_21 : decode cX0_init 21 = .ok (.bipush 24, 2) := by decide +kernel
theorem dX0_init_23 : decode cX0_init 23 = .ok (.newarray .int, 2) := by decide +kernel
theorem dX0_init_25 : decode cX0_init 25 = .ok (.putfield 17, 3) := by decide +kernel
theorem dX0_init_28 : decode cX0_init 28 = .ok (.aload_n 0, 1) := by decide +kernel
theorem dX0_init_29 : decode cX0_init 29 = .ok (.bipush 24, 2) := by decide +kernel
theorem dX0_init_31 : decode cX0_init 31 = .ok (.newarray .int, 2) := by decide +kernel
theorem dX0_init_33 : decode cX0_init 33 = .ok (.putfield 20, 3) := by decide +kernel
theorem dX0_init_36 : decode cX0_init 36 = .ok (.aload_n 0, 1) := by decide +kernel
theorem dX0_init_37 : decode cX0_init 37 = .ok (.bipush 24, 2) := by decide +kernel
theorem dX0_init_39 : decode cX0_init 39 = .ok (.newarray .int, 2) := by decide +kernel
theorem dX0_init_41 : decode cX0_init 41 = .ok (.putfield 23, 3) := by decide +kernel
theorem dX0_init_44 : decode cX0_init 44 = .ok (.aload_n 0, 1) := by decide +kernel
theorem dX0_init_45 : decode cX0_init 45 = .ok (.bipush 96, 2) := by decide +kernel
theorem dX0_init_47 : decode cX0_init 47 = .ok (.newarray .int, 2) := by decide +kernel
theorem dX0_init_49 : decode cX0_init 49 = .ok (.putfield 26, 3) := by decide +kernel
theorem dX0_init_52 : decode cX0_init 52 = .ok (.aload_n 0, 1) := by decide +kernel
theorem dX0_init_53 : decode cX0_init 53 = .ok (.bipush 24, 2) := by decide +kernel
theorem dX0_init_55 : decode cX0_init 55 = .ok (.newarray .int, 2) := by decide +kernel
theorem dX0_init_57 : decode cX0_init 57 = .ok (.putfield 29, 3) := by decide +kernel
theorem dX0_init_60 : decode cX0_init 60 = .ok (.aload_n 0, 1) := by decide +kernel
theorem dX0_init_61 : decode cX0_init 61 = .ok (.bipush 24, 2) := by decide +kernel
theorem dX0_init_63 : decode cX0_init 63 = .ok (.newarray .int, 2) := by decide +kernel
theorem dX0_init_65 : decode cX0_init 65 = .ok (.putfield 32, 3) := by decide +kernel
theorem dX0_init_68 : decode cX0_init 68 = .ok (.aload_n 0, 1) := by decide +kernel
theorem dX0_init_69 : decode cX0_init 69 = .ok (.bipush 24, 2) := by decide +kernel
theorem dX0_init_71 : decode cX0_init 71 = .ok (.newarray .int, 2) := by decide +kernel
theorem dX0_init_73 : decode cX0_init 73 = .ok (.putfield 35, 3) := by decide +kernel
theorem dX0_init_76 : decode cX0_init 76 = .ok (.aload_n 0, 1) := by decide +kernel
theorem dX0_init_77 : decode cX0_init 77 = .ok (.bipush 24, 2) := by decide +kernel
theorem dX0_init_79 : decode cX0_init 79 = .ok (.newarray .boolean, 2) := by decide +kernel
theorem dX0_init_81 : decode cX0_init 81 = .ok (.putfield 38, 3) := by decide +kernel
theorem dX0_init_84 : decode cX0_init 84 = .ok (.aload_n 0, 1) := by decide +kernel
theorem dX0_init_85 : decode cX0_init 85 = .ok (.bipush 24, 2) := by decide +kernel
theorem dX0_init_87 : decode cX0_init 87 = .ok (.newarray .int, 2) := by decide +kernel
theorem dX0_init_89 : decode cX0_init 89 = .ok (.putfield 41, 3) := by decide +kernel
theorem dX0_init_92 : decode cX0_init 92 = .ok (.aload_n 0, 1) := by decide +kernel
theorem dX0_init_93 : decode cX0_init 93 = .ok (.bipush 96, 2) := by decide +kernel
theorem dX0_init_95 : decode cX0_init 95 = .ok (.newarray .int, 2) := by decide +kernel
theorem dX0_init_97 : decode cX0_init 97 = .ok (.putfield 44, 3) := by decide +kernel
theorem dX0_init_100 : decode cX0_init 100 = .ok (.aload_n 0, 1) := by decide +kernel
theorem dX0_init_101 : decode cX0_init 101 = .ok (.bipush 24, 2) := by decide +kernel
theorem dX0_init_103 : decode cX0_init 103 = .ok (.newarray .int, 2) := by decide +kernel
theorem dX0_init_105 : decode cX0_init 105 = .ok (.putfield 47, 3) := by decide +kernel
theorem dX0_init_108 : decode cX0_init 108 = .ok (.aload_n 0, 1) := by decide +kernel
theorem dX0_init_109 : decode cX0_init 109 = .ok (.bipush 24, 2) := by decide +kernel
theorem dX0_init_111 : decode cX0_init 111 = .ok (.newarray .boolean, 2) := by decide +kernel
theorem dX0_init_113 : decode cX0_init 113 = .ok (.putfield 50, 3) := by decide +kernel
theorem dX0_init_116 : decode cX0_init 116 = .ok (.aload_n 0, 1) := by decide +kernel
theorem dX0_init_117 : decode cX0_init 117 = .ok (.bipush 24, 2) := by decide +kernel
theorem dX0_init_119 : decode cX0_init 119 = .ok (.newarray .int, 2) := by decide +kernel
theorem dX0_init_121 : decode cX0_init 121 = .ok (.putfield 53, 3) := by decide +kernel
theorem dX0_init_124 : decode cX0_init 124 = .ok (.aload_n 0, 1) := by decide +kernel
theorem dX0_init_125 : decode cX0_init 125 = .ok (.iconst 1, 1) := by decide +kernel
theorem dX0_init_126 : decode cX0_init 126 = .ok (.putfield 56, 3) := by decide +kernel
theorem dX0_init_129 : decode cX0_init 129 = .ok (.aload_n 0, 1) := by decide +kernel
theorem dX0_init_130 : decode cX0_init 130 = .ok (.iconst 0, 1) := by decide +kernel
theorem dX0_init_131 : decode cX0_init 131 = .ok (.iconst (-1), 1) := by decide +kernel
theorem dX0_init_132 : decode cX0_init 132 = .ok (.iconst 0, 1) := by decide +kernel
theorem dX0_init_133 : decode cX0_init 133 = .ok (.invokevirtual 60, 3) := by decide +kernel
theorem dX0_init_136 : decode cX0_init 136 = .ok (.return_, 1) := by decide +kernel
theorem dX0_clearNode_0 : decode cX0_clearNode 0 = .ok (.aload_n 0, 1) := by decide +kernel
theorem dX0_clearNode_1 : decode cX0_clearNode 1 = .ok (.getfield 7, 3) := by decide +kernel
theorem dX0_clearNode_4 : decode cX0_clearNode 4 = .ok (.iload_n 1, 1) := by decide +kernel
theorem dX0_clearNode_5 : decode cX0_clearNode 5 = .ok (.iload_n 3, 1) := by decide +kernel
theorem dX0_clearNode_6 : decode cX0_clearNode 6 = .ok (.bastore, 1) := by decide +kernel
theorem dX0_clearNode_7 : decode cX0_clearNode 7 = .ok (.aload_n 0, 1) := by decide +kernel
theorem dX0_clearNode_8 : decode cX0_clearNode 8 = .ok (.getfield 13, 3) := by decide +kernel
theorem dX0_clearNode_11 : decode cX0_clearNode 11 = .ok (.iload_n 1, 1) := by decide +kernel
theorem dX0_clearNode_12 : decode cX0_clearNode 12 = .ok (.iload_n 2, 1) := by decide +kernel
theorem dX0_clearNode_13 : decode cX0_clearNode 13 = .ok (.iastore, 1) := by decide +kernel
theorem dX0_clearNode_14 : decode cX0_clearNode 14 = .ok (.aload_n 0, 1) := by decide +kernel
theorem dX0_clearNode_15 : decode cX0_clearNode 15 = .ok (.getfield 17, 3) := by decide +kernel
theorem dX0_clearNode_18 : decode cX0_clearNode 18 = .ok (.iload_n 1, 1) := by decide +kernel
theorem dX0_clearNode_19 : decode cX0_clearNode 19 = .ok (.iconst (-1), 1) := by decide +kernel
theorem dX0_clearNode_20 : decode cX0_clearNode 20 = .ok (.iastore, 1) := by decide +kernel
theorem dX0_clearNode_21 : decode cX0_clearNode 21 = .ok (.aload_n 0, 1) := by decide +kernel
theorem dX0_clearNode_22 : decode cX0_clearNode 22 = .ok (.getfield 20, 3) := by decide +kernel
theorem dX0_clearNode_25 : decode cX0_clearNode 25 = .ok (.iload_n 1, 1) := by decide +kernel
theorem dX0_clearNode_26 : decode cX0_clearNode 26 = .ok (.iconst (-1), 1) := by decide +kernel
theorem dX0_clearNode_27 : decode cX0_clearNode 27 = .ok (.iastore, 1) := by decide +kernel
theorem dX0_clearNode_28 : decode cX0_clearNode 28 = .ok (.aload_n 0, 1) := by decide +kernel
theorem dX0_clearNode_29 : decode cX0_clearNode 29 = .ok (.getfield 23, 3) := by decide +kernel
theorem dX0_clearNode_32 : decode cX0_clearNode 32 = .ok (.iload_n 1, 1) := by decide +kernel
theorem dX0_clearNode_33 : decode cX0_clearNode 33 = .ok (.iconst (-1), 1) := by decide +kernel
theorem dX0_clearNode_34 : decode cX0_clearNode 34 = .ok (.iastore, 1) := by decide +kernel
theorem dX0_clearNode_35 : decode cX0_clearNode 35 = .ok (.aload_n 0, 1) := by decide +kernel
theorem dX0_clearNode_36 : decode cX0_clearNode 36 = .ok (.getfield 29, 3) := by decide +kernel
theorem dX0_clearNode_39 : decode cX0_clearNode 39 = .ok (.iload_n 1, 1) := by decide +kernel
theorem dX0_clearNode_40 : decode cX0_clearNode 40 = .ok (.iconst 1, 1) := by decide +kernel
theorem dX0_clearNode_41 : decode cX0_clearNode 41 = .ok (.iastore, 1) := by decide +kernel
theorem dX0_clearNode_42 : decode cX0_clearNode 42 = .ok (.aload_n 0, 1) := by decide +kernel
theorem dX0_clearNode_43 : decode cX0_clearNode 43 = .ok (.getfield 32, 3) := by decide +kernel
theorem dX0_clearNode_46 : decode cX0_clearNode 46 = .ok (.iload_n 1, 1) := by decide +kernel
theorem dX0_clearNode_47 : decode cX0_clearNode 47 = .ok (.iconst 1, 1) := by decide +kernel
theorem dX0_clearNode_48 : decode cX0_clearNode 48 = .ok (.iastore, 1) := by decide +kernel
theorem dX0_clearNode_49 : decode cX0_clearNode 49 = .ok (.aload_n 0, 1) := by decide +kernel
theorem dX0_clearNode_50 : decode cX0_clearNode 50 = .ok (.getfield 35, 3) := by decide +kernel
theorem dX0_clearNode_53 : decode cX0_clearNode 53 = .ok (.iload_n 1, 1) := by decide +kernel
theorem dX0_clearNode_54 : decode cX0_clearNode 54 = .ok (.iconst 1, 1) := by decide +kernel
theorem dX0_clearNode_55 : decode cX0_clearNode 55 = .ok (.iastore, 1) := by decide +kernel
theorem dX0_clearNode_56 : decode cX0_clearNode 56 = .ok (.return_, 1) := by decide +kernel
theorem dX0_container_0 : decode cX0_container 0 = .ok (.aload_n 0, 1) := by decide +kernel
theorem dX0_container_1 : decode cX0_container 1 = .ok (.iload_n 1, 1) := by decide +kernel
theorem dX0_container_2 : decode cX0_container 2 = .ok (.iconst 0, 1) := by decide +kernel
theorem dX0_container_3 : decode cX0_container 3 = .ok (.invokevirtual 71, 3) := by decide +kernel
theorem dX0_container_6 : decode cX0_container 6 = .ok (.ireturn, 1) := by decide +kernel
theorem dX0_add_0 : decode cX0_add 0 = .ok (.aload_n 0, 1) := by decide +kernel
theorem dX0_add_1 : decode cX0_add 1 = .ok (.iload_n 1, 1) := by decide +kernel
theorem dX0_add_2 : decode cX0_add 2 = .ok (.invokevirtual 68, 3) := by decide +kernel
theorem dX0_add_5 : decode cX0_add 5 = .ok (.ifCond .eq 5, 3) := by decide +kernel
theorem dX0_add_8 : decode cX0_add 8 = .ok (.iconst (-1), 1) := by decide +kernel
theorem dX0_add_9 : decode cX0_add 9 = .ok (.ireturn, 1) := by decide +kernel
theorem dX0_add_10 : decode cX0_add 10 = .ok (.aload_n 0, 1) := by decide +kernel
theorem dX0_add_11 : decode cX0_add 11 = .ok (.getfield 56, 3) := by decide +kernel
theorem dX0_add_14 : decode cX0_add 14 = .ok (.bipush 24, 2) := by decide +kernel
theorem dX0_add_16 : decode cX0_add 16 = .ok (.if_icmp .lt 6, 3) := by decide +kernel
theorem dX0_add_19 : decode cX0_add 19 = .ok (.bipush (-2), 2) := by decide +kernel
theorem dX0_add_21 : decode cX0_add 21 = .ok (.ireturn, 1) := by decide +kernel
theorem dX0_add_22 : decode cX0_add 22 = .ok (.aload_n 0, 1) := by decide +kernel
theorem dX0_add_23 : decode cX0_add 23 = .ok (.getfield 56, 3) := by decide +kernel
theorem dX0_add_26 : decode cX0_add 26 = .ok (.istore_n 3, 1) := by decide +kernel
theorem dX0_add_27 : decode cX0_add 27 = .ok (.aload_n 0, 1) := by decide +kernel
theorem dX0_add_28 : decode cX0_add 28 = .ok (.iload_n 3, 1) := by decide +kernel
theorem dX0_add_29 : decode cX0_add 29 = .ok (.iload_n 1, 1) := by decide +kernel
theorem dX0_add_30 : decode cX0_add 30 = .ok (.iload_n 2, 1) := by decide +kernel
theorem dX0_add_31 : decode cX0_add 31 = .ok (.invokevirtual 60, 3) := by decide +kernel
theorem dX0_add_34 : decode cX0_add 34 = .ok (.aload_n 0, 1) := by decide +kernel
theorem dX0_add_35 : decode cX0_add 35 = .ok (.getfield 20, 3) := by decide +kernel
theorem dX0_add_38 : decode cX0_add 38 = .ok (.iload_n 1, 1) := by decide +kernel
theorem dX0_add_39 : decode cX0_add 39 = .ok (.iaload, 1) := by decide +kernel
theorem dX0_add_40 : decode cX0_add 40 = .ok (.ifCond .ge 13, 3) := by decide +kernel
theorem dX0_add_43 : decode cX0_add 43 = .ok (.aload_n 0, 1) := by decide +kernel
theorem dX0_add_44 : decode cX0_add 44 = .ok (.getfield 17, 3) := by decide +kernel
theorem dX0_add_47 : decode cX0_add 47 = .ok (.iload_n 1, 1) := by decide +kernel
theorem dX0_add_48 : decode cX0_add 48 = .ok (.iload_n 3, 1) := by decide +kernel
theorem dX0_add_49 : decode cX0_add 49 = .ok (.iastore, 1) := by decide +kernel
theorem dX0_add_50 : decode cX0_add 50 = .ok (.goto 15, 3) := by decide +kernel
theorem dX0_add_53 : decode cX0_add 53 = .ok (.aload_n 0, 1) := by decide +kernel
theorem dX0_add_54 : decode cX0_add 54 = .ok (.getfield 23, 3) := by decide +kernel
theorem dX0_add_57 : decode cX0_add 57 = .ok (.aload_n 0, 1) := by decide +kernel
theorem dX0_add_58 : decode cX0_add 58 = .ok (.getfield 20, 3) := by decide +kernel
theorem dX0_add_61 : decode cX0_add 61 = .ok (.iload_n 1, 1) := by decide +kernel
theorem dX0_add_62 : decode cX0_add 62 = .ok (.iaload, 1) := by decide +kernel
theorem dX0_add_63 : decode cX0_add 63 = .ok (.iload_n 3, 1) := by decide +kernel
theorem dX0_add_64 : decode cX0_add 64 = .ok (.iastore, 1) := by decide +kernel
theorem dX0_add_65 : decode cX0_add 65 = .ok (.aload_n 0, 1) := by decide +kernel
theorem dX0_add_66 : decode cX0_add 66 = .ok (.getfield 20, 3) := by decide +kernel
theorem dX0_add_69 : decode cX0_add 69 = .ok (.iload_n 1, 1) := by decide +kernel
theorem dX0_add_70 : decode cX0_add 70 = .ok (.iload_n 3, 1) := by decide +kernel
theorem dX0_add_71 : decode cX0_add 71 = .ok (.iastore, 1) := by decide +kernel
theorem dX0_add_72 : decode cX0_add 72 = .ok (.aload_n 0, 1) := by decide +kernel
theorem dX0_add_73 : decode cX0_add 73 = .ok (.dup, 1) := by decide +kernel
theorem dX0_add_74 : decode cX0_add 74 = .ok (.getfield 56, 3) := by decide +kernel
theorem dX0_add_77 : decode cX0_add 77 = .ok (.iconst 1, 1) := by decide +kernel
theorem dX0_add_78 : decode cX0_add 78 = .ok (.iadd, 1) := by decide +kernel
theorem dX0_add_79 : decode cX0_add 79 = .ok (.putfield 56, 3) := by decide +kernel
theorem dX0_add_82 : decode cX0_add 82 = .ok (.iload_n 3, 1) := by decide +kernel
theorem dX0_add_83 : decode cX0_add 83 = .ok (.ireturn, 1) := by decide +kernel
theorem dX0_noContainer_0 : decode cX0_noContainer 0 = .ok (.aload_n 0, 1) := by decide +kernel
theorem dX0_noContainer_1 : decode cX0_noContainer 1 = .ok (.iload_n 1, 1) := by decide +kernel
theorem dX0_noContainer_2 : decode cX0_noContainer 2 = .ok (.invokevirtual 64, 3) := by decide +kernel
theorem dX0_noContainer_5 : decode cX0_noContainer 5 = .ok (.ifCond .ne 12, 3) := by decide +kernel
theorem dX0_noContainer_8 : decode cX0_noContainer 8 = .ok (.aload_n 0, 1) := by decide +kernel
theorem dX0_noContainer_9 : decode cX0_noContainer 9 = .ok (.getfield 7, 3) := by decide +kernel
theorem dX0_noContainer_12 : decode cX0_noContainer 12 = .ok (.iload_n 1, 1) := by decide +kernel
theorem dX0_noContainer_13 : decode cX0_noContainer 13 = .ok (.baload, 1) := by decide +kernel
theorem dX0_noContainer_14 : decode cX0_noContainer 14 = .ok (.ifCond .eq 7, 3) := by decide +kernel
theorem dX0_noContainer_17 : decode cX0_noContainer 17 = .ok (.iconst 1, 1) := by decide +kernel
theorem dX0_noContainer_18 : decode cX0_noContainer 18 = .ok (.goto 4, 3) := by decide +kernel
theorem dX0_noContainer_21 : decode cX0_noContainer 21 = .ok (.iconst 0, 1) := by decide +kernel
theorem dX0_noContainer_22 : decode cX0_noContainer 22 = .ok (.ireturn, 1) := by decide +kernel
theorem dX0_noNode_0 : decode cX0_noNode 0 = .ok (.iload_n 1, 1) := by decide +kernel
theorem dX0_noNode_1 : decode cX0_noNode 1 = .ok (.ifCond .lt 11, 3) := by decide +kernel
theorem dX0_noNode_4 : decode cX0_noNode 4 = .ok (.iload_n 1, 1) := by decide +kernel
theorem dX0_noNode_5 : decode cX0_noNode 5 = .ok (.aload_n 0, 1) := by decide +kernel
theorem dX0_noNode_6 : decode cX0_noNode 6 = .ok (.getfield 56, 3) := by decide +kernel
theorem dX0_noNode_9 : decode cX0_noNode 9 = .ok (.if_icmp .lt 7, 3) := by decide +kernel
theorem dX0_noNode_12 : decode cX0_noNode 12 = .ok (.iconst 1, 1) := by decide +kernel
theorem dX0_noNode_13 : decode cX0_noNode 13 = .ok (.goto 4, 3) := by decide +kernel
theorem dX0_noNode_16 : decode cX0_noNode 16 = .ok (.iconst 0, 1) := by decide +kernel
theorem dX0_noNode_17 : decode cX0_noNode 17 = .ok (.ireturn, 1) := by decide +kernel
theorem dX0_test_0 : decode cX0_test 0 = .ok (.aload_n 0, 1) := by decide +kernel
theorem dX0_test_1 : decode cX0_test 1 = .ok (.iload_n 1, 1) := by decide +kernel
theorem dX0_test_2 : decode cX0_test 2 = .ok (.iconst 1, 1) := by decide +kernel
theorem dX0_test_3 : decode cX0_test 3 = .ok (.invokevirtual 71, 3) := by decide +kernel
theorem dX0_test_6 : decode cX0_test 6 = .ok (.ireturn, 1) := by decide +kernel
theorem dX0_hook_0 : decode cX0_hook 0 = .ok (.aload_n 0, 1) := by decide +kernel
theorem dX0_hook_1 : decode cX0_hook 1 = .ok (.iload_n 1, 1) := by decide +kernel
theorem dX0_hook_2 : decode cX0_hook 2 = .ok (.invokevirtual 68, 3) := by decide +kernel
theorem dX0_hook_5 : decode cX0_hook 5 = .ok (.ifCond .eq 5, 3) := by decide +kernel
theorem dX0_hook_8 : decode cX0_hook 8 = .ok (.iconst (-1), 1) := by decide +kernel
theorem dX0_hook_9 : decode cX0_hook 9 = .ok (.ireturn, 1) := by decide +kernel
theorem dX0_hook_10 : decode cX0_hook 10 = .ok (.iload_n 2, 1) := by decide +kernel
theorem dX0_hook_11 : decode cX0_hook 11 = .ok (.ifCond .lt 17, 3) := by decide +kernel
theorem dX0_hook_14 : decode cX0_hook 14 = .ok (.iload_n 2, 1) := by decide +kernel
theorem dX0_hook_15 : decode cX0_hook 15 = .ok (.iconst 3, 1) := by decide +kernel
theorem dX0_hook_16 : decode cX0_hook 16 = .ok (.if_icmp .gt 12, 3) := by decide +kernel
theorem dX0_hook_19 : decode cX0_hook 19 = .ok (.iload_n 3, 1) := by decide +kernel
theorem dX0_hook_20 : decode cX0_hook 20 = .ok (.ifCond .lt 8, 3) := by decide +kernel
theorem dX0_hook_23 : decode cX0_hook 23 = .ok (.iload_n 3, 1) := by decide +kernel
theorem dX0_hook_24 : decode cX0_hook 24 = .ok (.iconst 3, 1) := by decide +kernel
theorem dX0_hook_25 : decode cX0_hook 25 = .ok (.if_icmp .le 6, 3) := by decide +kernel
theorem dX0_hook_28 : decode cX0_hook 28 = .ok (.bipush (-3), 2) := by decide +kernel
theorem dX0_hook_30 : decode cX0_hook 30 = .ok (.ireturn, 1) := by decide +kernel
theorem dX0_hook_31 : decode cX0_hook 31 = .ok (.aload_n 0, 1) := by decide +kernel
theorem dX0_hook_32 : decode cX0_hook 32 = .ok (.getfield 26, 3) := by decide +kernel
theorem dX0_hook_35 : decode cX0_hook 35 = .ok (.iload_n 1, 1) := by decide +kernel
theorem dX0_hook_36 : decode cX0_hook 36 = .ok (.iconst 4, 1) := by decide +kernel
theorem dX0_hook_37 : decode cX0_hook 37 = .ok (.imul, 1) := by decide +kernel
theorem dX0_hook_38 : decode cX0_hook 38 = .ok (.iload_n 2, 1) := by decide +kernel
theorem dX0_hook_39 : decode cX0_hook 39 = .ok (.iadd, 1) := by decide +kernel
theorem dX0_hook_40 : decode cX0_hook 40 = .ok (.iaload, 1) := by decide +kernel
theorem dX0_hook_41 : decode cX0_hook 41 = .ok (.istore 4, 2) := by decide +kernel
theorem dX0_hook_43 : decode cX0_hook 43 = .ok (.aload_n 0, 1) := by decide +kernel
theorem dX0_hook_44 : decode cX0_hook 44 = .ok (.getfield 26, 3) := by decide +kernel
theorem dX0_hook_47 : decode cX0_hook 47 = .ok (.iload_n 1, 1) := by decide +kernel
theorem dX0_hook_48 : decode cX0_hook 48 = .ok (.iconst 4, 1) := by decide +kernel
theorem dX0_hook_49 : decode cX0_hook 49 = .ok (.imul, 1) := by decide +kernel
theorem dX0_hook_50 : decode cX0_hook 50 = .ok (.iload_n 2, 1) := by decide +kernel
theorem dX0_hook_51 : decode cX0_hook 51 = .ok (.iadd, 1) := by decide +kernel
theorem dX0_hook_52 : decode cX0_hook 52 = .ok (.iload_n 3, 1) := by decide +kernel
theorem dX0_hook_53 : decode cX0_hook 53 = .ok (.iastore, 1) := by decide +kernel
theorem dX0_hook_54 : decode cX0_hook 54 = .ok (.iload 4, 2) := by decide +kernel
theorem dX0_hook_56 : decode cX0_hook 56 = .ok (.ireturn, 1) := by decide +kernel
theorem dX0_body_0 : decode cX0_body 0 = .ok (.aload_n 0, 1) := by decide +kernel
theorem dX0_body_1 : decode cX0_body 1 = .ok (.iload_n 1, 1) := by decide +kernel
theorem dX0_body_2 : decode cX0_body 2 = .ok (.invokevirtual 75, 3) := by decide +kernel
theorem dX0_body_5 : decode cX0_body 5 = .ok (.ifCond .eq 5, 3) := by decide +kernel
theorem dX0_body_8 : decode cX0_body 8 = .ok (.iconst (-1), 1) := by decide +kernel
theorem dX0_body_9 : decode cX0_body 9 = .ok (.ireturn, 1) := by decide +kernel
theorem dX0_body_10 : decode cX0_body 10 = .ok (.iload_n 2, 1) := by decide +kernel
theorem dX0_body_11 : decode cX0_body 11 = .ok (.iconst 1, 1) := by decide +kernel
theorem dX0_body_12 : decode cX0_body 12 = .ok (.if_icmp .lt 8, 3) := by decide +kernel
theorem dX0_body_15 : decode cX0_body 15 = .ok (.iload_n 2, 1) := by decide +kernel
theorem dX0_body_16 : decode cX0_body 16 = .ok (.iconst 4, 1) := by decide +kernel
theorem dX0_body_17 : decode cX0_body 17 = .ok (.if_icmp .le 6, 3) := by decide +kernel
theorem dX0_body_20 : decode cX0_body 20 = .ok (.bipush (-3), 2) := by decide +kernel
theorem dX0_body_22 : decode cX0_body 22 = .ok (.ireturn, 1) := by decide +kernel
theorem dX0_body_23 : decode cX0_body 23 = .ok (.aload_n 0, 1) := by decide +kernel
theorem dX0_body_24 : decode cX0_body 24 = .ok (.getfield 29, 3) := by decide +kernel
theorem dX0_body_27 : decode cX0_body 27 = .ok (.iload_n 1, 1) := by decide +kernel
theorem dX0_body_28 : decode cX0_body 28 = .ok (.iload_n 2, 1) := by decide +kernel
theorem dX0_body_29 : decode cX0_body 29 = .ok (.iastore, 1) := by decide +kernel
theorem dX0_body_30 : decode cX0_body 30 = .ok (.aload_n 0, 1) := by decide +kernel
theorem dX0_body_31 : decode cX0_body 31 = .ok (.getfield 32, 3) := by decide +kernel
theorem dX0_body_34 : decode cX0_body 34 = .ok (.iload_n 1, 1) := by decide +kernel
theorem dX0_body_35 : decode cX0_body 35 = .ok (.iload_n 3, 1) := by decide +kernel
theorem dX0_body_36 : decode cX0_body 36 = .ok (.iastore, 1) := by decide +kernel
theorem dX0_body_37 : decode cX0_body 37 = .ok (.iconst 0, 1) := by decide +kernel
theorem dX0_body_38 : decode cX0_body 38 = .ok (.ireturn, 1) := by decide +kernel
theorem dX0_noTest_0 : decode cX0_noTest 0 = .ok (.aload_n 0, 1) := by decide +kernel
theorem dX0_noTest_1 : decode cX0_noTest 1 = .ok (.iload_n 1, 1) := by decide +kernel
theorem dX0_noTest_2 : decode cX0_noTest 2 = .ok (.invokevirtual 64, 3) := by decide +kernel
theorem dX0_noTest_5 : decode cX0_noTest 5 = .ok (.ifCond .ne 12, 3) := by decide +kernel
theorem dX0_noTest_8 : decode cX0_noTest 8 = .ok (.aload_n 0, 1) := by decide +kernel
theorem dX0_noTest_9 : decode cX0_noTest 9 = .ok (.getfield 7, 3) := by decide +kernel
theorem dX0_noTest_12 : decode cX0_noTest 12 = .ok (.iload_n 1, 1) := by decide +kernel
theorem dX0_noTest_13 : decode cX0_noTest 13 = .ok (.baload, 1) := by decide +kernel
theorem dX0_noTest_14 : decode cX0_noTest 14 = .ok (.ifCond .ne 7, 3) := by decide +kernel
theorem dX0_noTest_17 : decode cX0_noTest 17 = .ok (.iconst 1, 1) := by decide +kernel
theorem dX0_noTest_18 : decode cX0_noTest 18 = .ok (.goto 4, 3) := by decide +kernel
theorem dX0_noTest_21 : decode cX0_noTest 21 = .ok (.iconst 0, 1) := by decide +kernel
theorem dX0_noTest_22 : decode cX0_noTest 22 = .ok (.ireturn, 1) := by decide +kernel
theorem dX0_tags_0 : decode cX0_tags 0 = .ok (.aload_n 0, 1) := by decide +kernel
theorem dX0_tags_1 : decode cX0_tags 1 = .ok (.iload_n 1, 1) := by decide +kernel
theorem dX0_tags_2 : decode cX0_tags 2 = .ok (.invokevirtual 75, 3) := by decide +kernel
theorem dX0_tags_5 : decode cX0_tags 5 = .ok (.ifCond .eq 5, 3) := by decide +kernel
theorem dX0_tags_8 : decode cX0_tags 8 = .ok (.iconst (-1), 1) := by decide +kernel
theorem dX0_tags_9 : decode cX0_tags 9 = .ok (.ireturn, 1) := by decide +kernel
theorem dX0_tags_10 : decode cX0_tags 10 = .ok (.aload_n 0, 1) := by decide +kernel
theorem dX0_tags_11 : decode cX0_tags 11 = .ok (.getfield 35, 3) := by decide +kernel
theorem dX0_tags_14 : decode cX0_tags 14 = .ok (.iload_n 1, 1) := by decide +kernel
theorem dX0_tags_15 : decode cX0_tags 15 = .ok (.iload_n 2, 1) := by decide +kernel
theorem dX0_tags_16 : decode cX0_tags 16 = .ok (.iastore, 1) := by decide +kernel
theorem dX0_tags_17 : decode cX0_tags 17 = .ok (.iconst 0, 1) := by decide +kernel
theorem dX0_tags_18 : decode cX0_tags 18 = .ok (.ireturn, 1) := by decide +kernel
theorem dX0_disable_0 : decode cX0_disable 0 = .ok (.aload_n 0, 1) := by decide +kernel
theorem dX0_disable_1 : decode cX0_disable 1 = .ok (.iload_n 1, 1) := by decide +kernel
theorem dX0_disable_2 : decode cX0_disable 2 = .ok (.invokevirtual 64, 3) := by decide +kernel
theorem dX0_disable_5 : decode cX0_disable 5 = .ok (.ifCond .eq 5, 3) := by decide +kernel
theorem dX0_disable_8 : decode cX0_disable 8 = .ok (.iconst (-1), 1) := by decide +kernel
theorem dX0_disable_9 : decode cX0_disable 9 = .ok (.ireturn, 1) := by decide +kernel
theorem dX0_disable_10 : decode cX0_disable 10 = .ok (.aload_n 0, 1) := by decide +kernel
theorem dX0_disable_11 : decode cX0_disable 11 = .ok (.getfield 38, 3) := by decide +kernel
theorem dX0_disable_14 : decode cX0_disable 14 = .ok (.iload_n 1, 1) := by decide +kernel
theorem dX0_disable_15 : decode cX0_disable 15 = .ok (.baload, 1) := by decide +kernel
theorem dX0_disable_16 : decode cX0_disable 16 = .ok (.ifCond .eq 7, 3) := by decide +kernel
theorem dX0_disable_19 : decode cX0_disable 19 = .ok (.iconst 1, 1) := by decide +kernel
theorem dX0_disable_20 : decode cX0_disable 20 = .ok (.goto 4, 3) := by decide +kernel
end
section
set_option maxRecDepth 100000
theorem dX0_disable_23 : decode cX0_disable 23 = .ok (.iconst 0, 1) := by decide +kernel
theorem dX0_disable_24 : decode cX0_disable 24 = .ok (.istore_n 3, 1) := by decide +kernel
theorem dX0_disable_25 : decode cX0_disable 25 = .ok (.aload_n 0, 1) := by decide +kernel
theorem dX0_disable_26 : decode cX0_disable 26 = .ok (.getfield 38, 3) := by decide +kernel
theorem dX0_disable_29 : decode cX0_disable 29 = .ok (.iload_n 1, 1) := by decide +kernel
theorem dX0_disable_30 : decode cX0_disable 30 = .ok (.iload_n 2, 1) := by decide +kernel
theorem dX0_disable_31 : decode cX0_disable 31 = .ok (.bastore, 1) := by decide +kernel
theorem dX0_disable_32 : decode cX0_disable 32 = .ok (.iload_n 3, 1) := by decide +kernel
theorem dX0_disable_33 : decode cX0_disable 33 = .ok (.ireturn, 1) := by decide +kernel
theorem dX0_run_0 : decode cX0_run 0 = .ok (.iconst 0, 1) := by decide +kernel
theorem dX0_run_1 : decode cX0_run 1 = .ok (.istore_n 2, 1) := by decide +kernel
theorem dX0_run_2 : decode cX0_run 2 = .ok (.iload_n 2, 1) := by decide +kernel
theorem dX0_run_3 : decode cX0_run 3 = .ok (.bipush 24, 2) := by decide +kernel
theorem dX0_run_5 : decode cX0_run 5 = .ok (.if_icmp .ge 23, 3) := by decide +kernel
theorem dX0_run_8 : decode cX0_run 8 = .ok (.aload_n 0, 1) := by decide +kernel
theorem dX0_run_9 : decode cX0_run 9 = .ok (.getfield 41, 3) := by decide +kernel
theorem dX0_run_12 : decode cX0_run 12 = .ok (.iload_n 2, 1) := by decide +kernel
theorem dX0_run_13 : decode cX0_run 13 = .ok (.iconst 0, 1) := by decide +kernel
theorem dX0_run_14 : decode cX0_run 14 = .ok (.iastore, 1) := by decide +kernel
theorem dX0_run_15 : decode cX0_run 15 = .ok (.aload_n 0, 1) := by decide +kernel
theorem dX0_run_16 : decode cX0_run 16 = .ok (.getfield 47, 3) := by decide +kernel
theorem dX0_run_19 : decode cX0_run 19 = .ok (.iload_n 2, 1) := by decide +kernel
theorem dX0_run_20 : decode cX0_run 20 = .ok (.iconst 0, 1) := by decide +kernel
theorem dX0_run_21 : decode cX0_run 21 = .ok (.iastore, 1) := by decide +kernel
theorem dX0_run_22 : decode cX0_run 22 = .ok (.iinc 2 1, 3) := by decide +kernel
theorem dX0_run_25 : decode cX0_run 25 = .ok (.goto (-23), 3) := by decide +kernel
theorem dX0_run_28 : decode cX0_run 28 = .ok (.iconst 0, 1) := by decide +kernel
theorem dX0_run_29 : decode cX0_run 29 = .ok (.istore_n 2, 1) := by decide +kernel
theorem dX0_run_30 : decode cX0_run 30 = .ok (.iload_n 2, 1) := by decide +kernel
theorem dX0_run_31 : decode cX0_run 31 = .ok (.bipush 96, 2) := by decide +kernel
theorem dX0_run_33 : decode cX0_run 33 = .ok (.if_icmp .ge 16, 3) := by decide +kernel
theorem dX0_run_36 : decode cX0_run 36 = .ok (.aload_n 0, 1) := by decide +kernel
theorem dX0_run_37 : decode cX0_run 37 = .ok (.getfield 44, 3) := by decide +kernel
theorem dX0_run_40 : decode cX0_run 40 = .ok (.iload_n 2, 1) := by decide +kernel
theorem dX0_run_41 : decode cX0_run 41 = .ok (.iconst 0, 1) := by decide +kernel
theorem dX0_run_42 : decode cX0_run 42 = .ok (.iastore, 1) := by decide +kernel
theorem dX0_run_43 : decode cX0_run 43 = .ok (.iinc 2 1, 3) := by decide +kernel
theorem dX0_run_46 : decode cX0_run 46 = .ok (.goto (-16), 3) := by decide +kernel
theorem dX0_run_49 : decode cX0_run 49 = .ok (.aload_n 0, 1) := by decide +kernel
theorem dX0_run_50 : decode cX0_run 50 = .ok (.iconst 0, 1) := by decide +kernel
theorem dX0_run_51 : decode cX0_run 51 = .ok (.putfield 81, 3) := by decide +kernel
theorem dX0_run_54 : decode cX0_run 54 = .ok (.aload_n 0, 1) := by decide +kernel
theorem dX0_run_55 : decode cX0_run 55 = .ok (.iload_n 1, 1) := by decide +kernel
theorem dX0_run_56 : decode cX0_run 56 = .ok (.invokevirtual 121, 3) := by decide +kernel
theorem dX0_run_59 : decode cX0_run 59 = .ok (.aload_n 0, 1) := by decide +kernel
theorem dX0_run_60 : decode cX0_run 60 = .ok (.getfield 50, 3) := by decide +kernel
theorem dX0_run_63 : decode cX0_run 63 = .ok (.iconst 0, 1) := by decide +kernel
theorem dX0_run_64 : decode cX0_run 64 = .ok (.baload, 1) := by decide +kernel
theorem dX0_run_65 : decode cX0_run 65 = .ok (.ifCond .eq 7, 3) := by decide +kernel
theorem dX0_run_68 : decode cX0_run 68 = .ok (.aload_n 0, 1) := by decide +kernel
theorem dX0_run_69 : decode cX0_run 69 = .ok (.invokevirtual 124, 3) := by decide +kernel
theorem dX0_run_72 : decode cX0_run 72 = .ok (.aload_n 0, 1) := by decide +kernel
theorem dX0_run_73 : decode cX0_run 73 = .ok (.iconst 2, 1) := by decide +kernel
theorem dX0_run_74 : decode cX0_run 74 = .ok (.invokevirtual 127, 3) := by decide +kernel
theorem dX0_run_77 : decode cX0_run 77 = .ok (.ireturn, 1) := by decide +kernel
theorem dX0_choose_0 : decode cX0_choose 0 = .ok (.iconst 0, 1) := by decide +kernel
theorem dX0_choose_1 : decode cX0_choose 1 = .ok (.istore_n 2, 1) := by decide +kernel
theorem dX0_choose_2 : decode cX0_choose 2 = .ok (.iload_n 2, 1) := by decide +kernel
theorem dX0_choose_3 : decode cX0_choose 3 = .ok (.aload_n 0, 1) := by decide +kernel
theorem dX0_choose_4 : decode cX0_choose 4 = .ok (.getfield 56, 3) := by decide +kernel
theorem dX0_choose_7 : decode cX0_choose 7 = .ok (.if_icmp .ge 57, 3) := by decide +kernel
theorem dX0_choose_10 : decode cX0_choose 10 = .ok (.aload_n 0, 1) := by decide +kernel
theorem dX0_choose_11 : decode cX0_choose 11 = .ok (.getfield 38, 3) := by decide +kernel
theorem dX0_choose_14 : decode cX0_choose 14 = .ok (.iload_n 2, 1) := by decide +kernel
theorem dX0_choose_15 : decode cX0_choose 15 = .ok (.baload, 1) := by decide +kernel
theorem dX0_choose_16 : decode cX0_choose 16 = .ok (.ifCond .ne 21, 3) := by decide +kernel
theorem dX0_choose_19 : decode cX0_choose 19 = .ok (.iload_n 2, 1) := by decide +kernel
theorem dX0_choose_20 : decode cX0_choose 20 = .ok (.ifCond .le 21, 3) := by decide +kernel
theorem dX0_choose_23 : decode cX0_choose 23 = .ok (.aload_n 0, 1) := by decide +kernel
theorem dX0_choose_24 : decode cX0_choose 24 = .ok (.getfield 50, 3) := by decide +kernel
theorem dX0_choose_27 : decode cX0_choose 27 = .ok (.aload_n 0, 1) := by decide +kernel
theorem dX0_choose_28 : decode cX0_choose 28 = .ok (.getfield 13, 3) := by decide +kernel
theorem dX0_choose_31 : decode cX0_choose 31 = .ok (.iload_n 2, 1) := by decide +kernel
theorem dX0_choose_32 : decode cX0_choose 32 = .ok (.iaload, 1) := by decide +kernel
theorem dX0_choose_33 : decode cX0_choose 33 = .ok (.baload, 1) := by decide +kernel
theorem dX0_choose_34 : decode cX0_choose 34 = .ok (.ifCond .ne 7, 3) := by decide +kernel
theorem dX0_choose_37 : decode cX0_choose 37 = .ok (.iconst 1, 1) := by decide +kernel
theorem dX0_choose_38 : decode cX0_choose 38 = .ok (.goto 4, 3) := by decide +kernel
theorem dX0_choose_41 : decode cX0_choose 41 = .ok (.iconst 0, 1) := by decide +kernel
theorem dX0_choose_42 : decode cX0_choose 42 = .ok (.istore_n 3, 1) := by decide +kernel
theorem dX0_choose_43 : decode cX0_choose 43 = .ok (.aload_n 0, 1) := by decide +kernel
theorem dX0_choose_44 : decode cX0_choose 44 = .ok (.getfield 50, 3) := by decide +kernel
theorem dX0_choose_47 : decode cX0_choose 47 = .ok (.iload_n 2, 1) := by decide +kernel
theorem dX0_choose_48 : decode cX0_choose 48 = .ok (.iload_n 3, 1) := by decide +kernel
theorem dX0_choose_49 : decode cX0_choose 49 = .ok (.ifCond .ne 7, 3) := by decide +kernel
theorem dX0_choose_52 : decode cX0_choose 52 = .ok (.iconst 1, 1) := by decide +kernel
theorem dX0_choose_53 : decode cX0_choose 53 = .ok (.goto 4, 3) := by decide +kernel
theorem dX0_choose_56 : decode cX0_choose 56 = .ok (.iconst 0, 1) := by decide +kernel
theorem dX0_choose_57 : decode cX0_choose 57 = .ok (.bastore, 1) := by decide +kernel
theorem dX0_choose_58 : decode cX0_choose 58 = .ok (.iinc 2 1, 3) := by decide +kernel
theorem dX0_choose_61 : decode cX0_choose 61 = .ok (.goto (-59), 3) := by decide +kernel
theorem dX0_choose_64 : decode cX0_choose 64 = .ok (.aload_n 0, 1) := by decide +kernel
theorem dX0_choose_65 : decode cX0_choose 65 = .ok (.getfield 56, 3) := by decide +kernel
theorem dX0_choose_68 : decode cX0_choose 68 = .ok (.iconst 1, 1) := by decide +kernel
theorem dX0_choose_69 : decode cX0_choose 69 = .ok (.isub, 1) := by decide +kernel
theorem dX0_choose_70 : decode cX0_choose 70 = .ok (.istore_n 2, 1) := by decide +kernel
theorem dX0_choose_71 : decode cX0_choose 71 = .ok (.iload_n 2, 1) := by decide +kernel
theorem dX0_choose_72 : decode cX0_choose 72 = .ok (.ifCond .lt 80, 3) := by decide +kernel
theorem dX0_choose_75 : decode cX0_choose 75 = .ok (.aload_n 0, 1) := by decide +kernel
theorem dX0_choose_76 : decode cX0_choose 76 = .ok (.getfield 7, 3) := by decide +kernel
theorem dX0_choose_79 : decode cX0_choose 79 = .ok (.iload_n 2, 1) := by decide +kernel
theorem dX0_choose_80 : decode cX0_choose 80 = .ok (.baload, 1) := by decide +kernel
theorem dX0_choose_81 : decode cX0_choose 81 = .ok (.ifCond .eq 37, 3) := by decide +kernel
theorem dX0_choose_84 : decode cX0_choose 84 = .ok (.aload_n 0, 1) := by decide +kernel
theorem dX0_choose_85 : decode cX0_choose 85 = .ok (.getfield 50, 3) := by decide +kernel
theorem dX0_choose_88 : decode cX0_choose 88 = .ok (.iload_n 2, 1) := by decide +kernel
theorem dX0_choose_89 : decode cX0_choose 89 = .ok (.aload_n 0, 1) := by decide +kernel
theorem dX0_choose_90 : decode cX0_choose 90 = .ok (.getfield 50, 3) := by decide +kernel
theorem dX0_choose_93 : decode cX0_choose 93 = .ok (.iload_n 2, 1) := by decide +kernel
theorem dX0_choose_94 : decode cX0_choose 94 = .ok (.baload, 1) := by decide +kernel
theorem dX0_choose_95 : decode cX0_choose 95 = .ok (.ifCond .eq 18, 3) := by decide +kernel
theorem dX0_choose_98 : decode cX0_choose 98 = .ok (.aload_n 0, 1) := by decide +kernel
theorem dX0_choose_99 : decode cX0_choose 99 = .ok (.getfield 35, 3) := by decide +kernel
theorem dX0_choose_102 : decode cX0_choose 102 = .ok (.iload_n 2, 1) := by decide +kernel
theorem dX0_choose_103 : decode cX0_choose 103 = .ok (.iaload, 1) := by decide +kernel
theorem dX0_choose_104 : decode cX0_choose 104 = .ok (.iload_n 1, 1) := by decide +kernel
theorem dX0_choose_105 : decode cX0_choose 105 = .ok (.iand, 1) := by decide +kernel
theorem dX0_choose_106 : decode cX0_choose 106 = .ok (.ifCond .eq 7, 3) := by decide +kernel
theorem dX0_choose_109 : decode cX0_choose 109 = .ok (.iconst 1, 1) := by decide +kernel
theorem dX0_choose_110 : decode cX0_choose 110 = .ok (.goto 4, 3) := by decide +kernel
theorem dX0_choose_113 : decode cX0_choose 113 = .ok (.iconst 0, 1) := by decide +kernel
theorem dX0_choose_114 : decode cX0_choose 114 = .ok (.bastore, 1) := by decide +kernel
theorem dX0_choose_115 : decode cX0_choose 115 = .ok (.goto 31, 3) := by decide +kernel
theorem dX0_choose_118 : decode cX0_choose 118 = .ok (.aload_n 0, 1) := by decide +kernel
theorem dX0_choose_119 : decode cX0_choose 119 = .ok (.getfield 50, 3) := by decide +kernel
theorem dX0_choose_122 : decode cX0_choose 122 = .ok (.iload_n 2, 1) := by decide +kernel
theorem dX0_choose_123 : decode cX0_choose 123 = .ok (.aload_n 0, 1) := by decide +kernel
theorem dX0_choose_124 : decode cX0_choose 124 = .ok (.getfield 50, 3) := by decide +kernel
theorem dX0_choose_127 : decode cX0_choose 127 = .ok (.iload_n 2, 1) := by decide +kernel
theorem dX0_choose_128 : decode cX0_choose 128 = .ok (.baload, 1) := by decide +kernel
theorem dX0_choose_129 : decode cX0_choose 129 = .ok (.ifCond .eq 15, 3) := by decide +kernel
theorem dX0_choose_132 : decode cX0_choose 132 = .ok (.aload_n 0, 1) := by decide +kernel
theorem dX0_choose_133 : decode cX0_choose 133 = .ok (.iload_n 2, 1) := by decide +kernel
theorem dX0_choose_134 : decode cX0_choose 134 = .ok (.invokevirtual 78, 3) := by decide +kernel
theorem dX0_choose_137 : decode cX0_choose 137 = .ok (.ifCond .eq 7, 3) := by decide +kernel
theorem dX0_choose_140 : decode cX0_choose 140 = .ok (.iconst 1, 1) := by decide +kernel
theorem dX0_choose_141 : decode cX0_choose 141 = .ok (.goto 4, 3) := by decide +kernel
theorem dX0_choose_144 : decode cX0_choose 144 = .ok (.iconst 0, 1) := by decide +kernel
theorem dX0_choose_145 : decode cX0_choose 145 = .ok (.bastore, 1) := by decide +kernel
theorem dX0_choose_146 : decode cX0_choose 146 = .ok (.iinc 2 (-1), 3) := by decide +kernel
theorem dX0_choose_149 : decode cX0_choose 149 = .ok (.goto (-78), 3) := by decide +kernel
theorem dX0_choose_152 : decode cX0_choose 152 = .ok (.return_, 1) := by decide +kernel
theorem dX0_childTakesPart_0 : decode cX0_childTakesPart 0 = .ok (.aload_n 0, 1) := by decide +kernel
theorem dX0_childTakesPart_1 : decode cX0_childTakesPart 1 = .ok (.getfield 17, 3) := by decide +kernel
theorem dX0_childTakesPart_4 : decode cX0_childTakesPart 4 = .ok (.iload_n 1, 1) := by decide +kernel
theorem dX0_childTakesPart_5 : decode cX0_childTakesPart 5 = .ok (.iaload, 1) := by decide +kernel
theorem dX0_childTakesPart_6 : decode cX0_childTakesPart 6 = .ok (.istore_n 2, 1) := by decide +kernel
theorem dX0_childTakesPart_7 : decode cX0_childTakesPart 7 = .ok (.iconst 0, 1) := by decide +kernel
theorem dX0_childTakesPart_8 : decode cX0_childTakesPart 8 = .ok (.istore_n 3, 1) := by decide +kernel
theorem dX0_childTakesPart_9 : decode cX0_childTakesPart 9 = .ok (.iload_n 3, 1) := by decide +kernel
theorem dX0_childTakesPart_10 : decode cX0_childTakesPart 10 = .ok (.bipush 24, 2) := by decide +kernel
theorem dX0_childTakesPart_12 : decode cX0_childTakesPart 12 = .ok (.if_icmp .ge 31, 3) := by decide +kernel
theorem dX0_childTakesPart_15 : decode cX0_childTakesPart 15 = .ok (.iload_n 2, 1) := by decide +kernel
theorem dX0_childTakesPart_16 : decode cX0_childTakesPart 16 = .ok (.ifCond .lt 27, 3) := by decide +kernel
theorem dX0_childTakesPart_19 : decode cX0_childTakesPart 19 = .ok (.aload_n 0, 1) := by decide +kernel
theorem dX0_childTakesPart_20 : decode cX0_childTakesPart 20 = .ok (.getfield 50, 3) := by decide +kernel
theorem dX0_childTakesPart_23 : decode cX0_childTakesPart 23 = .ok (.iload_n 2, 1) := by decide +kernel
theorem dX0_childTakesPart_24 : decode cX0_childTakesPart 24 = .ok (.baload, 1) := by decide +kernel
theorem dX0_childTakesPart_25 : decode cX0_childTakesPart 25 = .ok (.ifCond .eq 5, 3) := by decide +kernel
theorem dX0_childTakesPart_28 : decode cX0_childTakesPart 28 = .ok (.iconst 1, 1) := by decide +kernel
theorem dX0_childTakesPart_29 : decode cX0_childTakesPart 29 = .ok (.ireturn, 1) := by decide +kernel
theorem dX0_childTakesPart_30 : decode cX0_childTakesPart 30 = .ok (.aload_n 0, 1) := by decide +kernel
theorem dX0_childTakesPart_31 : decode cX0_childTakesPart 31 = .ok (.getfield 23, 3) := by decide +kernel
theorem dX0_childTakesPart_34 : decode cX0_childTakesPart 34 = .ok (.iload_n 2, 1) := by decide +kernel
theorem dX0_childTakesPart_35 : decode cX0_childTakesPart 35 = .ok (.iaload, 1) := by decide +kernel
theorem dX0_childTakesPart_36 : decode cX0_childTakesPart 36 = .ok (.istore_n 2, 1) := by decide +kernel
theorem dX0_childTakesPart_37 : decode cX0_childTakesPart 37 = .ok (.iinc 3 1, 3) := by decide +kernel
theorem dX0_childTakesPart_40 : decode cX0_childTakesPart 40 = .ok (.goto (-31), 3) := by decide +kernel
theorem dX0_childTakesPart_43 : decode cX0_childTakesPart 43 = .ok (.iconst 0, 1) := by decide +kernel
theorem dX0_childTakesPart_44 : decode cX0_childTakesPart 44 = .ok (.ireturn, 1) := by decide +kernel
theorem dX0_walk_0 : decode cX0_walk 0 = .ok (.aload_n 0, 1) := by decide +kernel
theorem dX0_walk_1 : decode cX0_walk 1 = .ok (.iconst 0, 1) := by decide +kernel
theorem dX0_walk_2 : decode cX0_walk 2 = .ok (.putfield 91, 3) := by decide +kernel
theorem dX0_walk_5 : decode cX0_walk 5 = .ok (.aload_n 0, 1) := by decide +kernel
theorem dX0_walk_6 : decode cX0_walk 6 = .ok (.iconst 0, 1) := by decide +kernel
theorem dX0_walk_7 : decode cX0_walk 7 = .ok (.invokevirtual 111, 3) := by decide +kernel
theorem dX0_walk_10 : decode cX0_walk 10 = .ok (.istore_n 1, 1) := by decide +kernel
theorem dX0_walk_11 : decode cX0_walk 11 = .ok (.iconst 0, 1) := by decide +kernel
theorem dX0_walk_12 : decode cX0_walk 12 = .ok (.istore_n 2, 1) := by decide +kernel
theorem dX0_walk_13 : decode cX0_walk 13 = .ok (.iload_n 2, 1) := by decide +kernel
theorem dX0_walk_14 : decode cX0_walk 14 = .ok (.bipush 64, 2) := by decide +kernel
theorem dX0_walk_16 : decode cX0_walk 16 = .ok (.if_icmp .ge 95, 3) := by decide +kernel
theorem dX0_walk_19 : decode cX0_walk 19 = .ok (.aload_n 0, 1) := by decide +kernel
theorem dX0_walk_20 : decode cX0_walk 20 = .ok (.getfield 91, 3) := by decide +kernel
theorem dX0_walk_23 : decode cX0_walk 23 = .ok (.ifCond .le 88, 3) := by decide +kernel
theorem dX0_walk_26 : decode cX0_walk 26 = .ok (.iload_n 1, 1) := by decide +kernel
theorem dX0_walk_27 : decode cX0_walk 27 = .ok (.ifCond .ge 29, 3) := by decide +kernel
theorem dX0_walk_30 : decode cX0_walk 30 = .ok (.aload_n 0, 1) := by decide +kernel
theorem dX0_walk_31 : decode cX0_walk 31 = .ok (.getfield 53, 3) := by decide +kernel
theorem dX0_walk_34 : decode cX0_walk 34 = .ok (.aload_n 0, 1) := by decide +kernel
theorem dX0_walk_35 : decode cX0_walk 35 = .ok (.getfield 91, 3) := by decide +kernel
theorem dX0_walk_38 : decode cX0_walk 38 = .ok (.iconst 1, 1) := by decide +kernel
theorem dX0_walk_39 : decode cX0_walk 39 = .ok (.isub, 1) := by decide +kernel
theorem dX0_walk_40 : decode cX0_walk 40 = .ok (.iaload, 1) := by decide +kernel
theorem dX0_walk_41 : decode cX0_walk 41 = .ok (.istore_n 3, 1) := by decide +kernel
theorem dX0_walk_42 : decode cX0_walk 42 = .ok (.aload_n 0, 1) := by decide +kernel
theorem dX0_walk_43 : decode cX0_walk 43 = .ok (.invokevirtual 115, 3) := by decide +kernel
theorem dX0_walk_46 : decode cX0_walk 46 = .ok (.aload_n 0, 1) := by decide +kernel
theorem dX0_walk_47 : decode cX0_walk 47 = .ok (.getfield 23, 3) := by decide +kernel
theorem dX0_walk_50 : decode cX0_walk 50 = .ok (.iload_n 3, 1) := by decide +kernel
theorem dX0_walk_51 : decode cX0_walk 51 = .ok (.iaload, 1) := by decide +kernel
theorem dX0_walk_52 : decode cX0_walk 52 = .ok (.istore_n 1, 1) := by decide +kernel
theorem dX0_walk_53 : decode cX0_walk 53 = .ok (.goto 52, 3) := by decide +kernel
theorem dX0_walk_56 : decode cX0_walk 56 = .ok (.aload_n 0, 1) := by decide +kernel
theorem dX0_walk_57 : decode cX0_walk 57 = .ok (.getfield 50, 3) := by decide +kernel
theorem dX0_walk_60 : decode cX0_walk 60 = .ok (.iload_n 1, 1) := by decide +kernel
theorem dX0_walk_61 : decode cX0_walk 61 = .ok (.baload, 1) := by decide +kernel
theorem dX0_walk_62 : decode cX0_walk 62 = .ok (.ifCond .ne 13, 3) := by decide +kernel
theorem dX0_walk_65 : decode cX0_walk 65 = .ok (.aload_n 0, 1) := by decide +kernel
theorem dX0_walk_66 : decode cX0_walk 66 = .ok (.getfield 23, 3) := by decide +kernel
theorem dX0_walk_69 : decode cX0_walk 69 = .ok (.iload_n 1, 1) := by decide +kernel
theorem dX0_walk_70 : decode cX0_walk 70 = .ok (.iaload, 1) := by decide +kernel
theorem dX0_walk_71 : decode cX0_walk 71 = .ok (.istore_n 1, 1) := by decide +kernel
theorem dX0_walk_72 : decode cX0_walk 72 = .ok (.goto 33, 3) := by decide +kernel
theorem dX0_walk_75 : decode cX0_walk 75 = .ok (.aload_n 0, 1) := by decide +kernel
theorem dX0_walk_76 : decode cX0_walk 76 = .ok (.getfield 7, 3) := by decide +kernel
theorem dX0_walk_79 : decode cX0_walk 79 = .ok (.iload_n 1, 1) := by decide +kernel
theorem dX0_walk_80 : decode cX0_walk 80 = .ok (.baload, 1) := by decide +kernel
theorem dX0_walk_81 : decode cX0_walk 81 = .ok (.ifCond .eq 18, 3) := by decide +kernel
theorem dX0_walk_84 : decode cX0_walk 84 = .ok (.aload_n 0, 1) := by decide +kernel
theorem dX0_walk_85 : decode cX0_walk 85 = .ok (.iload_n 1, 1) := by decide +kernel
theorem dX0_walk_86 : decode cX0_walk 86 = .ok (.invokevirtual 118, 3) := by decide +kernel
theorem dX0_walk_89 : decode cX0_walk 89 = .ok (.aload_n 0, 1) := by decide +kernel
theorem dX0_walk_90 : decode cX0_walk 90 = .ok (.getfield 23, 3) := by decide +kernel
theorem dX0_walk_93 : decode cX0_walk 93 = .ok (.iload_n 1, 1) := by decide +kernel
theorem dX0_walk_94 : decode cX0_walk 94 = .ok (.iaload, 1) := by decide +kernel
theorem dX0_walk_95 : decode cX0_walk 95 = .ok (.istore_n 1, 1) := by decide +kernel
theorem dX0_walk_96 : decode cX0_walk 96 = .ok (.goto 9, 3) := by decide +kernel
theorem dX0_walk_99 : decode cX0_walk 99 = .ok (.aload_n 0, 1) := by decide +kernel
theorem dX0_walk_100 : decode cX0_walk 100 = .ok (.iload_n 1, 1) := by decide +kernel
theorem dX0_walk_101 : decode cX0_walk 101 = .ok (.invokevirtual 111, 3) := by decide +kernel
theorem dX0_walk_104 : decode cX0_walk 104 = .ok (.istore_n 1, 1) := by decide +kernel
theorem dX0_walk_105 : decode cX0_walk 105 = .ok (.iinc 2 1, 3) := by decide +kernel
theorem dX0_walk_108 : decode cX0_walk 108 = .ok (.goto (-95), 3) := by decide +kernel
theorem dX0_walk_111 : decode cX0_walk 111 = .ok (.return_, 1) := by decide +kernel
theorem dX0_enter_0 : decode cX0_enter 0 = .ok (.aload_n 0, 1) := by decide +kernel
theorem dX0_enter_1 : decode cX0_enter 1 = .ok (.iload_n 1, 1) := by decide +kernel
theorem dX0_enter_2 : decode cX0_enter 2 = .ok (.iconst 0, 1) := by decide +kernel
theorem dX0_enter_3 : decode cX0_enter 3 = .ok (.invokevirtual 94, 3) := by decide +kernel
theorem dX0_enter_6 : decode cX0_enter 6 = .ok (.istore_n 2, 1) := by decide +kernel
theorem dX0_enter_7 : decode cX0_enter 7 = .ok (.aload_n 0, 1) := by decide +kernel
theorem dX0_enter_8 : decode cX0_enter 8 = .ok (.getfield 41, 3) := by decide +kernel
theorem dX0_enter_11 : decode cX0_enter 11 = .ok (.iload_n 1, 1) := by decide +kernel
theorem dX0_enter_12 : decode cX0_enter 12 = .ok (.iconst 1, 1) := by decide +kernel
theorem dX0_enter_13 : decode cX0_enter 13 = .ok (.iload_n 2, 1) := by decide +kernel
theorem dX0_enter_14 : decode cX0_enter 14 = .ok (.invokestatic 87, 3) := by decide +kernel
theorem dX0_enter_17 : decode cX0_enter 17 = .ok (.iastore, 1) := by decide +kernel
theorem dX0_enter_18 : decode cX0_enter 18 = .ok (.aload_n 0, 1) := by decide +kernel
theorem dX0_enter_19 : decode cX0_enter 19 = .ok (.getfield 53, 3) := by decide +kernel
theorem dX0_enter_22 : decode cX0_enter 22 = .ok (.aload_n 0, 1) := by decide +kernel
theorem dX0_enter_23 : decode cX0_enter 23 = .ok (.getfield 91, 3) := by decide +kernel
theorem dX0_enter_26 : decode cX0_enter 26 = .ok (.iload_n 1, 1) := by decide +kernel
theorem dX0_enter_27 : decode cX0_enter 27 = .ok (.iastore, 1) := by decide +kernel
theorem dX0_enter_28 : decode cX0_enter 28 = .ok (.aload_n 0, 1) := by decide +kernel
theorem dX0_enter_29 : decode cX0_enter 29 = .ok (.dup, 1) := by decide +kernel
theorem dX0_enter_30 : decode cX0_enter 30 = .ok (.getfield 91, 3) := by decide +kernel
theorem dX0_enter_33 : decode cX0_enter 33 = .ok (.iconst 1, 1) := by decide +kernel
theorem dX0_enter_34 : decode cX0_enter 34 = .ok (.iadd, 1) := by decide +kernel
theorem dX0_enter_35 : decode cX0_enter 35 = .ok (.putfield 91, 3) := by decide +kernel
theorem dX0_enter_38 : decode cX0_enter 38 = .ok (.aload_n 0, 1) := by decide +kernel
theorem dX0_enter_39 : decode cX0_enter 39 = .ok (.getfield 41, 3) := by decide +kernel
theorem dX0_enter_42 : decode cX0_enter 42 = .ok (.iload_n 1, 1) := by decide +kernel
theorem dX0_enter_43 : decode cX0_enter 43 = .ok (.iaload, 1) := by decide +kernel
theorem dX0_enter_44 : decode cX0_enter 44 = .ok (.iconst 1, 1) := by decide +kernel
theorem dX0_enter_45 : decode cX0_enter 45 = .ok (.if_icmp .ne 12, 3) := by decide +kernel
theorem dX0_enter_48 : decode cX0_enter 48 = .ok (.aload_n 0, 1) := by decide +kernel
theorem dX0_enter_49 : decode cX0_enter 49 = .ok (.getfield 17, 3) := by decide +kernel
theorem dX0_enter_52 : decode cX0_enter 52 = .ok (.iload_n 1, 1) := by decide +kernel
theorem dX0_enter_53 : decode cX0_enter 53 = .ok (.iaload, 1) := by decide +kernel
theorem dX0_enter_54 : decode cX0_enter 54 = .ok (.goto 4, 3) := by decide +kernel
theorem dX0_enter_57 : decode cX0_enter 57 = .ok (.iconst (-1), 1) := by decide +kernel
theorem dX0_enter_58 : decode cX0_enter 58 = .ok (.ireturn, 1) := by decide +kernel
theorem dX0_carryOut_0 : decode cX0_carryOut 0 = .ok (.aload_n 0, 1) := by decide +kernel
theorem dX0_carryOut_1 : decode cX0_carryOut 1 = .ok (.getfield 26, 3) := by decide +kernel
theorem dX0_carryOut_4 : decode cX0_carryOut 4 = .ok (.iload_n 1, 1) := by decide +kernel
theorem dX0_carryOut_5 : decode cX0_carryOut 5 = .ok (.iconst 4, 1) := by decide +kernel
theorem dX0_carryOut_6 : decode cX0_carryOut 6 = .ok (.imul, 1) := by decide +kernel
theorem dX0_carryOut_7 : decode cX0_carryOut 7 = .ok (.iload_n 2, 1) := by decide +kernel
theorem dX0_carryOut_8 : decode cX0_carryOut 8 = .ok (.iadd, 1) := by decide +kernel
theorem dX0_carryOut_9 : decode cX0_carryOut 9 = .ok (.iaload, 1) := by decide +kernel
theorem dX0_carryOut_10 : decode cX0_carryOut 10 = .ok (.istore_n 3, 1) := by decide +kernel
theorem dX0_carryOut_11 : decode cX0_carryOut 11 = .ok (.iload_n 3, 1) := by decide +kernel
theorem dX0_carryOut_12 : decode cX0_carryOut 12 = .ok (.ifCond .eq 27, 3) := by decide +kernel
theorem dX0_carryOut_15 : decode cX0_carryOut 15 = .ok (.aload_n 0, 1) := by decide +kernel
theorem dX0_carryOut_16 : decode cX0_carryOut 16 = .ok (.getfield 44, 3) := by decide +kernel
theorem dX0_carryOut_19 : decode cX0_carryOut 19 = .ok (.iload_n 1, 1) := by decide +kernel
theorem dX0_carryOut_20 : decode cX0_carryOut 20 = .ok (.iconst 4, 1) := by decide +kernel
theorem dX0_carryOut_21 : decode cX0_carryOut 21 = .ok (.imul, 1) := by decide +kernel
theorem dX0_carryOut_22 : decode cX0_carryOut 22 = .ok (.iload_n 2, 1) := by decide +kernel
theorem dX0_carryOut_23 : decode cX0_carryOut 23 = .ok (.iadd, 1) := by decide +kernel
theorem dX0_carryOut_24 : decode cX0_carryOut 24 = .ok (.dup2, 1) := by decide +kernel
theorem dX0_carryOut_25 : decode cX0_carryOut 25 = .ok (.iaload, 1) := by decide +kernel
theorem dX0_carryOut_26 : decode cX0_carryOut 26 = .ok (.iconst 1, 1) := by decide +kernel
theorem dX0_carryOut_27 : decode cX0_carryOut 27 = .ok (.iadd, 1) := by decide +kernel
theorem dX0_carryOut_28 : decode cX0_carryOut 28 = .ok (.iastore, 1) := by decide +kernel
theorem dX0_carryOut_29 : decode cX0_carryOut 29 = .ok (.aload_n 0, 1) := by decide +kernel
theorem dX0_carryOut_30 : decode cX0_carryOut 30 = .ok (.dup, 1) := by decide +kernel
theorem dX0_carryOut_31 : decode cX0_carryOut 31 = .ok (.getfield 81, 3) := by decide +kernel
theorem dX0_carryOut_34 : decode cX0_carryOut 34 = .ok (.iconst 1, 1) := by decide +kernel
theorem dX0_carryOut_35 : decode cX0_carryOut 35 = .ok (.iadd, 1) := by decide +kernel
end
section
set_option maxRecDepth 100000
theorem dX0_carryOut_36 : decode cX0_carryOut 36 = .ok (.putfield 81, 3) := by decide +kernel
theorem dX0_carryOut_39 : decode cX0_carryOut 39 = .ok (.iload_n 3, 1) := by decide +kernel
theorem dX0_carryOut_40 : decode cX0_carryOut 40 = .ok (.ireturn, 1) := by decide +kernel
theorem dX0_worse_0 : decode cX0_worse 0 = .ok (.iload_n 0, 1) := by decide +kernel
theorem dX0_worse_1 : decode cX0_worse 1 = .ok (.iconst 2, 1) := by decide +kernel
theorem dX0_worse_2 : decode cX0_worse 2 = .ok (.if_icmp .eq 8, 3) := by decide +kernel
theorem dX0_worse_5 : decode cX0_worse 5 = .ok (.iload_n 1, 1) := by decide +kernel
theorem dX0_worse_6 : decode cX0_worse 6 = .ok (.iconst 2, 1) := by decide +kernel
theorem dX0_worse_7 : decode cX0_worse 7 = .ok (.if_icmp .ne 5, 3) := by decide +kernel
theorem dX0_worse_10 : decode cX0_worse 10 = .ok (.iconst 2, 1) := by decide +kernel
theorem dX0_worse_11 : decode cX0_worse 11 = .ok (.ireturn, 1) := by decide +kernel
theorem dX0_worse_12 : decode cX0_worse 12 = .ok (.iload_n 0, 1) := by decide +kernel
theorem dX0_worse_13 : decode cX0_worse 13 = .ok (.iconst 3, 1) := by decide +kernel
theorem dX0_worse_14 : decode cX0_worse 14 = .ok (.if_icmp .eq 8, 3) := by decide +kernel
theorem dX0_worse_17 : decode cX0_worse 17 = .ok (.iload_n 1, 1) := by decide +kernel
theorem dX0_worse_18 : decode cX0_worse 18 = .ok (.iconst 3, 1) := by decide +kernel
theorem dX0_worse_19 : decode cX0_worse 19 = .ok (.if_icmp .ne 5, 3) := by decide +kernel
theorem dX0_worse_22 : decode cX0_worse 22 = .ok (.iconst 3, 1) := by decide +kernel
theorem dX0_worse_23 : decode cX0_worse 23 = .ok (.ireturn, 1) := by decide +kernel
theorem dX0_worse_24 : decode cX0_worse 24 = .ok (.iconst 1, 1) := by decide +kernel
theorem dX0_worse_25 : decode cX0_worse 25 = .ok (.ireturn, 1) := by decide +kernel
theorem dX0_leave_0 : decode cX0_leave 0 = .ok (.aload_n 0, 1) := by decide +kernel
theorem dX0_leave_1 : decode cX0_leave 1 = .ok (.dup, 1) := by decide +kernel
theorem dX0_leave_2 : decode cX0_leave 2 = .ok (.getfield 91, 3) := by decide +kernel
theorem dX0_leave_5 : decode cX0_leave 5 = .ok (.iconst 1, 1) := by decide +kernel
theorem dX0_leave_6 : decode cX0_leave 6 = .ok (.isub, 1) := by decide +kernel
theorem dX0_leave_7 : decode cX0_leave 7 = .ok (.putfield 91, 3) := by decide +kernel
theorem dX0_leave_10 : decode cX0_leave 10 = .ok (.aload_n 0, 1) := by decide +kernel
theorem dX0_leave_11 : decode cX0_leave 11 = .ok (.getfield 53, 3) := by decide +kernel
theorem dX0_leave_14 : decode cX0_leave 14 = .ok (.aload_n 0, 1) := by decide +kernel
theorem dX0_leave_15 : decode cX0_leave 15 = .ok (.getfield 91, 3) := by decide +kernel
theorem dX0_leave_18 : decode cX0_leave 18 = .ok (.iaload, 1) := by decide +kernel
theorem dX0_leave_19 : decode cX0_leave 19 = .ok (.istore_n 1, 1) := by decide +kernel
theorem dX0_leave_20 : decode cX0_leave 20 = .ok (.aload_n 0, 1) := by decide +kernel
theorem dX0_leave_21 : decode cX0_leave 21 = .ok (.iload_n 1, 1) := by decide +kernel
theorem dX0_leave_22 : decode cX0_leave 22 = .ok (.iconst 1, 1) := by decide +kernel
theorem dX0_leave_23 : decode cX0_leave 23 = .ok (.invokevirtual 94, 3) := by decide +kernel
theorem dX0_leave_26 : decode cX0_leave 26 = .ok (.istore_n 2, 1) := by decide +kernel
theorem dX0_leave_27 : decode cX0_leave 27 = .ok (.aload_n 0, 1) := by decide +kernel
theorem dX0_leave_28 : decode cX0_leave 28 = .ok (.getfield 41, 3) := by decide +kernel
theorem dX0_leave_31 : decode cX0_leave 31 = .ok (.iload_n 1, 1) := by decide +kernel
theorem dX0_leave_32 : decode cX0_leave 32 = .ok (.aload_n 0, 1) := by decide +kernel
theorem dX0_leave_33 : decode cX0_leave 33 = .ok (.getfield 41, 3) := by decide +kernel
theorem dX0_leave_36 : decode cX0_leave 36 = .ok (.iload_n 1, 1) := by decide +kernel
theorem dX0_leave_37 : decode cX0_leave 37 = .ok (.iaload, 1) := by decide +kernel
theorem dX0_leave_38 : decode cX0_leave 38 = .ok (.iload_n 2, 1) := by decide +kernel
theorem dX0_leave_39 : decode cX0_leave 39 = .ok (.invokestatic 87, 3) := by decide +kernel
theorem dX0_leave_42 : decode cX0_leave 42 = .ok (.iastore, 1) := by decide +kernel
theorem dX0_leave_43 : decode cX0_leave 43 = .ok (.return_, 1) := by decide +kernel
theorem dX0_runTest_0 : decode cX0_runTest 0 = .ok (.iconst 2, 1) := by decide +kernel
theorem dX0_runTest_1 : decode cX0_runTest 1 = .ok (.istore_n 2, 1) := by decide +kernel
theorem dX0_runTest_2 : decode cX0_runTest 2 = .ok (.iconst 0, 1) := by decide +kernel
theorem dX0_runTest_3 : decode cX0_runTest 3 = .ok (.istore_n 3, 1) := by decide +kernel
theorem dX0_runTest_4 : decode cX0_runTest 4 = .ok (.iload_n 3, 1) := by decide +kernel
theorem dX0_runTest_5 : decode cX0_runTest 5 = .ok (.aload_n 0, 1) := by decide +kernel
theorem dX0_runTest_6 : decode cX0_runTest 6 = .ok (.getfield 29, 3) := by decide +kernel
theorem dX0_runTest_9 : decode cX0_runTest 9 = .ok (.iload_n 1, 1) := by decide +kernel
theorem dX0_runTest_10 : decode cX0_runTest 10 = .ok (.iaload, 1) := by decide +kernel
theorem dX0_runTest_11 : decode cX0_runTest 11 = .ok (.if_icmp .ge 31, 3) := by decide +kernel
theorem dX0_runTest_14 : decode cX0_runTest 14 = .ok (.iload_n 2, 1) := by decide +kernel
theorem dX0_runTest_15 : decode cX0_runTest 15 = .ok (.iconst 2, 1) := by decide +kernel
theorem dX0_runTest_16 : decode cX0_runTest 16 = .ok (.if_icmp .ne 26, 3) := by decide +kernel
theorem dX0_runTest_19 : decode cX0_runTest 19 = .ok (.aload_n 0, 1) := by decide +kernel
theorem dX0_runTest_20 : decode cX0_runTest 20 = .ok (.iload_n 1, 1) := by decide +kernel
theorem dX0_runTest_21 : decode cX0_runTest 21 = .ok (.iload_n 3, 1) := by decide +kernel
theorem dX0_runTest_22 : decode cX0_runTest 22 = .ok (.invokevirtual 108, 3) := by decide +kernel
theorem dX0_runTest_25 : decode cX0_runTest 25 = .ok (.istore_n 2, 1) := by decide +kernel
theorem dX0_runTest_26 : decode cX0_runTest 26 = .ok (.aload_n 0, 1) := by decide +kernel
theorem dX0_runTest_27 : decode cX0_runTest 27 = .ok (.getfield 47, 3) := by decide +kernel
theorem dX0_runTest_30 : decode cX0_runTest 30 = .ok (.iload_n 1, 1) := by decide +kernel
theorem dX0_runTest_31 : decode cX0_runTest 31 = .ok (.dup2, 1) := by decide +kernel
theorem dX0_runTest_32 : decode cX0_runTest 32 = .ok (.iaload, 1) := by decide +kernel
theorem dX0_runTest_33 : decode cX0_runTest 33 = .ok (.iconst 1, 1) := by decide +kernel
theorem dX0_runTest_34 : decode cX0_runTest 34 = .ok (.iadd, 1) := by decide +kernel
theorem dX0_runTest_35 : decode cX0_runTest 35 = .ok (.iastore, 1) := by decide +kernel
theorem dX0_runTest_36 : decode cX0_runTest 36 = .ok (.iinc 3 1, 3) := by decide +kernel
theorem dX0_runTest_39 : decode cX0_runTest 39 = .ok (.goto (-35), 3) := by decide +kernel
theorem dX0_runTest_42 : decode cX0_runTest 42 = .ok (.aload_n 0, 1) := by decide +kernel
theorem dX0_runTest_43 : decode cX0_runTest 43 = .ok (.getfield 41, 3) := by decide +kernel
theorem dX0_runTest_46 : decode cX0_runTest 46 = .ok (.iload_n 1, 1) := by decide +kernel
theorem dX0_runTest_47 : decode cX0_runTest 47 = .ok (.iload_n 2, 1) := by decide +kernel
theorem dX0_runTest_48 : decode cX0_runTest 48 = .ok (.iastore, 1) := by decide +kernel
theorem dX0_runTest_49 : decode cX0_runTest 49 = .ok (.return_, 1) := by decide +kernel
theorem dX0_attempt_0 : decode cX0_attempt 0 = .ok (.aload_n 0, 1) := by decide +kernel
theorem dX0_attempt_1 : decode cX0_attempt 1 = .ok (.iconst 1, 1) := by decide +kernel
theorem dX0_attempt_2 : decode cX0_attempt 2 = .ok (.putfield 84, 3) := by decide +kernel
theorem dX0_attempt_5 : decode cX0_attempt 5 = .ok (.aload_n 0, 1) := by decide +kernel
theorem dX0_attempt_6 : decode cX0_attempt 6 = .ok (.invokevirtual 101, 3) := by decide +kernel
theorem dX0_attempt_9 : decode cX0_attempt 9 = .ok (.istore_n 3, 1) := by decide +kernel
theorem dX0_attempt_10 : decode cX0_attempt 10 = .ok (.aload_n 0, 1) := by decide +kernel
theorem dX0_attempt_11 : decode cX0_attempt 11 = .ok (.getfield 84, 3) := by decide +kernel
theorem dX0_attempt_14 : decode cX0_attempt 14 = .ok (.iconst 1, 1) := by decide +kernel
theorem dX0_attempt_15 : decode cX0_attempt 15 = .ok (.if_icmp .ne 39, 3) := by decide +kernel
theorem dX0_attempt_18 : decode cX0_attempt 18 = .ok (.aload_n 0, 1) := by decide +kernel
theorem dX0_attempt_19 : decode cX0_attempt 19 = .ok (.getfield 44, 3) := by decide +kernel
theorem dX0_attempt_22 : decode cX0_attempt 22 = .ok (.iload_n 1, 1) := by decide +kernel
theorem dX0_attempt_23 : decode cX0_attempt 23 = .ok (.iconst 4, 1) := by decide +kernel
theorem dX0_attempt_24 : decode cX0_attempt 24 = .ok (.imul, 1) := by decide +kernel
theorem dX0_attempt_25 : decode cX0_attempt 25 = .ok (.dup2, 1) := by decide +kernel
theorem dX0_attempt_26 : decode cX0_attempt 26 = .ok (.iaload, 1) := by decide +kernel
theorem dX0_attempt_27 : decode cX0_attempt 27 = .ok (.iconst 1, 1) := by decide +kernel
theorem dX0_attempt_28 : decode cX0_attempt 28 = .ok (.iadd, 1) := by decide +kernel
theorem dX0_attempt_29 : decode cX0_attempt 29 = .ok (.iastore, 1) := by decide +kernel
theorem dX0_attempt_30 : decode cX0_attempt 30 = .ok (.aload_n 0, 1) := by decide +kernel
theorem dX0_attempt_31 : decode cX0_attempt 31 = .ok (.dup, 1) := by decide +kernel
theorem dX0_attempt_32 : decode cX0_attempt 32 = .ok (.getfield 81, 3) := by decide +kernel
theorem dX0_attempt_35 : decode cX0_attempt 35 = .ok (.iconst 1, 1) := by decide +kernel
theorem dX0_attempt_36 : decode cX0_attempt 36 = .ok (.iadd, 1) := by decide +kernel
theorem dX0_attempt_37 : decode cX0_attempt 37 = .ok (.putfield 81, 3) := by decide +kernel
theorem dX0_attempt_40 : decode cX0_attempt 40 = .ok (.aload_n 0, 1) := by decide +kernel
theorem dX0_attempt_41 : decode cX0_attempt 41 = .ok (.iload_n 1, 1) := by decide +kernel
theorem dX0_attempt_42 : decode cX0_attempt 42 = .ok (.iload_n 2, 1) := by decide +kernel
theorem dX0_attempt_43 : decode cX0_attempt 43 = .ok (.invokevirtual 105, 3) := by decide +kernel
theorem dX0_attempt_46 : decode cX0_attempt 46 = .ok (.istore 4, 2) := by decide +kernel
theorem dX0_attempt_48 : decode cX0_attempt 48 = .ok (.aload_n 0, 1) := by decide +kernel
theorem dX0_attempt_49 : decode cX0_attempt 49 = .ok (.iload 4, 2) := by decide +kernel
theorem dX0_attempt_51 : decode cX0_attempt 51 = .ok (.invokevirtual 97, 3) := by decide +kernel
theorem dX0_attempt_54 : decode cX0_attempt 54 = .ok (.iload_n 3, 1) := by decide +kernel
theorem dX0_attempt_55 : decode cX0_attempt 55 = .ok (.iconst 1, 1) := by decide +kernel
theorem dX0_attempt_56 : decode cX0_attempt 56 = .ok (.isub, 1) := by decide +kernel
theorem dX0_attempt_57 : decode cX0_attempt 57 = .ok (.istore 4, 2) := by decide +kernel
theorem dX0_attempt_59 : decode cX0_attempt 59 = .ok (.iload 4, 2) := by decide +kernel
theorem dX0_attempt_61 : decode cX0_attempt 61 = .ok (.ifCond .lt 29, 3) := by decide +kernel
theorem dX0_attempt_64 : decode cX0_attempt 64 = .ok (.aload_n 0, 1) := by decide +kernel
theorem dX0_attempt_65 : decode cX0_attempt 65 = .ok (.aload_n 0, 1) := by decide +kernel
theorem dX0_attempt_66 : decode cX0_attempt 66 = .ok (.getfield 53, 3) := by decide +kernel
theorem dX0_attempt_69 : decode cX0_attempt 69 = .ok (.iload 4, 2) := by decide +kernel
theorem dX0_attempt_71 : decode cX0_attempt 71 = .ok (.iaload, 1) := by decide +kernel
theorem dX0_attempt_72 : decode cX0_attempt 72 = .ok (.iconst 3, 1) := by decide +kernel
theorem dX0_attempt_73 : decode cX0_attempt 73 = .ok (.invokevirtual 94, 3) := by decide +kernel
theorem dX0_attempt_76 : decode cX0_attempt 76 = .ok (.istore 5, 2) := by decide +kernel
theorem dX0_attempt_78 : decode cX0_attempt 78 = .ok (.aload_n 0, 1) := by decide +kernel
theorem dX0_attempt_79 : decode cX0_attempt 79 = .ok (.iload 5, 2) := by decide +kernel
theorem dX0_attempt_81 : decode cX0_attempt 81 = .ok (.invokevirtual 97, 3) := by decide +kernel
theorem dX0_attempt_84 : decode cX0_attempt 84 = .ok (.iinc 4 (-1), 3) := by decide +kernel
theorem dX0_attempt_87 : decode cX0_attempt 87 = .ok (.goto (-28), 3) := by decide +kernel
theorem dX0_attempt_90 : decode cX0_attempt 90 = .ok (.aload_n 0, 1) := by decide +kernel
theorem dX0_attempt_91 : decode cX0_attempt 91 = .ok (.getfield 84, 3) := by decide +kernel
theorem dX0_attempt_94 : decode cX0_attempt 94 = .ok (.ireturn, 1) := by decide +kernel
theorem dX0_goDown_0 : decode cX0_goDown 0 = .ok (.iconst 0, 1) := by decide +kernel
theorem dX0_goDown_1 : decode cX0_goDown 1 = .ok (.istore_n 1, 1) := by decide +kernel
theorem dX0_goDown_2 : decode cX0_goDown 2 = .ok (.iload_n 1, 1) := by decide +kernel
theorem dX0_goDown_3 : decode cX0_goDown 3 = .ok (.aload_n 0, 1) := by decide +kernel
theorem dX0_goDown_4 : decode cX0_goDown 4 = .ok (.getfield 91, 3) := by decide +kernel
theorem dX0_goDown_7 : decode cX0_goDown 7 = .ok (.if_icmp .ge 34, 3) := by decide +kernel
theorem dX0_goDown_10 : decode cX0_goDown 10 = .ok (.aload_n 0, 1) := by decide +kernel
theorem dX0_goDown_11 : decode cX0_goDown 11 = .ok (.getfield 84, 3) := by decide +kernel
theorem dX0_goDown_14 : decode cX0_goDown 14 = .ok (.iconst 1, 1) := by decide +kernel
theorem dX0_goDown_15 : decode cX0_goDown 15 = .ok (.if_icmp .ne 26, 3) := by decide +kernel
theorem dX0_goDown_18 : decode cX0_goDown 18 = .ok (.aload_n 0, 1) := by decide +kernel
theorem dX0_goDown_19 : decode cX0_goDown 19 = .ok (.aload_n 0, 1) := by decide +kernel
theorem dX0_goDown_20 : decode cX0_goDown 20 = .ok (.getfield 53, 3) := by decide +kernel
theorem dX0_goDown_23 : decode cX0_goDown 23 = .ok (.iload_n 1, 1) := by decide +kernel
theorem dX0_goDown_24 : decode cX0_goDown 24 = .ok (.iaload, 1) := by decide +kernel
theorem dX0_goDown_25 : decode cX0_goDown 25 = .ok (.iconst 2, 1) := by decide +kernel
theorem dX0_goDown_26 : decode cX0_goDown 26 = .ok (.invokevirtual 94, 3) := by decide +kernel
theorem dX0_goDown_29 : decode cX0_goDown 29 = .ok (.istore_n 2, 1) := by decide +kernel
theorem dX0_goDown_30 : decode cX0_goDown 30 = .ok (.aload_n 0, 1) := by decide +kernel
theorem dX0_goDown_31 : decode cX0_goDown 31 = .ok (.iload_n 2, 1) := by decide +kernel
theorem dX0_goDown_32 : decode cX0_goDown 32 = .ok (.invokevirtual 97, 3) := by decide +kernel
theorem dX0_goDown_35 : decode cX0_goDown 35 = .ok (.iinc 1 1, 3) := by decide +kernel
theorem dX0_goDown_38 : decode cX0_goDown 38 = .ok (.goto (-36), 3) := by decide +kernel
theorem dX0_goDown_41 : decode cX0_goDown 41 = .ok (.iload_n 1, 1) := by decide +kernel
theorem dX0_goDown_42 : decode cX0_goDown 42 = .ok (.ireturn, 1) := by decide +kernel
theorem dX0_note_0 : decode cX0_note 0 = .ok (.aload_n 0, 1) := by decide +kernel
theorem dX0_note_1 : decode cX0_note 1 = .ok (.aload_n 0, 1) := by decide +kernel
theorem dX0_note_2 : decode cX0_note 2 = .ok (.getfield 84, 3) := by decide +kernel
theorem dX0_note_5 : decode cX0_note 5 = .ok (.iload_n 1, 1) := by decide +kernel
theorem dX0_note_6 : decode cX0_note 6 = .ok (.invokestatic 87, 3) := by decide +kernel
theorem dX0_note_9 : decode cX0_note 9 = .ok (.putfield 84, 3) := by decide +kernel
theorem dX0_note_12 : decode cX0_note 12 = .ok (.return_, 1) := by decide +kernel
theorem dX0_bodyOutcome_0 : decode cX0_bodyOutcome 0 = .ok (.aload_n 0, 1) := by decide +kernel
theorem dX0_bodyOutcome_1 : decode cX0_bodyOutcome 1 = .ok (.getfield 32, 3) := by decide +kernel
theorem dX0_bodyOutcome_4 : decode cX0_bodyOutcome 4 = .ok (.iload_n 1, 1) := by decide +kernel
theorem dX0_bodyOutcome_5 : decode cX0_bodyOutcome 5 = .ok (.iaload, 1) := by decide +kernel
theorem dX0_bodyOutcome_6 : decode cX0_bodyOutcome 6 = .ok (.iconst 2, 1) := by decide +kernel
theorem dX0_bodyOutcome_7 : decode cX0_bodyOutcome 7 = .ok (.iload_n 2, 1) := by decide +kernel
theorem dX0_bodyOutcome_8 : decode cX0_bodyOutcome 8 = .ok (.imul, 1) := by decide +kernel
theorem dX0_bodyOutcome_9 : decode cX0_bodyOutcome 9 = .ok (.ishr, 1) := by decide +kernel
theorem dX0_bodyOutcome_10 : decode cX0_bodyOutcome 10 = .ok (.iconst 3, 1) := by decide +kernel
theorem dX0_bodyOutcome_11 : decode cX0_bodyOutcome 11 = .ok (.iand, 1) := by decide +kernel
theorem dX0_bodyOutcome_12 : decode cX0_bodyOutcome 12 = .ok (.istore_n 3, 1) := by decide +kernel
theorem dX0_bodyOutcome_13 : decode cX0_bodyOutcome 13 = .ok (.iload_n 3, 1) := by decide +kernel
theorem dX0_bodyOutcome_14 : decode cX0_bodyOutcome 14 = .ok (.ifCond .ne 7, 3) := by decide +kernel
theorem dX0_bodyOutcome_17 : decode cX0_bodyOutcome 17 = .ok (.iconst 1, 1) := by decide +kernel
theorem dX0_bodyOutcome_18 : decode cX0_bodyOutcome 18 = .ok (.goto 4, 3) := by decide +kernel
theorem dX0_bodyOutcome_21 : decode cX0_bodyOutcome 21 = .ok (.iload_n 3, 1) := by decide +kernel
theorem dX0_bodyOutcome_22 : decode cX0_bodyOutcome 22 = .ok (.ireturn, 1) := by decide +kernel
theorem dX0_count_0 : decode cX0_count 0 = .ok (.iload_n 1, 1) := by decide +kernel
theorem dX0_count_1 : decode cX0_count 1 = .ok (.iconst 1, 1) := by decide +kernel
theorem dX0_count_2 : decode cX0_count 2 = .ok (.if_icmp .lt 8, 3) := by decide +kernel
theorem dX0_count_5 : decode cX0_count 5 = .ok (.iload_n 1, 1) := by decide +kernel
theorem dX0_count_6 : decode cX0_count 6 = .ok (.iconst 3, 1) := by decide +kernel
theorem dX0_count_7 : decode cX0_count 7 = .ok (.if_icmp .le 5, 3) := by decide +kernel
theorem dX0_count_10 : decode cX0_count 10 = .ok (.iconst 0, 1) := by decide +kernel
theorem dX0_count_11 : decode cX0_count 11 = .ok (.ireturn, 1) := by decide +kernel
theorem dX0_count_12 : decode cX0_count 12 = .ok (.iconst 0, 1) := by decide +kernel
theorem dX0_count_13 : decode cX0_count 13 = .ok (.istore_n 2, 1) := by decide +kernel
theorem dX0_count_14 : decode cX0_count 14 = .ok (.iconst 0, 1) := by decide +kernel
theorem dX0_count_15 : decode cX0_count 15 = .ok (.istore_n 3, 1) := by decide +kernel
theorem dX0_count_16 : decode cX0_count 16 = .ok (.iload_n 3, 1) := by decide +kernel
theorem dX0_count_17 : decode cX0_count 17 = .ok (.aload_n 0, 1) := by decide +kernel
theorem dX0_count_18 : decode cX0_count 18 = .ok (.getfield 56, 3) := by decide +kernel
theorem dX0_count_21 : decode cX0_count 21 = .ok (.if_icmp .ge 31, 3) := by decide +kernel
theorem dX0_count_24 : decode cX0_count 24 = .ok (.aload_n 0, 1) := by decide +kernel
theorem dX0_count_25 : decode cX0_count 25 = .ok (.getfield 7, 3) := by decide +kernel
theorem dX0_count_28 : decode cX0_count 28 = .ok (.iload_n 3, 1) := by decide +kernel
theorem dX0_count_29 : decode cX0_count 29 = .ok (.baload, 1) := by decide +kernel
theorem dX0_count_30 : decode cX0_count 30 = .ok (.ifCond .eq 16, 3) := by decide +kernel
theorem dX0_count_33 : decode cX0_count 33 = .ok (.aload_n 0, 1) := by decide +kernel
theorem dX0_count_34 : decode cX0_count 34 = .ok (.getfield 41, 3) := by decide +kernel
theorem dX0_count_37 : decode cX0_count 37 = .ok (.iload_n 3, 1) := by decide +kernel
theorem dX0_count_38 : decode cX0_count 38 = .ok (.iaload, 1) := by decide +kernel
theorem dX0_count_39 : decode cX0_count 39 = .ok (.iload_n 1, 1) := by decide +kernel
theorem dX0_count_40 : decode cX0_count 40 = .ok (.if_icmp .ne 6, 3) := by decide +kernel
theorem dX0_count_43 : decode cX0_count 43 = .ok (.iinc 2 1, 3) := by decide +kernel
theorem dX0_count_46 : decode cX0_count 46 = .ok (.iinc 3 1, 3) := by decide +kernel
theorem dX0_count_49 : decode cX0_count 49 = .ok (.goto (-33), 3) := by decide +kernel
theorem dX0_count_52 : decode cX0_count 52 = .ok (.iload_n 2, 1) := by decide +kernel
theorem dX0_count_53 : decode cX0_count 53 = .ok (.ireturn, 1) := by decide +kernel
theorem dX0_result_0 : decode cX0_result 0 = .ok (.aload_n 0, 1) := by decide +kernel
theorem dX0_result_1 : decode cX0_result 1 = .ok (.iload_n 1, 1) := by decide +kernel
theorem dX0_result_2 : decode cX0_result 2 = .ok (.invokevirtual 64, 3) := by decide +kernel
theorem dX0_result_5 : decode cX0_result 5 = .ok (.ifCond .eq 7, 3) := by decide +kernel
theorem dX0_result_8 : decode cX0_result 8 = .ok (.iconst (-1), 1) := by decide +kernel
theorem dX0_result_9 : decode cX0_result 9 = .ok (.goto 9, 3) := by decide +kernel
theorem dX0_result_12 : decode cX0_result 12 = .ok (.aload_n 0, 1) := by decide +kernel
theorem dX0_result_13 : decode cX0_result 13 = .ok (.getfield 41, 3) := by decide +kernel
theorem dX0_result_16 : decode cX0_result 16 = .ok (.iload_n 1, 1) := by decide +kernel
theorem dX0_result_17 : decode cX0_result 17 = .ok (.iaload, 1) := by decide +kernel
theorem dX0_result_18 : decode cX0_result 18 = .ok (.ireturn, 1) := by decide +kernel
theorem dX0_times_0 : decode cX0_times 0 = .ok (.aload_n 0, 1) := by decide +kernel
theorem dX0_times_1 : decode cX0_times 1 = .ok (.iload_n 1, 1) := by decide +kernel
theorem dX0_times_2 : decode cX0_times 2 = .ok (.invokevirtual 64, 3) := by decide +kernel
theorem dX0_times_5 : decode cX0_times 5 = .ok (.ifCond .ne 12, 3) := by decide +kernel
theorem dX0_times_8 : decode cX0_times 8 = .ok (.iload_n 2, 1) := by decide +kernel
theorem dX0_times_9 : decode cX0_times 9 = .ok (.ifCond .lt 8, 3) := by decide +kernel
theorem dX0_times_12 : decode cX0_times 12 = .ok (.iload_n 2, 1) := by decide +kernel
theorem dX0_times_13 : decode cX0_times 13 = .ok (.iconst 3, 1) := by decide +kernel
theorem dX0_times_14 : decode cX0_times 14 = .ok (.if_icmp .le 5, 3) := by decide +kernel
theorem dX0_times_17 : decode cX0_times 17 = .ok (.iconst (-1), 1) := by decide +kernel
theorem dX0_times_18 : decode cX0_times 18 = .ok (.ireturn, 1) := by decide +kernel
theorem dX0_times_19 : decode cX0_times 19 = .ok (.aload_n 0, 1) := by decide +kernel
theorem dX0_times_20 : decode cX0_times 20 = .ok (.getfield 44, 3) := by decide +kernel
theorem dX0_times_23 : decode cX0_times 23 = .ok (.iload_n 1, 1) := by decide +kernel
theorem dX0_times_24 : decode cX0_times 24 = .ok (.iconst 4, 1) := by decide +kernel
theorem dX0_times_25 : decode cX0_times 25 = .ok (.imul, 1) := by decide +kernel
theorem dX0_times_26 : decode cX0_times 26 = .ok (.iload_n 2, 1) := by decide +kernel
theorem dX0_times_27 : decode cX0_times 27 = .ok (.iadd, 1) := by decide +kernel
theorem dX0_times_28 : decode cX0_times 28 = .ok (.iaload, 1) := by decide +kernel
theorem dX0_times_29 : decode cX0_times 29 = .ok (.ireturn, 1) := by decide +kernel
theorem dX0_steps_0 : decode cX0_steps 0 = .ok (.aload_n 0, 1) := by decide +kernel
theorem dX0_steps_1 : decode cX0_steps 1 = .ok (.getfield 81, 3) := by decide +kernel
theorem dX0_steps_4 : decode cX0_steps 4 = .ok (.ireturn, 1) := by decide +kernel
theorem dX0_attempts_0 : decode cX0_attempts 0 = .ok (.aload_n 0, 1) := by decide +kernel
theorem dX0_attempts_1 : decode cX0_attempts 1 = .ok (.iload_n 1, 1) := by decide +kernel
theorem dX0_attempts_2 : decode cX0_attempts 2 = .ok (.invokevirtual 64, 3) := by decide +kernel
theorem dX0_attempts_5 : decode cX0_attempts 5 = .ok (.ifCond .eq 7, 3) := by decide +kernel
theorem dX0_attempts_8 : decode cX0_attempts 8 = .ok (.iconst (-1), 1) := by decide +kernel
theorem dX0_attempts_9 : decode cX0_attempts 9 = .ok (.goto 9, 3) := by decide +kernel
theorem dX0_attempts_12 : decode cX0_attempts 12 = .ok (.aload_n 0, 1) := by decide +kernel
theorem dX0_attempts_13 : decode cX0_attempts 13 = .ok (.getfield 47, 3) := by decide +kernel
theorem dX0_attempts_16 : decode cX0_attempts 16 = .ok (.iload_n 1, 1) := by decide +kernel
theorem dX0_attempts_17 : decode cX0_attempts 17 = .ok (.iaload, 1) := by decide +kernel
theorem dX0_attempts_18 : decode cX0_attempts 18 = .ok (.ireturn, 1) := by decide +kernel
end
section
/-! TestTreeRunnerModel -/
set_option maxRecDepth 100000
def RX1 : String := "TestTreeRunnerModel"
def TX1 : u_T := fun k => match k with
  | 0 => ("TestTreeRunnerModel", "nodes", "I", false)
  | 1 => ("TestTreeRunnerModel", "isTest", "[Z", true)
  | 2 => ("TestTreeRunnerModel", "parents", "[I", true)
  | 3 => ("TestTreeRunnerModel", "disabled", "[Z", true)
  | 4 => ("TestTreeRunnerModel", "hooks", "[I", true)
  | 5 => ("TestTreeRunnerModel", "tries", "[I", true)
  | 6 => ("TestTreeRunnerModel", "outcomes", "[I", true)
  | 7 => ("TestTreeRunnerModel", "tagSets", "[I", true)
  | 8 => ("TestTreeRunnerModel", "results", "[I", true)
  | 9 => ("TestTreeRunnerModel", "carried", "[I", true)
  | _ => ("TestTreeRunnerModel", "made", "[I", true)
def tyX1 : Nat → FieldType := fun k => match k with
  | 0 => .int
  | 1 => .array .boolean
  | 2 => .array .int
  | 3 => .array .boolean
  | 4 => .array .int
  | 5 => .array .int
  | 6 => .array .int
  | 7 => .array .int
  | 8 => .array .int
  | 9 => .array .int
  | _ => .array .int
abbrev wsX10 : List Cond := u_ws RX1 TX1 11
theorem nmX1 : ∀ a, a < 11 → ∀ b, b < 11 → a ≠ b → (TX1 a).2.1 ≠ (TX1 b).2.1 := by decide +kernel
theorem tyX1_ok : ∀ k, k < 11 → parseFieldDescriptor (TX1 k).2.2.1 = some (tyX1 k) := by decide +kernel
abbrev cX1_init : ByteArray := prog_3_method_1_code
def yX1_init : MethodName := ⟨RX1, "<init>", "()V"⟩
abbrev cX1_container : ByteArray := prog_3_method_4_code
def yX1_container : MethodName := ⟨RX1, "container", "(I)I"⟩
abbrev cX1_add : ByteArray := prog_3_method_3_code
def yX1_add : MethodName := ⟨RX1, "add", "(IZ)I"⟩
abbrev cX1_noNode : ByteArray := prog_3_method_2_code
def yX1_noNode : MethodName := ⟨RX1, "noNode", "(I)Z"⟩
abbrev cX1_test : ByteArray := prog_3_method_5_code
def yX1_test : MethodName := ⟨RX1, "test", "(I)I"⟩
abbrev cX1_hook : ByteArray := prog_3_method_6_code
def yX1_hook : MethodName := ⟨RX1, "hook", "(III)I"⟩
abbrev cX1_body : ByteArray := prog_3_method_7_code
def yX1_body : MethodName := ⟨RX1, "body", "(III)I"⟩
abbrev cX1_tags : ByteArray := prog_3_method_8_code
def yX1_tags : MethodName := ⟨RX1, "tags", "(II)I"⟩
abbrev cX1_disable : ByteArray := prog_3_method_9_code
def yX1_disable : MethodName := ⟨RX1, "disable", "(IZ)I"⟩
abbrev cX1_run : ByteArray := prog_3_method_18_code
def yX1_run : MethodName := ⟨RX1, "run", "(I)I"⟩
abbrev cX1_passes : ByteArray := prog_3_method_12_code
def yX1_passes : MethodName := ⟨RX1, "passes", "(II)Z"⟩
abbrev cX1_above : ByteArray := prog_3_method_10_code
def yX1_above : MethodName := ⟨RX1, "above", "(II)Z"⟩
abbrev cX1_selected : ByteArray := prog_3_method_11_code
def yX1_selected : MethodName := ⟨RX1, "selected", "(II)Z"⟩
abbrev cX1_runTest : ByteArray := prog_3_method_16_code
def yX1_runTest : MethodName := ⟨RX1, "runTest", "(I)V"⟩
abbrev cX1_has : ByteArray := prog_3_method_15_code
def yX1_has : MethodName := ⟨RX1, "has", "(III)Z"⟩
abbrev cX1_inUse : ByteArray := prog_3_method_13_code
def yX1_inUse : MethodName := ⟨RX1, "inUse", "(II)Z"⟩
abbrev cX1_runContainer : ByteArray := prog_3_method_14_code
def yX1_runContainer : MethodName := ⟨RX1, "runContainer", "(I)V"⟩
abbrev cX1_each : ByteArray := prog_3_method_17_code
def yX1_each : MethodName := ⟨RX1, "each", "(I)V"⟩
abbrev cX1_count : ByteArray := prog_3_method_21_code
def yX1_count : MethodName := ⟨RX1, "count", "(I)I"⟩
abbrev cX1_result : ByteArray := prog_3_method_19_code
def yX1_result : MethodName := ⟨RX1, "result", "(I)I"⟩
abbrev cX1_times : ByteArray := prog_3_method_20_code
def yX1_times : MethodName := ⟨RX1, "times", "(II)I"⟩
abbrev cX1_steps : ByteArray := prog_3_method_22_code
def yX1_steps : MethodName := ⟨RX1, "steps", "()I"⟩
abbrev cX1_attempts : ByteArray := prog_3_method_23_code
def yX1_attempts : MethodName := ⟨RX1, "attempts", "(I)I"⟩

theorem q28 : (Jvm.Cond.initialized "TestTreeRunnerModel") ∈ lw_all := lw_g (lw_at lw_m1 2 rfl) rfl
theorem q214 : (Jvm.Cond.instantiable "TestTreeRunnerModel" (11 : Nat)) ∈ lw_all := lw_g (lw_at lw_m1 188 rfl) rfl
theorem q216 : (Jvm.Cond.instanceMethod ({ cls := "TestTreeRunnerModel", name := "<init>", desc := "()V" } : Jvm.MethodName)) ∈ lw_all := lw_g (lw_at lw_m1 190 rfl) rfl
theorem q217 : (Jvm.Cond.code ({ cls := "TestTreeRunnerModel", name := "<init>", desc := "()V" } : Jvm.MethodName) prog_3_method_1_code (1 : Nat) (Option.none : Option Jvm.ClassFile.FieldType)) ∈ lw_all := lw_g (lw_at lw_m1 191 rfl) rfl
theorem q218 : (Jvm.Cond.methodLink "TestTreeRunnerModel" (1 : Nat) ({ cls := "java/lang/Object", name := "<init>", desc := "()V" } : Jvm.MethodName)) ∈ lw_all := lw_g (lw_at lw_m1 192 rfl) rfl
theorem q219 : (Jvm.Cond.fieldLink "TestTreeRunnerModel" (41 : Nat) "TestTreeRunnerModel" "nodes" "I") ∈ lw_all := lw_g (lw_at lw_m1 193 rfl) rfl
theorem q220 : (Jvm.Cond.fieldLink "TestTreeRunnerModel" (7 : Nat) "TestTreeRunnerModel" "isTest" "[Z") ∈ lw_all := lw_g (lw_at lw_m1 194 rfl) rfl
theorem q221 : (Jvm.Cond.fieldLink "TestTreeRunnerModel" (13 : Nat) "TestTreeRunnerModel" "parents" "[I") ∈ lw_all := lw_g (lw_at lw_m1 195 rfl) rfl
theorem q222 : (Jvm.Cond.fieldLink "TestTreeRunnerModel" (17 : Nat) "TestTreeRunnerModel" "disabled" "[Z") ∈ lw_all := lw_g (lw_at lw_m1 196 rfl) rfl
theorem q223 : (Jvm.Cond.fieldLink "TestTreeRunnerModel" (20 : Nat) "TestTreeRunnerModel" "hooks" "[I") ∈ lw_all := lw_g (lw_at lw_m1 197 rfl) rfl
theorem q224 : (Jvm.Cond.fieldLink "TestTreeRunnerModel" (23 : Nat) "TestTreeRunnerModel" "tries" "[I") ∈ lw_all := lw_g (lw_at lw_m1 198 rfl) rfl
theorem q225 : (Jvm.Cond.fieldLink "TestTreeRunnerModel" (26 : Nat) "TestTreeRunnerModel" "outcomes" "[I") ∈ lw_all := lw_g (lw_at lw_m1 199 rfl) rfl
theorem q226 : (Jvm.Cond.fieldLink "TestTreeRunnerModel" (29 : Nat) "TestTreeRunnerModel" "tagSets" "[I") ∈ lw_all := lw_g (lw_at lw_m1 200 rfl) rfl
theorem q227 : (Jvm.Cond.fieldLink "TestTreeRunnerModel" (32 : Nat) "TestTreeRunnerModel" "results" "[I") ∈ lw_all := lw_g (lw_at lw_m1 201 rfl) rfl
theorem q228 : (Jvm.Cond.fieldLink "TestTreeRunnerModel" (35 : Nat) "TestTreeRunnerModel" "carried" "[I") ∈ lw_all := lw_g (lw_at lw_m1 202 rfl) rfl
theorem q229 : (Jvm.Cond.fieldLink "TestTreeRunnerModel" (38 : Nat) "TestTreeRunnerModel" "made" "[I") ∈ lw_all := lw_g (lw_at lw_m1 203 rfl) rfl
theorem q230 : (Jvm.Cond.lays "TestTreeRunnerModel" "TestTreeRunnerModel" "nodes" "I") ∈ lw_all := lw_g (lw_at lw_m1 204 rfl) rfl
theorem q231 : (Jvm.Cond.soleField "TestTreeRunnerModel" "nodes") ∈ lw_all := lw_g (lw_at lw_m1 205 rfl) rfl
theorem q232 : (Jvm.Cond.laysFinal "TestTreeRunnerModel" "TestTreeRunnerModel" "isTest" "[Z") ∈ lw_all := lw_g (lw_at lw_m1 206 rfl) rfl
theorem q233 : (Jvm.Cond.soleField "TestTreeRunnerModel" "isTest") ∈ lw_all := lw_g (lw_at lw_m1 207 rfl) rfl
theorem q234 : (Jvm.Cond.laysFinal "TestTreeRunnerModel" "TestTreeRunnerModel" "parents" "[I") ∈ lw_all := lw_g (lw_at lw_m1 208 rfl) rfl
theorem q235 : (Jvm.Cond.soleField "TestTreeRunnerModel" "parents") ∈ lw_all := lw_g (lw_at lw_m1 209 rfl) rfl
theorem q236 : (Jvm.Cond.laysFinal "TestTreeRunnerModel" "TestTreeRunnerModel" "disabled" "[Z") ∈ lw_all := lw_g (lw_at lw_m1 210 rfl) rfl
theorem q237 : (Jvm.Cond.soleField "TestTreeRunnerModel" "disabled") ∈ lw_all := lw_g (lw_at lw_m1 211 rfl) rfl
theorem q238 : (Jvm.Cond.laysFinal "TestTreeRunnerModel" "TestTreeRunnerModel" "hooks" "[I") ∈ lw_all := lw_g (lw_at lw_m1 212 rfl) rfl
theorem q239 : (Jvm.Cond.soleField "TestTreeRunnerModel" "hooks") ∈ lw_all := lw_g (lw_at lw_m1 213 rfl) rfl
theorem q240 : (Jvm.Cond.laysFinal "TestTreeRunnerModel" "TestTreeRunnerModel" "tries" "[I") ∈ lw_all := lw_g (lw_at lw_m1 214 rfl) rfl
theorem q241 : (Jvm.Cond.soleField "TestTreeRunnerModel" "tries") ∈ lw_all := lw_g (lw_at lw_m1 215 rfl) rfl
theorem q242 : (Jvm.Cond.laysFinal "TestTreeRunnerModel" "TestTreeRunnerModel" "outcomes" "[I") ∈ lw_all := lw_g (lw_at lw_m1 216 rfl) rfl
theorem q243 : (Jvm.Cond.soleField "TestTreeRunnerModel" "outcomes") ∈ lw_all := lw_g (lw_at lw_m1 217 rfl) rfl
theorem q244 : (Jvm.Cond.laysFinal "TestTreeRunnerModel" "TestTreeRunnerModel" "tagSets" "[I") ∈ lw_all := lw_g (lw_at lw_m1 218 rfl) rfl
theorem q245 : (Jvm.Cond.soleField "TestTreeRunnerModel" "tagSets") ∈ lw_all := lw_g (lw_at lw_m1 219 rfl) rfl
theorem q246 : (Jvm.Cond.laysFinal "TestTreeRunnerModel" "TestTreeRunnerModel" "results" "[I") ∈ lw_all := lw_g (lw_at lw_m1 220 rfl) rfl
theorem q247 : (Jvm.Cond.soleField "TestTreeRunnerModel" "results") ∈ lw_all := lw_g (lw_at lw_m1 221 rfl) rfl
theorem q248 : (Jvm.Cond.laysFinal "TestTreeRunnerModel" "TestTreeRunnerModel" "carried" "[I") ∈ lw_all := lw_g (lw_at lw_m1 222 rfl) rfl
theorem q249 : (Jvm.Cond.soleField "TestTreeRunnerModel" "carried") ∈ lw_all := lw_g (lw_at lw_m1 223 rfl) rfl
theorem q250 : (Jvm.Cond.laysFinal "TestTreeRunnerModel" "TestTreeRunnerModel" "made" "[I") ∈ lw_all := lw_g (lw_at lw_m1 224 rfl) rfl
theorem q251 : (Jvm.Cond.soleField "TestTreeRunnerModel" "made") ∈ lw_all := lw_g (lw_at lw_m1 225 rfl) rfl
theorem q252 : (Jvm.Cond.superclass "TestTreeRunnerModel" "java/lang/Object") ∈ lw_all := lw_g (lw_at lw_m1 226 rfl) rfl
theorem q254 : (Jvm.Cond.instanceMethod ({ cls := "TestTreeRunnerModel", name := "container", desc := "(I)I" } : Jvm.MethodName)) ∈ lw_all := lw_g (lw_at lw_m1 228 rfl) rfl
theorem q255 : (Jvm.Cond.selects "TestTreeRunnerModel" ({ cls := "TestTreeRunnerModel", name := "container", desc := "(I)I" } : Jvm.MethodName) ({ cls := "TestTreeRunnerModel", name := "container", desc := "(I)I" } : Jvm.MethodName)) ∈ lw_all := lw_g (lw_at lw_m1 229 rfl) rfl
theorem q256 : (Jvm.Cond.code ({ cls := "TestTreeRunnerModel", name := "container", desc := "(I)I" } : Jvm.MethodName) prog_3_method_4_code (2 : Nat) (Option.some Jvm.ClassFile.FieldType.int)) ∈ lw_all := lw_g (lw_at lw_m1 230 rfl) rfl
theorem q257 : (Jvm.Cond.methodLink "TestTreeRunnerModel" (49 : Nat) ({ cls := "TestTreeRunnerModel", name := "add", desc := "(IZ)I" } : Jvm.MethodName)) ∈ lw_all := lw_g (lw_at lw_m1 231 rfl) rfl
theorem q258 : (Jvm.Cond.privateMethod ({ cls := "TestTreeRunnerModel", name := "add", desc := "(IZ)I" } : Jvm.MethodName)) ∈ lw_tbl := lw_at lw_m1 232 rfl
theorem q259 : (Jvm.Cond.instanceMethod ({ cls := "TestTreeRunnerModel", name := "add", desc := "(IZ)I" } : Jvm.MethodName)) ∈ lw_all := lw_g (lw_at lw_m1 233 rfl) rfl
theorem q260 : (Jvm.Cond.code ({ cls := "TestTreeRunnerModel", name := "add", desc := "(IZ)I" } : Jvm.MethodName) prog_3_method_3_code (3 : Nat) (Option.some Jvm.ClassFile.FieldType.int)) ∈ lw_all := lw_g (lw_at lw_m1 234 rfl) rfl
theorem q261 : (Jvm.Cond.methodLink "TestTreeRunnerModel" (45 : Nat) ({ cls := "TestTreeRunnerModel", name := "noNode", desc := "(I)Z" } : Jvm.MethodName)) ∈ lw_all := lw_g (lw_at lw_m1 235 rfl) rfl
theorem q262 : (Jvm.Cond.privateMethod ({ cls := "TestTreeRunnerModel", name := "noNode", desc := "(I)Z" } : Jvm.MethodName)) ∈ lw_tbl := lw_at lw_m1 236 rfl
theorem q263 : (Jvm.Cond.instanceMethod ({ cls := "TestTreeRunnerModel", name := "noNode", desc := "(I)Z" } : Jvm.MethodName)) ∈ lw_all := lw_g (lw_at lw_m1 237 rfl) rfl
theorem q264 : (Jvm.Cond.code ({ cls := "TestTreeRunnerModel", name := "noNode", desc := "(I)Z" } : Jvm.MethodName) prog_3_method_2_code (2 : Nat) (Option.some Jvm.ClassFile.FieldType.boolean)) ∈ lw_all := lw_g (lw_at lw_m1 238 rfl) rfl
theorem q266 : (Jvm.Cond.instanceMethod ({ cls := "TestTreeRunnerModel", name := "test", desc := "(I)I" } : Jvm.MethodName)) ∈ lw_all := lw_g (lw_at lw_m2 0 rfl) rfl
theorem q267 : (Jvm.Cond.selects "TestTreeRunnerModel" ({ cls := "TestTreeRunnerModel", name := "test", desc := "(I)I" } : Jvm.MethodName) ({ cls := "TestTreeRunnerModel", name := "test", desc := "(I)I" } : Jvm.MethodName)) ∈ lw_all := lw_g (lw_at lw_m2 1 rfl) rfl
theorem q268 : (Jvm.Cond.code ({ cls := "TestTreeRunnerModel", name := "test", desc := "(I)I" } : Jvm.MethodName) prog_3_method_5_code (2 : Nat) (Option.some Jvm.ClassFile.FieldType.int)) ∈ lw_all := lw_g (lw_at lw_m2 2 rfl) rfl
theorem q270 : (Jvm.Cond.instanceMethod ({ cls := "TestTreeRunnerModel", name := "hook", desc := "(III)I" } : Jvm.MethodName)) ∈ lw_all := lw_g (lw_at lw_m2 4 rfl) rfl
theorem q271 : (Jvm.Cond.selects "TestTreeRunnerModel" ({ cls := "TestTreeRunnerModel", name := "hook", desc := "(III)I" } : Jvm.MethodName) ({ cls := "TestTreeRunnerModel", name := "hook", desc := "(III)I" } : Jvm.MethodName)) ∈ lw_all := lw_g (lw_at lw_m2 5 rfl) rfl
theorem q272 : (Jvm.Cond.code ({ cls := "TestTreeRunnerModel", name := "hook", desc := "(III)I" } : Jvm.MethodName) prog_3_method_6_code (5 : Nat) (Option.some Jvm.ClassFile.FieldType.int)) ∈ lw_all := lw_g (lw_at lw_m2 6 rfl) rfl
theorem q274 : (Jvm.Cond.instanceMethod ({ cls := "TestTreeRunnerModel", name := "body", desc := "(III)I" } : Jvm.MethodName)) ∈ lw_all := lw_g (lw_at lw_m2 8 rfl) rfl
theorem q275 : (Jvm.Cond.selects "TestTreeRunnerModel" ({ cls := "TestTreeRunnerModel", name := "body", desc := "(III)I" } : Jvm.MethodName) ({ cls := "TestTreeRunnerModel", name := "body", desc := "(III)I" } : Jvm.MethodName)) ∈ lw_all := lw_g (lw_at lw_m2 9 rfl) rfl
theorem q276 : (Jvm.Cond.code ({ cls := "TestTreeRunnerModel", name := "body", desc := "(III)I" } : Jvm.MethodName) prog_3_method_7_code (4 : Nat) (Option.some Jvm.ClassFile.FieldType.int)) ∈ lw_all := lw_g (lw_at lw_m2 10 rfl) rfl
theorem q278 : (Jvm.Cond.instanceMethod ({ cls := "TestTreeRunnerModel", name := "tags", desc := "(II)I" } : Jvm.MethodName)) ∈ lw_all := lw_g (lw_at lw_m2 12 rfl) rfl
theorem q279 : (Jvm.Cond.selects "TestTreeRunnerModel" ({ cls := "TestTreeRunnerModel", name := "tags", desc := "(II)I" } : Jvm.MethodName) ({ cls := "TestTreeRunnerModel", name := "tags", desc := "(II)I" } : Jvm.MethodName)) ∈ lw_all := lw_g (lw_at lw_m2 13 rfl) rfl
theorem q280 : (Jvm.Cond.code ({ cls := "TestTreeRunnerModel", name := "tags", desc := "(II)I" } : Jvm.MethodName) prog_3_method_8_code (3 : Nat) (Option.some Jvm.ClassFile.FieldType.int)) ∈ lw_all := lw_g (lw_at lw_m2 14 rfl) rfl
theorem q282 : (Jvm.Cond.instanceMethod ({ cls := "TestTreeRunnerModel", name := "disable", desc := "(IZ)I" } : Jvm.MethodName)) ∈ lw_all := lw_g (lw_at lw_m2 16 rfl) rfl
theorem q283 : (Jvm.Cond.selects "TestTreeRunnerModel" ({ cls := "TestTreeRunnerModel", name := "disable", desc := "(IZ)I" } : Jvm.MethodName) ({ cls := "TestTreeRunnerModel", name := "disable", desc := "(IZ)I" } : Jvm.MethodName)) ∈ lw_all := lw_g (lw_at lw_m2 17 rfl) rfl
theorem q284 : (Jvm.Cond.code ({ cls := "TestTreeRunnerModel", name := "disable", desc := "(IZ)I" } : Jvm.MethodName) prog_3_method_9_code (4 : Nat) (Option.some Jvm.ClassFile.FieldType.int)) ∈ lw_all := lw_g (lw_at lw_m2 18 rfl) rfl
theorem q286 : (Jvm.Cond.instanceMethod ({ cls := "TestTreeRunnerModel", name := "run", desc := "(I)I" } : Jvm.MethodName)) ∈ lw_all := lw_g (lw_at lw_m2 20 rfl) rfl
theorem q287 : (Jvm.Cond.selects "TestTreeRunnerModel" ({ cls := "TestTreeRunnerModel", name := "run", desc := "(I)I" } : Jvm.MethodName) ({ cls := "TestTreeRunnerModel", name := "run", desc := "(I)I" } : Jvm.MethodName)) ∈ lw_all := lw_g (lw_at lw_m2 21 rfl) rfl
theorem q288 : (Jvm.Cond.code ({ cls := "TestTreeRunnerModel", name := "run", desc := "(I)I" } : Jvm.MethodName) prog_3_method_18_code (4 : Nat) (Option.some Jvm.ClassFile.FieldType.int)) ∈ lw_all := lw_g (lw_at lw_m2 22 rfl) rfl
theorem q289 : (Jvm.Cond.methodLink "TestTreeRunnerModel" (60 : Nat) ({ cls := "TestTreeRunnerModel", name := "passes", desc := "(II)Z" } : Jvm.MethodName)) ∈ lw_all := lw_g (lw_at lw_m2 23 rfl) rfl
theorem q290 : (Jvm.Cond.privateMethod ({ cls := "TestTreeRunnerModel", name := "passes", desc := "(II)Z" } : Jvm.MethodName)) ∈ lw_tbl := lw_at lw_m2 24 rfl
theorem q291 : (Jvm.Cond.instanceMethod ({ cls := "TestTreeRunnerModel", name := "passes", desc := "(II)Z" } : Jvm.MethodName)) ∈ lw_all := lw_g (lw_at lw_m2 25 rfl) rfl
theorem q292 : (Jvm.Cond.code ({ cls := "TestTreeRunnerModel", name := "passes", desc := "(II)Z" } : Jvm.MethodName) prog_3_method_12_code (4 : Nat) (Option.some Jvm.ClassFile.FieldType.boolean)) ∈ lw_all := lw_g (lw_at lw_m2 26 rfl) rfl
theorem q293 : (Jvm.Cond.methodLink "TestTreeRunnerModel" (53 : Nat) ({ cls := "TestTreeRunnerModel", name := "above", desc := "(II)Z" } : Jvm.MethodName)) ∈ lw_all := lw_g (lw_at lw_m2 27 rfl) rfl
theorem q294 : (Jvm.Cond.privateMethod ({ cls := "TestTreeRunnerModel", name := "above", desc := "(II)Z" } : Jvm.MethodName)) ∈ lw_tbl := lw_at lw_m2 28 rfl
theorem q295 : (Jvm.Cond.instanceMethod ({ cls := "TestTreeRunnerModel", name := "above", desc := "(II)Z" } : Jvm.MethodName)) ∈ lw_all := lw_g (lw_at lw_m2 29 rfl) rfl
theorem q296 : (Jvm.Cond.code ({ cls := "TestTreeRunnerModel", name := "above", desc := "(II)Z" } : Jvm.MethodName) prog_3_method_10_code (5 : Nat) (Option.some Jvm.ClassFile.FieldType.boolean)) ∈ lw_all := lw_g (lw_at lw_m2 30 rfl) rfl
theorem q297 : (Jvm.Cond.methodLink "TestTreeRunnerModel" (57 : Nat) ({ cls := "TestTreeRunnerModel", name := "selected", desc := "(II)Z" } : Jvm.MethodName)) ∈ lw_all := lw_g (lw_at lw_m2 31 rfl) rfl
theorem q298 : (Jvm.Cond.privateMethod ({ cls := "TestTreeRunnerModel", name := "selected", desc := "(II)Z" } : Jvm.MethodName)) ∈ lw_tbl := lw_at lw_m2 32 rfl
theorem q299 : (Jvm.Cond.instanceMethod ({ cls := "TestTreeRunnerModel", name := "selected", desc := "(II)Z" } : Jvm.MethodName)) ∈ lw_all := lw_g (lw_at lw_m2 33 rfl) rfl
theorem q300 : (Jvm.Cond.code ({ cls := "TestTreeRunnerModel", name := "selected", desc := "(II)Z" } : Jvm.MethodName) prog_3_method_11_code (4 : Nat) (Option.some Jvm.ClassFile.FieldType.boolean)) ∈ lw_all := lw_g (lw_at lw_m2 34 rfl) rfl
theorem q301 : (Jvm.Cond.methodLink "TestTreeRunnerModel" (67 : Nat) ({ cls := "TestTreeRunnerModel", name := "runTest", desc := "(I)V" } : Jvm.MethodName)) ∈ lw_all := lw_g (lw_at lw_m2 35 rfl) rfl
theorem q302 : (Jvm.Cond.privateMethod ({ cls := "TestTreeRunnerModel", name := "runTest", desc := "(I)V" } : Jvm.MethodName)) ∈ lw_tbl := lw_at lw_m2 36 rfl
theorem q303 : (Jvm.Cond.instanceMethod ({ cls := "TestTreeRunnerModel", name := "runTest", desc := "(I)V" } : Jvm.MethodName)) ∈ lw_all := lw_g (lw_at lw_m2 37 rfl) rfl
theorem q304 : (Jvm.Cond.code ({ cls := "TestTreeRunnerModel", name := "runTest", desc := "(I)V" } : Jvm.MethodName) prog_3_method_16_code (8 : Nat) (Option.none : Option Jvm.ClassFile.FieldType)) ∈ lw_all := lw_g (lw_at lw_m2 38 rfl) rfl
theorem q305 : (Jvm.Cond.methodLink "TestTreeRunnerModel" (63 : Nat) ({ cls := "TestTreeRunnerModel", name := "has", desc := "(III)Z" } : Jvm.MethodName)) ∈ lw_all := lw_g (lw_at lw_m2 39 rfl) rfl
theorem q306 : (Jvm.Cond.privateMethod ({ cls := "TestTreeRunnerModel", name := "has", desc := "(III)Z" } : Jvm.MethodName)) ∈ lw_tbl := lw_at lw_m2 40 rfl
theorem q307 : (Jvm.Cond.instanceMethod ({ cls := "TestTreeRunnerModel", name := "has", desc := "(III)Z" } : Jvm.MethodName)) ∈ lw_all := lw_g (lw_at lw_m2 41 rfl) rfl
theorem q308 : (Jvm.Cond.code ({ cls := "TestTreeRunnerModel", name := "has", desc := "(III)Z" } : Jvm.MethodName) prog_3_method_15_code (5 : Nat) (Option.some Jvm.ClassFile.FieldType.boolean)) ∈ lw_all := lw_g (lw_at lw_m2 42 rfl) rfl
theorem q309 : (Jvm.Cond.methodLink "TestTreeRunnerModel" (71 : Nat) ({ cls := "TestTreeRunnerModel", name := "inUse", desc := "(II)Z" } : Jvm.MethodName)) ∈ lw_all := lw_g (lw_at lw_m2 43 rfl) rfl
theorem q310 : (Jvm.Cond.privateMethod ({ cls := "TestTreeRunnerModel", name := "inUse", desc := "(II)Z" } : Jvm.MethodName)) ∈ lw_tbl := lw_at lw_m2 44 rfl
theorem q311 : (Jvm.Cond.instanceMethod ({ cls := "TestTreeRunnerModel", name := "inUse", desc := "(II)Z" } : Jvm.MethodName)) ∈ lw_all := lw_g (lw_at lw_m2 45 rfl) rfl
theorem q312 : (Jvm.Cond.code ({ cls := "TestTreeRunnerModel", name := "inUse", desc := "(II)Z" } : Jvm.MethodName) prog_3_method_13_code (4 : Nat) (Option.some Jvm.ClassFile.FieldType.boolean)) ∈ lw_all := lw_g (lw_at lw_m2 46 rfl) rfl
theorem q313 : (Jvm.Cond.methodLink "TestTreeRunnerModel" (74 : Nat) ({ cls := "TestTreeRunnerModel", name := "runContainer", desc := "(I)V" } : Jvm.MethodName)) ∈ lw_all := lw_g (lw_at lw_m2 47 rfl) rfl
theorem q314 : (Jvm.Cond.privateMethod ({ cls := "TestTreeRunnerModel", name := "runContainer", desc := "(I)V" } : Jvm.MethodName)) ∈ lw_tbl := lw_at lw_m2 48 rfl
theorem q315 : (Jvm.Cond.instanceMethod ({ cls := "TestTreeRunnerModel", name := "runContainer", desc := "(I)V" } : Jvm.MethodName)) ∈ lw_all := lw_g (lw_at lw_m2 49 rfl) rfl
theorem q316 : (Jvm.Cond.code ({ cls := "TestTreeRunnerModel", name := "runContainer", desc := "(I)V" } : Jvm.MethodName) prog_3_method_14_code (4 : Nat) (Option.none : Option Jvm.ClassFile.FieldType)) ∈ lw_all := lw_g (lw_at lw_m2 50 rfl) rfl
theorem q317 : (Jvm.Cond.methodLink "TestTreeRunnerModel" (77 : Nat) ({ cls := "TestTreeRunnerModel", name := "each", desc := "(I)V" } : Jvm.MethodName)) ∈ lw_all := lw_g (lw_at lw_m2 51 rfl) rfl
theorem q318 : (Jvm.Cond.privateMethod ({ cls := "TestTreeRunnerModel", name := "each", desc := "(I)V" } : Jvm.MethodName)) ∈ lw_tbl := lw_at lw_m2 52 rfl
theorem q319 : (Jvm.Cond.instanceMethod ({ cls := "TestTreeRunnerModel", name := "each", desc := "(I)V" } : Jvm.MethodName)) ∈ lw_all := lw_g (lw_at lw_m2 53 rfl) rfl
theorem q320 : (Jvm.Cond.code ({ cls := "TestTreeRunnerModel", name := "each", desc := "(I)V" } : Jvm.MethodName) prog_3_method_17_code (4 : Nat) (Option.none : Option Jvm.ClassFile.FieldType)) ∈ lw_all := lw_g (lw_at lw_m2 54 rfl) rfl
theorem q321 : (Jvm.Cond.methodLink "TestTreeRunnerModel" (80 : Nat) ({ cls := "TestTreeRunnerModel", name := "count", desc := "(I)I" } : Jvm.MethodName)) ∈ lw_all := lw_g (lw_at lw_m2 55 rfl) rfl
theorem q322 : (Jvm.Cond.instanceMethod ({ cls := "TestTreeRunnerModel", name := "count", desc := "(I)I" } : Jvm.MethodName)) ∈ lw_all := lw_g (lw_at lw_m2 56 rfl) rfl
theorem q323 : (Jvm.Cond.selects "TestTreeRunnerModel" ({ cls := "TestTreeRunnerModel", name := "count", desc := "(I)I" } : Jvm.MethodName) ({ cls := "TestTreeRunnerModel", name := "count", desc := "(I)I" } : Jvm.MethodName)) ∈ lw_all := lw_g (lw_at lw_m2 57 rfl) rfl
theorem q324 : (Jvm.Cond.code ({ cls := "TestTreeRunnerModel", name := "count", desc := "(I)I" } : Jvm.MethodName) prog_3_method_21_code (4 : Nat) (Option.some Jvm.ClassFile.FieldType.int)) ∈ lw_all := lw_g (lw_at lw_m2 58 rfl) rfl
theorem q326 : (Jvm.Cond.instanceMethod ({ cls := "TestTreeRunnerModel", name := "result", desc := "(I)I" } : Jvm.MethodName)) ∈ lw_all := lw_g (lw_at lw_m2 60 rfl) rfl
theorem q327 : (Jvm.Cond.selects "TestTreeRunnerModel" ({ cls := "TestTreeRunnerModel", name := "result", desc := "(I)I" } : Jvm.MethodName) ({ cls := "TestTreeRunnerModel", name := "result", desc := "(I)I" } : Jvm.MethodName)) ∈ lw_all := lw_g (lw_at lw_m2 61 rfl) rfl
theorem q328 : (Jvm.Cond.code ({ cls := "TestTreeRunnerModel", name := "result", desc := "(I)I" } : Jvm.MethodName) prog_3_method_19_code (2 : Nat) (Option.some Jvm.ClassFile.FieldType.int)) ∈ lw_all := lw_g (lw_at lw_m2 62 rfl) rfl
theorem q330 : (Jvm.Cond.instanceMethod ({ cls := "TestTreeRunnerModel", name := "times", desc := "(II)I" } : Jvm.MethodName)) ∈ lw_all := lw_g (lw_at lw_m2 64 rfl) rfl
theorem q331 : (Jvm.Cond.selects "TestTreeRunnerModel" ({ cls := "TestTreeRunnerModel", name := "times", desc := "(II)I" } : Jvm.MethodName) ({ cls := "TestTreeRunnerModel", name := "times", desc := "(II)I" } : Jvm.MethodName)) ∈ lw_all := lw_g (lw_at lw_m2 65 rfl) rfl
theorem q332 : (Jvm.Cond.code ({ cls := "TestTreeRunnerModel", name := "times", desc := "(II)I" } : Jvm.MethodName) prog_3_method_20_code (3 : Nat) (Option.some Jvm.ClassFile.FieldType.int)) ∈ lw_all := lw_g (lw_at lw_m2 66 rfl) rfl
theorem q335 : (Jvm.Cond.instanceMethod ({ cls := "TestTreeRunnerModel", name := "steps", desc := "()I" } : Jvm.MethodName)) ∈ lw_all := lw_g (lw_at lw_m2 69 rfl) rfl
theorem q336 : (Jvm.Cond.selects "TestTreeRunnerModel" ({ cls := "TestTreeRunnerModel", name := "steps", desc := "()I" } : Jvm.MethodName) ({ cls := "TestTreeRunnerModel", name := "steps", desc := "()I" } : Jvm.MethodName)) ∈ lw_all := lw_g (lw_at lw_m2 70 rfl) rfl
theorem q337 : (Jvm.Cond.code ({ cls := "TestTreeRunnerModel", name := "steps", desc := "()I" } : Jvm.MethodName) prog_3_method_22_code (3 : Nat) (Option.some Jvm.ClassFile.FieldType.int)) ∈ lw_all := lw_g (lw_at lw_m2 71 rfl) rfl
theorem q339 : (Jvm.Cond.instanceMethod ({ cls := "TestTreeRunnerModel", name := "attempts", desc := "(I)I" } : Jvm.MethodName)) ∈ lw_all := lw_g (lw_at lw_m2 73 rfl) rfl
theorem q340 : (Jvm.Cond.selects "TestTreeRunnerModel" ({ cls := "TestTreeRunnerModel", name := "attempts", desc := "(I)I" } : Jvm.MethodName) ({ cls := "TestTreeRunnerModel", name := "attempts", desc := "(I)I" } : Jvm.MethodName)) ∈ lw_all := lw_g (lw_at lw_m2 74 rfl) rfl
theorem q341 : (Jvm.Cond.code ({ cls := "TestTreeRunnerModel", name := "attempts", desc := "(I)I" } : Jvm.MethodName) prog_3_method_23_code (2 : Nat) (Option.some Jvm.ClassFile.FieldType.int)) ∈ lw_all := lw_g (lw_at lw_m2 75 rfl) rfl
theorem in_X1 : ∀ w ∈ wsX10, w ∈ lw_all := lw_in wsX10 [230, 232, 234, 236, 238, 240, 242, 244, 246, 248, 250] (by decide +kernel) (by decide +kernel)
end
section
set_option maxRecDepth 100000
theorem dX1_init_0 : decode cX1_init 0 = .ok (.aload_n 0, 1) := by decide +kernel
theorem dX1_init_1 : decode cX1_init 1 = .ok (.invokespecial 1, 3) := by decide +kernel
theorem dX1_init_4 : decode cX1_init 4 = .ok (.aload_n 0, 1) := by decide +kernel
theorem dX1_init_5 : decode cX1_init 5 = .ok (.bipush 24, 2) := by decide +kernel
theorem dX1_init_7 : decode cX1_init 7 = .ok (.newarray .boolean, 2) := by decide +kernel
theorem dX1_init_9 : decode cX1_init 9 = .ok (.putfield 7, 3) := by decide +kernel
theorem dX1_init_12 : decode cX1_init 12 = .ok (.aload_n 0, 1) := by decide +kernel
theorem dX1_init_13 : decode cX1_init 13 = .ok (.bipush 24, 2) := by decide +kernel
theorem dX1_init_15 : decode cX1_init 15 = .ok (.newarray .int, 2) := by decide +kernel
theorem dX1_init_17 : decode cX1_init 17 = .ok (.putfield 13, 3) := by decide +kernel
theorem dX1_init_20 : decode cX1_init 20 = .ok (.aload_n 0, 1) := by decide +kernel
theorem dX1_init_21 : decode cX1_init 21 = .ok (.bipush 24, 2) := by decide +kernel
theorem dX1_init_23 : decode cX1_init 23 = .ok (.newarray .boolean, 2) := by decide +kernel
theorem dX1_init_25 : decode cX1_init 25 = .ok (.putfield 17, 3) := by decide +kernel
theorem dX1_init_28 : decode cX1_init 28 = .ok (.aload_n 0, 1) := by decide +kernel
theorem dX1_init_29 : decode cX1_init 29 = .ok (.bipush 96, 2) := by decide +kernel
theorem dX1_init_31 : decode cX1_init 31 = .ok (.newarray .int, 2) := by decide +kernel
theorem dX1_init_33 : decode cX1_init 33 = .ok (.putfield 20, 3) := by decide +kernel
theorem dX1_init_36 : decode cX1_init 36 = .ok (.aload_n 0, 1) := by decide +kernel
theorem dX1_init_37 : decode cX1_init 37 = .ok (.bipush 24, 2) := by decide +kernel
theorem dX1_init_39 : decode cX1_init 39 = .ok (.newarray .int, 2) := by decide +kernel
theorem dX1_init_41 : decode cX1_init 41 = .ok (.putfield 23, 3) := by decide +kernel
theorem dX1_init_44 : decode cX1_init 44 = .ok (.aload_n 0, 1) := by decide +kernel
theorem dX1_init_45 : decode cX1_init 45 = .ok (.bipush 24, 2) := by decide +kernel
theorem dX1_init_47 : decode cX1_init 47 = .ok (.newarray .int, 2) := by decide +kernel
theorem dX1_init_49 : decode cX1_init 49 = .ok (.putfield 26, 3) := by decide +kernel
theorem dX1_init_52 : decode cX1_init 52 = .ok (.aload_n 0, 1) := by decide +kernel
theorem dX1_init_53 : decode cX1_init 53 = .ok (.bipush 24, 2) := by decide +kernel
theorem dX1_init_55 : decode cX1_init 55 = .ok (.newarray .int, 2) := by decide +kernel
theorem dX1_init_57 : decode cX1_init 57 = .ok (.putfield 29, 3) := by decide +kernel
theorem dX1_init_60 : decode cX1_init 60 = .ok (.aload_n 0, 1) := by decide +kernel
theorem dX1_init_61 : decode cX1_init 61 = .ok (.bipush 24, 2) := by decide +kernel
theorem dX1_init_63 : decode cX1_init 63 = .ok (.newarray .int, 2) := by decide +kernel
theorem dX1_init_65 : decode cX1_init 65 = .ok (.putfield 32, 3) := by decide +kernel
theorem dX1_init_68 : decode cX1_init 68 = .ok (.aload_n 0, 1) := by decide +kernel
theorem dX1_init_69 : decode cX1_init 69 = .ok (.bipush 96, 2) := by decide +kernel
theorem dX1_init_71 : decode cX1_init 71 = .ok (.newarray .int, 2) := by decide +kernel
theorem dX1_init_73 : decode cX1_init 73 = .ok (.putfield 35, 3) := by decide +kernel
theorem dX1_init_76 : decode cX1_init 76 = .ok (.aload_n 0, 1) := by decide +kernel
theorem dX1_init_77 : decode cX1_init 77 = .ok (.bipush 24, 2) := by decide +kernel
theorem dX1_init_79 : decode cX1_init 79 = .ok (.newarray .int, 2) := by decide +kernel
theorem dX1_init_81 : decode cX1_init 81 = .ok (.putfield 38, 3) := by decide +kernel
theorem dX1_init_84 : decode cX1_init 84 = .ok (.aload_n 0, 1) := by decide +kernel
theorem dX1_init_85 : decode cX1_init 85 = .ok (.iconst 1, 1) := by decide +kernel
theorem dX1_init_86 : decode cX1_init 86 = .ok (.putfield 41, 3) := by decide +kernel
theorem dX1_init_89 : decode cX1_init 89 = .ok (.aload_n 0, 1) := by decide +kernel
theorem dX1_init_90 : decode cX1_init 90 = .ok (.getfield 13, 3) := by decide +kernel
theorem dX1_init_93 : decode cX1_init 93 = .ok (.iconst 0, 1) := by decide +kernel
theorem dX1_init_94 : decode cX1_init 94 = .ok (.iconst (-1), 1) := by decide +kernel
theorem dX1_init_95 : decode cX1_init 95 = .ok (.iastore, 1) := by decide +kernel
theorem dX1_init_96 : decode cX1_init 96 = .ok (.return_, 1) := by decide +kernel
theorem dX1_container_0 : decode cX1_container 0 = .ok (.aload_n 0, 1) := by decide +kernel
theorem dX1_container_1 : decode cX1_container 1 = .ok (.iload_n 1, 1) := by decide +kernel
theorem dX1_container_2 : decode cX1_container 2 = .ok (.iconst 0, 1) := by decide +kernel
theorem dX1_container_3 : decode cX1_container 3 = .ok (.invokevirtual 49, 3) := by decide +kernel
theorem dX1_container_6 : decode cX1_container 6 = .ok (.ireturn, 1) := by decide +kernel
theorem dX1_add_0 : decode cX1_add 0 = .ok (.aload_n 0, 1) := by decide +kernel
theorem dX1_add_1 : decode cX1_add 1 = .ok (.iload_n 1, 1) := by decide +kernel
theorem dX1_add_2 : decode cX1_add 2 = .ok (.invokevirtual 45, 3) := by decide +kernel
theorem dX1_add_5 : decode cX1_add 5 = .ok (.ifCond .ne 12, 3) := by decide +kernel
theorem dX1_add_8 : decode cX1_add 8 = .ok (.aload_n 0, 1) := by decide +kernel
theorem dX1_add_9 : decode cX1_add 9 = .ok (.getfield 7, 3) := by decide +kernel
theorem dX1_add_12 : decode cX1_add 12 = .ok (.iload_n 1, 1) := by decide +kernel
theorem dX1_add_13 : decode cX1_add 13 = .ok (.baload, 1) := by decide +kernel
theorem dX1_add_14 : decode cX1_add 14 = .ok (.ifCond .eq 5, 3) := by decide +kernel
theorem dX1_add_17 : decode cX1_add 17 = .ok (.iconst (-1), 1) := by decide +kernel
theorem dX1_add_18 : decode cX1_add 18 = .ok (.ireturn, 1) := by decide +kernel
theorem dX1_add_19 : decode cX1_add 19 = .ok (.aload_n 0, 1) := by decide +kernel
theorem dX1_add_20 : decode cX1_add 20 = .ok (.getfield 41, 3) := by decide +kernel
theorem dX1_add_23 : decode cX1_add 23 = .ok (.bipush 24, 2) := by decide +kernel
theorem dX1_add_25 : decode cX1_add 25 = .ok (.if_icmp .ne 6, 3) := by decide +kernel
theorem dX1_add_28 : decode cX1_add 28 = .ok (.bipush (-2), 2) := by decide +kernel
theorem dX1_add_30 : decode cX1_add 30 = .ok (.ireturn, 1) := by decide +kernel
theorem dX1_add_31 : decode cX1_add 31 = .ok (.aload_n 0, 1) := by decide +kernel
theorem dX1_add_32 : decode cX1_add 32 = .ok (.getfield 7, 3) := by decide +kernel
theorem dX1_add_35 : decode cX1_add 35 = .ok (.aload_n 0, 1) := by decide +kernel
theorem dX1_add_36 : decode cX1_add 36 = .ok (.getfield 41, 3) := by decide +kernel
theorem dX1_add_39 : decode cX1_add 39 = .ok (.iload_n 2, 1) := by decide +kernel
theorem dX1_add_40 : decode cX1_add 40 = .ok (.bastore, 1) := by decide +kernel
theorem dX1_add_41 : decode cX1_add 41 = .ok (.aload_n 0, 1) := by decide +kernel
theorem dX1_add_42 : decode cX1_add 42 = .ok (.getfield 13, 3) := by decide +kernel
theorem dX1_add_45 : decode cX1_add 45 = .ok (.aload_n 0, 1) := by decide +kernel
theorem dX1_add_46 : decode cX1_add 46 = .ok (.getfield 41, 3) := by decide +kernel
theorem dX1_add_49 : decode cX1_add 49 = .ok (.iload_n 1, 1) := by decide +kernel
theorem dX1_add_50 : decode cX1_add 50 = .ok (.iastore, 1) := by decide +kernel
theorem dX1_add_51 : decode cX1_add 51 = .ok (.aload_n 0, 1) := by decide +kernel
theorem dX1_add_52 : decode cX1_add 52 = .ok (.getfield 23, 3) := by decide +kernel
theorem dX1_add_55 : decode cX1_add 55 = .ok (.aload_n 0, 1) := by decide +kernel
theorem dX1_add_56 : decode cX1_add 56 = .ok (.getfield 41, 3) := by decide +kernel
theorem dX1_add_59 : decode cX1_add 59 = .ok (.iconst 1, 1) := by decide +kernel
theorem dX1_add_60 : decode cX1_add 60 = .ok (.iastore, 1) := by decide +kernel
theorem dX1_add_61 : decode cX1_add 61 = .ok (.aload_n 0, 1) := by decide +kernel
theorem dX1_add_62 : decode cX1_add 62 = .ok (.getfield 29, 3) := by decide +kernel
theorem dX1_add_65 : decode cX1_add 65 = .ok (.aload_n 0, 1) := by decide +kernel
theorem dX1_add_66 : decode cX1_add 66 = .ok (.getfield 41, 3) := by decide +kernel
theorem dX1_add_69 : decode cX1_add 69 = .ok (.iconst 1, 1) := by decide +kernel
theorem dX1_add_70 : decode cX1_add 70 = .ok (.iastore, 1) := by decide +kernel
theorem dX1_add_71 : decode cX1_add 71 = .ok (.aload_n 0, 1) := by decide +kernel
theorem dX1_add_72 : decode cX1_add 72 = .ok (.aload_n 0, 1) := by decide +kernel
theorem dX1_add_73 : decode cX1_add 73 = .ok (.getfield 41, 3) := by decide +kernel
theorem dX1_add_76 : decode cX1_add 76 = .ok (.iconst 1, 1) := by decide +kernel
theorem dX1_add_77 : decode cX1_add 77 = .ok (.iadd, 1) := by decide +kernel
theorem dX1_add_78 : decode cX1_add 78 = .ok (.putfield 41, 3) := by decide +kernel
theorem dX1_add_81 : decode cX1_add 81 = .ok (.aload_n 0, 1) := by decide +kernel
theorem dX1_add_82 : decode cX1_add 82 = .ok (.getfield 41, 3) := by decide +kernel
theorem dX1_add_85 : decode cX1_add 85 = .ok (.iconst 1, 1) := by decide +kernel
theorem dX1_add_86 : decode cX1_add 86 = .ok (.isub, 1) := by decide +kernel
theorem dX1_add_87 : decode cX1_add 87 = .ok (.ireturn, 1) := by decide +kernel
theorem dX1_noNode_0 : decode cX1_noNode 0 = .ok (.iload_n 1, 1) := by decide +kernel
theorem dX1_noNode_1 : decode cX1_noNode 1 = .ok (.ifCond .lt 11, 3) := by decide +kernel
theorem dX1_noNode_4 : decode cX1_noNode 4 = .ok (.iload_n 1, 1) := by decide +kernel
theorem dX1_noNode_5 : decode cX1_noNode 5 = .ok (.aload_n 0, 1) := by decide +kernel
theorem dX1_noNode_6 : decode cX1_noNode 6 = .ok (.getfield 41, 3) := by decide +kernel
theorem dX1_noNode_9 : decode cX1_noNode 9 = .ok (.if_icmp .lt 7, 3) := by decide +kernel
theorem dX1_noNode_12 : decode cX1_noNode 12 = .ok (.iconst 1, 1) := by decide +kernel
theorem dX1_noNode_13 : decode cX1_noNode 13 = .ok (.goto 4, 3) := by decide +kernel
theorem dX1_noNode_16 : decode cX1_noNode 16 = .ok (.iconst 0, 1) := by decide +kernel
theorem dX1_noNode_17 : decode cX1_noNode 17 = .ok (.ireturn, 1) := by decide +kernel
theorem dX1_test_0 : decode cX1_test 0 = .ok (.aload_n 0, 1) := by decide +kernel
theorem dX1_test_1 : decode cX1_test 1 = .ok (.iload_n 1, 1) := by decide +kernel
theorem dX1_test_2 : decode cX1_test 2 = .ok (.iconst 1, 1) := by decide +kernel
theorem dX1_test_3 : decode cX1_test 3 = .ok (.invokevirtual 49, 3) := by decide +kernel
theorem dX1_test_6 : decode cX1_test 6 = .ok (.ireturn, 1) := by decide +kernel
theorem dX1_hook_0 : decode cX1_hook 0 = .ok (.aload_n 0, 1) := by decide +kernel
theorem dX1_hook_1 : decode cX1_hook 1 = .ok (.iload_n 1, 1) := by decide +kernel
theorem dX1_hook_2 : decode cX1_hook 2 = .ok (.invokevirtual 45, 3) := by decide +kernel
theorem dX1_hook_5 : decode cX1_hook 5 = .ok (.ifCond .ne 12, 3) := by decide +kernel
theorem dX1_hook_8 : decode cX1_hook 8 = .ok (.aload_n 0, 1) := by decide +kernel
theorem dX1_hook_9 : decode cX1_hook 9 = .ok (.getfield 7, 3) := by decide +kernel
theorem dX1_hook_12 : decode cX1_hook 12 = .ok (.iload_n 1, 1) := by decide +kernel
theorem dX1_hook_13 : decode cX1_hook 13 = .ok (.baload, 1) := by decide +kernel
theorem dX1_hook_14 : decode cX1_hook 14 = .ok (.ifCond .eq 5, 3) := by decide +kernel
theorem dX1_hook_17 : decode cX1_hook 17 = .ok (.iconst (-1), 1) := by decide +kernel
theorem dX1_hook_18 : decode cX1_hook 18 = .ok (.ireturn, 1) := by decide +kernel
theorem dX1_hook_19 : decode cX1_hook 19 = .ok (.iload_n 2, 1) := by decide +kernel
theorem dX1_hook_20 : decode cX1_hook 20 = .ok (.ifCond .lt 17, 3) := by decide +kernel
theorem dX1_hook_23 : decode cX1_hook 23 = .ok (.iload_n 2, 1) := by decide +kernel
theorem dX1_hook_24 : decode cX1_hook 24 = .ok (.iconst 3, 1) := by decide +kernel
theorem dX1_hook_25 : decode cX1_hook 25 = .ok (.if_icmp .gt 12, 3) := by decide +kernel
theorem dX1_hook_28 : decode cX1_hook 28 = .ok (.iload_n 3, 1) := by decide +kernel
theorem dX1_hook_29 : decode cX1_hook 29 = .ok (.ifCond .lt 8, 3) := by decide +kernel
theorem dX1_hook_32 : decode cX1_hook 32 = .ok (.iload_n 3, 1) := by decide +kernel
theorem dX1_hook_33 : decode cX1_hook 33 = .ok (.iconst 3, 1) := by decide +kernel
theorem dX1_hook_34 : decode cX1_hook 34 = .ok (.if_icmp .le 6, 3) := by decide +kernel
theorem dX1_hook_37 : decode cX1_hook 37 = .ok (.bipush (-3), 2) := by decide +kernel
theorem dX1_hook_39 : decode cX1_hook 39 = .ok (.ireturn, 1) := by decide +kernel
theorem dX1_hook_40 : decode cX1_hook 40 = .ok (.aload_n 0, 1) := by decide +kernel
theorem dX1_hook_41 : decode cX1_hook 41 = .ok (.getfield 20, 3) := by decide +kernel
theorem dX1_hook_44 : decode cX1_hook 44 = .ok (.iload_n 1, 1) := by decide +kernel
theorem dX1_hook_45 : decode cX1_hook 45 = .ok (.iconst 4, 1) := by decide +kernel
theorem dX1_hook_46 : decode cX1_hook 46 = .ok (.imul, 1) := by decide +kernel
theorem dX1_hook_47 : decode cX1_hook 47 = .ok (.iload_n 2, 1) := by decide +kernel
theorem dX1_hook_48 : decode cX1_hook 48 = .ok (.iadd, 1) := by decide +kernel
theorem dX1_hook_49 : decode cX1_hook 49 = .ok (.iaload, 1) := by decide +kernel
theorem dX1_hook_50 : decode cX1_hook 50 = .ok (.istore 4, 2) := by decide +kernel
theorem dX1_hook_52 : decode cX1_hook 52 = .ok (.aload_n 0, 1) := by decide +kernel
theorem dX1_hook_53 : decode cX1_hook 53 = .ok (.getfield 20, 3) := by decide +kernel
theorem dX1_hook_56 : decode cX1_hook 56 = .ok (.iload_n 1, 1) := by decide +kernel
theorem dX1_hook_57 : decode cX1_hook 57 = .ok (.iconst 4, 1) := by decide +kernel
theorem dX1_hook_58 : decode cX1_hook 58 = .ok (.imul, 1) := by decide +kernel
theorem dX1_hook_59 : decode cX1_hook 59 = .ok (.iload_n 2, 1) := by decide +kernel
theorem dX1_hook_60 : decode cX1_hook 60 = .ok (.iadd, 1) := by decide +kernel
theorem dX1_hook_61 : decode cX1_hook 61 = .ok (.iload_n 3, 1) := by decide +kernel
theorem dX1_hook_62 : decode cX1_hook 62 = .ok (.iastore, 1) := by decide +kernel
theorem dX1_hook_63 : decode cX1_hook 63 = .ok (.iload 4, 2) := by decide +kernel
theorem dX1_hook_65 : decode cX1_hook 65 = .ok (.ireturn, 1) := by decide +kernel
theorem dX1_body_0 : decode cX1_body 0 = .ok (.aload_n 0, 1) := by decide +kernel
theorem dX1_body_1 : decode cX1_body 1 = .ok (.iload_n 1, 1) := by decide +kernel
theorem dX1_body_2 : decode cX1_body 2 = .ok (.invokevirtual 45, 3) := by decide +kernel
theorem dX1_body_5 : decode cX1_body 5 = .ok (.ifCond .ne 12, 3) := by decide +kernel
theorem dX1_body_8 : decode cX1_body 8 = .ok (.aload_n 0, 1) := by decide +kernel
theorem dX1_body_9 : decode cX1_body 9 = .ok (.getfield 7, 3) := by decide +kernel
theorem dX1_body_12 : decode cX1_body 12 = .ok (.iload_n 1, 1) := by decide +kernel
theorem dX1_body_13 : decode cX1_body 13 = .ok (.baload, 1) := by decide +kernel
theorem dX1_body_14 : decode cX1_body 14 = .ok (.ifCond .ne 5, 3) := by decide +kernel
theorem dX1_body_17 : decode cX1_body 17 = .ok (.iconst (-1), 1) := by decide +kernel
theorem dX1_body_18 : decode cX1_body 18 = .ok (.ireturn, 1) := by decide +kernel
theorem dX1_body_19 : decode cX1_body 19 = .ok (.iload_n 2, 1) := by decide +kernel
theorem dX1_body_20 : decode cX1_body 20 = .ok (.iconst 1, 1) := by decide +kernel
theorem dX1_body_21 : decode cX1_body 21 = .ok (.if_icmp .lt 8, 3) := by decide +kernel
theorem dX1_body_24 : decode cX1_body 24 = .ok (.iload_n 2, 1) := by decide +kernel
theorem dX1_body_25 : decode cX1_body 25 = .ok (.iconst 4, 1) := by decide +kernel
theorem dX1_body_26 : decode cX1_body 26 = .ok (.if_icmp .le 6, 3) := by decide +kernel
theorem dX1_body_29 : decode cX1_body 29 = .ok (.bipush (-3), 2) := by decide +kernel
theorem dX1_body_31 : decode cX1_body 31 = .ok (.ireturn, 1) := by decide +kernel
theorem dX1_body_32 : decode cX1_body 32 = .ok (.aload_n 0, 1) := by decide +kernel
theorem dX1_body_33 : decode cX1_body 33 = .ok (.getfield 23, 3) := by decide +kernel
theorem dX1_body_36 : decode cX1_body 36 = .ok (.iload_n 1, 1) := by decide +kernel
theorem dX1_body_37 : decode cX1_body 37 = .ok (.iload_n 2, 1) := by decide +kernel
theorem dX1_body_38 : decode cX1_body 38 = .ok (.iastore, 1) := by decide +kernel
theorem dX1_body_39 : decode cX1_body 39 = .ok (.aload_n 0, 1) := by decide +kernel
theorem dX1_body_40 : decode cX1_body 40 = .ok (.getfield 26, 3) := by decide +kernel
theorem dX1_body_43 : decode cX1_body 43 = .ok (.iload_n 1, 1) := by decide +kernel
theorem dX1_body_44 : decode cX1_body 44 = .ok (.iload_n 3, 1) := by decide +kernel
theorem dX1_body_45 : decode cX1_body 45 = .ok (.iastore, 1) := by decide +kernel
theorem dX1_body_46 : decode cX1_body 46 = .ok (.iconst 0, 1) := by decide +kernel
theorem dX1_body_47 : decode cX1_body 47 = .ok (.ireturn, 1) := by decide +kernel
theorem dX1_tags_0 : decode cX1_tags 0 = .ok (.aload_n 0, 1) := by decide +kernel
theorem dX1_tags_1 : decode cX1_tags 1 = .ok (.iload_n 1, 1) := by decide +kernel
theorem dX1_tags_2 : decode cX1_tags 2 = .ok (.invokevirtual 45, 3) := by decide +kernel
theorem dX1_tags_5 : decode cX1_tags 5 = .ok (.ifCond .ne 12, 3) := by decide +kernel
theorem dX1_tags_8 : decode cX1_tags 8 = .ok (.aload_n 0, 1) := by decide +kernel
theorem dX1_tags_9 : decode cX1_tags 9 = .ok (.getfield 7, 3) := by decide +kernel
theorem dX1_tags_12 : decode cX1_tags 12 = .ok (.iload_n 1, 1) := by decide +kernel
theorem dX1_tags_13 : decode cX1_tags 13 = .ok (.baload, 1) := by decide +kernel
theorem dX1_tags_14 : decode cX1_tags 14 = .ok (.ifCond .ne 5, 3) := by decide +kernel
theorem dX1_tags_17 : decode cX1_tags 17 = .ok (.iconst (-1), 1) := by decide +kernel
theorem dX1_tags_18 : decode cX1_tags 18 = .ok (.ireturn, 1) := by decide +kernel
theorem dX1_tags_19 : decode cX1_tags 19 = .ok (.aload_n 0, 1) := by decide +kernel
theorem dX1_tags_20 : decode cX1_tags 20 = .ok (.getfield 29, 3) := by decide +kernel
theorem dX1_tags_23 : decode cX1_tags 23 = .ok (.iload_n 1, 1) := by decide +kernel
theorem dX1_tags_24 : decode cX1_tags 24 = .ok (.iload_n 2, 1) := by decide +kernel
theorem dX1_tags_25 : decode cX1_tags 25 = .ok (.iastore, 1) := by decide +kernel
theorem dX1_tags_26 : decode cX1_tags 26 = .ok (.iconst 0, 1) := by decide +kernel
theorem dX1_tags_27 : decode cX1_tags 27 = .ok (.ireturn, 1) := by decide +kernel
theorem dX1_disable_0 : decode cX1_disable 0 = .ok (.aload_n 0, 1) := by decide +kernel
theorem dX1_disable_1 : decode cX1_disable 1 = .ok (.iload_n 1, 1) := by decide +kernel
theorem dX1_disable_2 : decode cX1_disable 2 = .ok (.invokevirtual 45, 3) := by decide +kernel
theorem dX1_disable_5 : decode cX1_disable 5 = .ok (.ifCond .eq 5, 3) := by decide +kernel
theorem dX1_disable_8 : decode cX1_disable 8 = .ok (.iconst (-1), 1) := by decide +kernel
theorem dX1_disable_9 : decode cX1_disable 9 = .ok (.ireturn, 1) := by decide +kernel
theorem dX1_disable_10 : decode cX1_disable 10 = .ok (.aload_n 0, 1) := by decide +kernel
theorem dX1_disable_11 : decode cX1_disable 11 = .ok (.getfield 17, 3) := by decide +kernel
theorem dX1_disable_14 : decode cX1_disable 14 = .ok (.iload_n 1, 1) := by decide +kernel
theorem dX1_disable_15 : decode cX1_disable 15 = .ok (.baload, 1) := by decide +kernel
theorem dX1_disable_16 : decode cX1_disable 16 = .ok (.ifCond .eq 7, 3) := by decide +kernel
theorem dX1_disable_19 : decode cX1_disable 19 = .ok (.iconst 1, 1) := by decide +kernel
theorem dX1_disable_20 : decode cX1_disable 20 = .ok (.goto 4, 3) := by decide +kernel
theorem dX1_disable_23 : decode cX1_disable 23 = .ok (.iconst 0, 1) := by decide +kernel
theorem dX1_disable_24 : decode cX1_disable 24 = .ok (.istore_n 3, 1) := by decide +kernel
theorem dX1_disable_25 : decode cX1_disable 25 = .ok (.aload_n 0, 1) := by decide +kernel
theorem dX1_disable_26 : decode cX1_disable 26 = .ok (.getfield 17, 3) := by decide +kernel
theorem dX1_disable_29 : decode cX1_disable 29 = .ok (.iload_n 1, 1) := by decide +kernel
theorem dX1_disable_30 : decode cX1_disable 30 = .ok (.iload_n 2, 1) := by decide +kernel
theorem dX1_disable_31 : decode cX1_disable 31 = .ok (.bastore, 1) := by decide +kernel
theorem dX1_disable_32 : decode cX1_disable 32 = .ok (.iload_n 3, 1) := by decide +kernel
theorem dX1_disable_33 : decode cX1_disable 33 = .ok (.ireturn, 1) := by decide +kernel
theorem dX1_run_0 : decode cX1_run 0 = .ok (.iconst 0, 1) := by decide +kernel
theorem dX1_run_1 : decode cX1_run 1 = .ok (.istore_n 2, 1) := by decide +kernel
theorem dX1_run_2 : decode cX1_run 2 = .ok (.iload_n 2, 1) := by decide +kernel
theorem dX1_run_3 : decode cX1_run 3 = .ok (.bipush 96, 2) := by decide +kernel
theorem dX1_run_5 : decode cX1_run 5 = .ok (.if_icmp .ge 16, 3) := by decide +kernel
theorem dX1_run_8 : decode cX1_run 8 = .ok (.aload_n 0, 1) := by decide +kernel
theorem dX1_run_9 : decode cX1_run 9 = .ok (.getfield 35, 3) := by decide +kernel
theorem dX1_run_12 : decode cX1_run 12 = .ok (.iload_n 2, 1) := by decide +kernel
theorem dX1_run_13 : decode cX1_run 13 = .ok (.iconst 0, 1) := by decide +kernel
theorem dX1_run_14 : decode cX1_run 14 = .ok (.iastore, 1) := by decide +kernel
theorem dX1_run_15 : decode cX1_run 15 = .ok (.iinc 2 1, 3) := by decide +kernel
theorem dX1_run_18 : decode cX1_run 18 = .ok (.goto (-16), 3) := by decide +kernel
theorem dX1_run_21 : decode cX1_run 21 = .ok (.iconst 0, 1) := by decide +kernel
theorem dX1_run_22 : decode cX1_run 22 = .ok (.istore_n 2, 1) := by decide +kernel
theorem dX1_run_23 : decode cX1_run 23 = .ok (.iload_n 2, 1) := by decide +kernel
theorem dX1_run_24 : decode cX1_run 24 = .ok (.bipush 24, 2) := by decide +kernel
theorem dX1_run_26 : decode cX1_run 26 = .ok (.if_icmp .ge 23, 3) := by decide +kernel
theorem dX1_run_29 : decode cX1_run 29 = .ok (.aload_n 0, 1) := by decide +kernel
theorem dX1_run_30 : decode cX1_run 30 = .ok (.getfield 32, 3) := by decide +kernel
theorem dX1_run_33 : decode cX1_run 33 = .ok (.iload_n 2, 1) := by decide +kernel
theorem dX1_run_34 : decode cX1_run 34 = .ok (.iconst 0, 1) := by decide +kernel
theorem dX1_run_35 : decode cX1_run 35 = .ok (.iastore, 1) := by decide +kernel
theorem dX1_run_36 : decode cX1_run 36 = .ok (.aload_n 0, 1) := by decide +kernel
theorem dX1_run_37 : decode cX1_run 37 = .ok (.getfield 38, 3) := by decide +kernel
theorem dX1_run_40 : decode cX1_run 40 = .ok (.iload_n 2, 1) := by decide +kernel
theorem dX1_run_41 : decode cX1_run 41 = .ok (.iconst 0, 1) := by decide +kernel
theorem dX1_run_42 : decode cX1_run 42 = .ok (.iastore, 1) := by decide +kernel
theorem dX1_run_43 : decode cX1_run 43 = .ok (.iinc 2 1, 3) := by decide +kernel
theorem dX1_run_46 : decode cX1_run 46 = .ok (.goto (-23), 3) := by decide +kernel
theorem dX1_run_49 : decode cX1_run 49 = .ok (.iconst 0, 1) := by decide +kernel
theorem dX1_run_50 : decode cX1_run 50 = .ok (.istore_n 2, 1) := by decide +kernel
theorem dX1_run_51 : decode cX1_run 51 = .ok (.iload_n 2, 1) := by decide +kernel
theorem dX1_run_52 : decode cX1_run 52 = .ok (.aload_n 0, 1) := by decide +kernel
theorem dX1_run_53 : decode cX1_run 53 = .ok (.getfield 41, 3) := by decide +kernel
theorem dX1_run_56 : decode cX1_run 56 = .ok (.if_icmp .ge 70, 3) := by decide +kernel
theorem dX1_run_59 : decode cX1_run 59 = .ok (.aload_n 0, 1) := by decide +kernel
theorem dX1_run_60 : decode cX1_run 60 = .ok (.iload_n 2, 1) := by decide +kernel
theorem dX1_run_61 : decode cX1_run 61 = .ok (.iconst 0, 1) := by decide +kernel
theorem dX1_run_62 : decode cX1_run 62 = .ok (.invokevirtual 60, 3) := by decide +kernel
theorem dX1_run_65 : decode cX1_run 65 = .ok (.istore_n 3, 1) := by decide +kernel
theorem dX1_run_66 : decode cX1_run 66 = .ok (.aload_n 0, 1) := by decide +kernel
theorem dX1_run_67 : decode cX1_run 67 = .ok (.getfield 7, 3) := by decide +kernel
theorem dX1_run_70 : decode cX1_run 70 = .ok (.iload_n 2, 1) := by decide +kernel
theorem dX1_run_71 : decode cX1_run 71 = .ok (.baload, 1) := by decide +kernel
theorem dX1_run_72 : decode cX1_run 72 = .ok (.ifCond .eq 21, 3) := by decide +kernel
theorem dX1_run_75 : decode cX1_run 75 = .ok (.iload_n 3, 1) := by decide +kernel
theorem dX1_run_76 : decode cX1_run 76 = .ok (.ifCond .eq 17, 3) := by decide +kernel
theorem dX1_run_79 : decode cX1_run 79 = .ok (.aload_n 0, 1) := by decide +kernel
theorem dX1_run_80 : decode cX1_run 80 = .ok (.iload_n 2, 1) := by decide +kernel
theorem dX1_run_81 : decode cX1_run 81 = .ok (.iload_n 1, 1) := by decide +kernel
theorem dX1_run_82 : decode cX1_run 82 = .ok (.invokevirtual 57, 3) := by decide +kernel
theorem dX1_run_85 : decode cX1_run 85 = .ok (.ifCond .eq 8, 3) := by decide +kernel
theorem dX1_run_88 : decode cX1_run 88 = .ok (.aload_n 0, 1) := by decide +kernel
theorem dX1_run_89 : decode cX1_run 89 = .ok (.iload_n 2, 1) := by decide +kernel
theorem dX1_run_90 : decode cX1_run 90 = .ok (.invokevirtual 67, 3) := by decide +kernel
theorem dX1_run_93 : decode cX1_run 93 = .ok (.aload_n 0, 1) := by decide +kernel
theorem dX1_run_94 : decode cX1_run 94 = .ok (.getfield 7, 3) := by decide +kernel
theorem dX1_run_97 : decode cX1_run 97 = .ok (.iload_n 2, 1) := by decide +kernel
theorem dX1_run_98 : decode cX1_run 98 = .ok (.baload, 1) := by decide +kernel
theorem dX1_run_99 : decode cX1_run 99 = .ok (.ifCond .ne 21, 3) := by decide +kernel
theorem dX1_run_102 : decode cX1_run 102 = .ok (.iload_n 3, 1) := by decide +kernel
theorem dX1_run_103 : decode cX1_run 103 = .ok (.ifCond .eq 17, 3) := by decide +kernel
theorem dX1_run_106 : decode cX1_run 106 = .ok (.aload_n 0, 1) := by decide +kernel
end
section
set_option maxRecDepth 100000
theorem dX1_run_107 : decode cX1_run 107 = .ok (.iload_n 2, 1) := by decide +kernel
theorem dX1_run_108 : decode cX1_run 108 = .ok (.iload_n 1, 1) := by decide +kernel
theorem dX1_run_109 : decode cX1_run 109 = .ok (.invokevirtual 71, 3) := by decide +kernel
theorem dX1_run_112 : decode cX1_run 112 = .ok (.ifCond .eq 8, 3) := by decide +kernel
theorem dX1_run_115 : decode cX1_run 115 = .ok (.aload_n 0, 1) := by decide +kernel
theorem dX1_run_116 : decode cX1_run 116 = .ok (.iload_n 2, 1) := by decide +kernel
theorem dX1_run_117 : decode cX1_run 117 = .ok (.invokevirtual 74, 3) := by decide +kernel
theorem dX1_run_120 : decode cX1_run 120 = .ok (.iinc 2 1, 3) := by decide +kernel
theorem dX1_run_123 : decode cX1_run 123 = .ok (.goto (-72), 3) := by decide +kernel
theorem dX1_run_126 : decode cX1_run 126 = .ok (.iconst 0, 1) := by decide +kernel
theorem dX1_run_127 : decode cX1_run 127 = .ok (.istore_n 2, 1) := by decide +kernel
theorem dX1_run_128 : decode cX1_run 128 = .ok (.iload_n 2, 1) := by decide +kernel
theorem dX1_run_129 : decode cX1_run 129 = .ok (.aload_n 0, 1) := by decide +kernel
theorem dX1_run_130 : decode cX1_run 130 = .ok (.getfield 41, 3) := by decide +kernel
theorem dX1_run_133 : decode cX1_run 133 = .ok (.if_icmp .ge 23, 3) := by decide +kernel
theorem dX1_run_136 : decode cX1_run 136 = .ok (.aload_n 0, 1) := by decide +kernel
theorem dX1_run_137 : decode cX1_run 137 = .ok (.getfield 7, 3) := by decide +kernel
theorem dX1_run_140 : decode cX1_run 140 = .ok (.iload_n 2, 1) := by decide +kernel
theorem dX1_run_141 : decode cX1_run 141 = .ok (.baload, 1) := by decide +kernel
theorem dX1_run_142 : decode cX1_run 142 = .ok (.ifCond .ne 8, 3) := by decide +kernel
theorem dX1_run_145 : decode cX1_run 145 = .ok (.aload_n 0, 1) := by decide +kernel
theorem dX1_run_146 : decode cX1_run 146 = .ok (.iload_n 2, 1) := by decide +kernel
theorem dX1_run_147 : decode cX1_run 147 = .ok (.invokevirtual 77, 3) := by decide +kernel
theorem dX1_run_150 : decode cX1_run 150 = .ok (.iinc 2 1, 3) := by decide +kernel
theorem dX1_run_153 : decode cX1_run 153 = .ok (.goto (-25), 3) := by decide +kernel
theorem dX1_run_156 : decode cX1_run 156 = .ok (.aload_n 0, 1) := by decide +kernel
theorem dX1_run_157 : decode cX1_run 157 = .ok (.iconst 2, 1) := by decide +kernel
theorem dX1_run_158 : decode cX1_run 158 = .ok (.invokevirtual 80, 3) := by decide +kernel
theorem dX1_run_161 : decode cX1_run 161 = .ok (.ireturn, 1) := by decide +kernel
theorem dX1_passes_0 : decode cX1_passes 0 = .ok (.iconst 0, 1) := by decide +kernel
theorem dX1_passes_1 : decode cX1_passes 1 = .ok (.istore_n 3, 1) := by decide +kernel
theorem dX1_passes_2 : decode cX1_passes 2 = .ok (.iload_n 3, 1) := by decide +kernel
theorem dX1_passes_3 : decode cX1_passes 3 = .ok (.aload_n 0, 1) := by decide +kernel
theorem dX1_passes_4 : decode cX1_passes 4 = .ok (.getfield 41, 3) := by decide +kernel
theorem dX1_passes_7 : decode cX1_passes 7 = .ok (.if_icmp .ge 34, 3) := by decide +kernel
theorem dX1_passes_10 : decode cX1_passes 10 = .ok (.aload_n 0, 1) := by decide +kernel
theorem dX1_passes_11 : decode cX1_passes 11 = .ok (.iload_n 3, 1) := by decide +kernel
theorem dX1_passes_12 : decode cX1_passes 12 = .ok (.iload_n 1, 1) := by decide +kernel
theorem dX1_passes_13 : decode cX1_passes 13 = .ok (.invokevirtual 53, 3) := by decide +kernel
theorem dX1_passes_16 : decode cX1_passes 16 = .ok (.ifCond .eq 19, 3) := by decide +kernel
theorem dX1_passes_19 : decode cX1_passes 19 = .ok (.aload_n 0, 1) := by decide +kernel
theorem dX1_passes_20 : decode cX1_passes 20 = .ok (.getfield 20, 3) := by decide +kernel
theorem dX1_passes_23 : decode cX1_passes 23 = .ok (.iload_n 3, 1) := by decide +kernel
theorem dX1_passes_24 : decode cX1_passes 24 = .ok (.iconst 4, 1) := by decide +kernel
theorem dX1_passes_25 : decode cX1_passes 25 = .ok (.imul, 1) := by decide +kernel
theorem dX1_passes_26 : decode cX1_passes 26 = .ok (.iload_n 2, 1) := by decide +kernel
theorem dX1_passes_27 : decode cX1_passes 27 = .ok (.iadd, 1) := by decide +kernel
theorem dX1_passes_28 : decode cX1_passes 28 = .ok (.iaload, 1) := by decide +kernel
theorem dX1_passes_29 : decode cX1_passes 29 = .ok (.iconst 1, 1) := by decide +kernel
theorem dX1_passes_30 : decode cX1_passes 30 = .ok (.if_icmp .le 5, 3) := by decide +kernel
theorem dX1_passes_33 : decode cX1_passes 33 = .ok (.iconst 0, 1) := by decide +kernel
theorem dX1_passes_34 : decode cX1_passes 34 = .ok (.ireturn, 1) := by decide +kernel
theorem dX1_passes_35 : decode cX1_passes 35 = .ok (.iinc 3 1, 3) := by decide +kernel
theorem dX1_passes_38 : decode cX1_passes 38 = .ok (.goto (-36), 3) := by decide +kernel
theorem dX1_passes_41 : decode cX1_passes 41 = .ok (.iconst 1, 1) := by decide +kernel
theorem dX1_passes_42 : decode cX1_passes 42 = .ok (.ireturn, 1) := by decide +kernel
theorem dX1_above_0 : decode cX1_above 0 = .ok (.aload_n 0, 1) := by decide +kernel
theorem dX1_above_1 : decode cX1_above 1 = .ok (.getfield 13, 3) := by decide +kernel
theorem dX1_above_4 : decode cX1_above 4 = .ok (.iload_n 2, 1) := by decide +kernel
theorem dX1_above_5 : decode cX1_above 5 = .ok (.iaload, 1) := by decide +kernel
theorem dX1_above_6 : decode cX1_above 6 = .ok (.istore_n 3, 1) := by decide +kernel
theorem dX1_above_7 : decode cX1_above 7 = .ok (.iconst 0, 1) := by decide +kernel
theorem dX1_above_8 : decode cX1_above 8 = .ok (.istore 4, 2) := by decide +kernel
theorem dX1_above_10 : decode cX1_above 10 = .ok (.iload 4, 2) := by decide +kernel
theorem dX1_above_12 : decode cX1_above 12 = .ok (.bipush 24, 2) := by decide +kernel
theorem dX1_above_14 : decode cX1_above 14 = .ok (.if_icmp .ge 27, 3) := by decide +kernel
theorem dX1_above_17 : decode cX1_above 17 = .ok (.iload_n 3, 1) := by decide +kernel
theorem dX1_above_18 : decode cX1_above 18 = .ok (.ifCond .lt 23, 3) := by decide +kernel
theorem dX1_above_21 : decode cX1_above 21 = .ok (.iload_n 3, 1) := by decide +kernel
theorem dX1_above_22 : decode cX1_above 22 = .ok (.iload_n 1, 1) := by decide +kernel
theorem dX1_above_23 : decode cX1_above 23 = .ok (.if_icmp .ne 5, 3) := by decide +kernel
theorem dX1_above_26 : decode cX1_above 26 = .ok (.iconst 1, 1) := by decide +kernel
theorem dX1_above_27 : decode cX1_above 27 = .ok (.ireturn, 1) := by decide +kernel
theorem dX1_above_28 : decode cX1_above 28 = .ok (.aload_n 0, 1) := by decide +kernel
theorem dX1_above_29 : decode cX1_above 29 = .ok (.getfield 13, 3) := by decide +kernel
theorem dX1_above_32 : decode cX1_above 32 = .ok (.iload_n 3, 1) := by decide +kernel
theorem dX1_above_33 : decode cX1_above 33 = .ok (.iaload, 1) := by decide +kernel
theorem dX1_above_34 : decode cX1_above 34 = .ok (.istore_n 3, 1) := by decide +kernel
theorem dX1_above_35 : decode cX1_above 35 = .ok (.iinc 4 1, 3) := by decide +kernel
theorem dX1_above_38 : decode cX1_above 38 = .ok (.goto (-28), 3) := by decide +kernel
theorem dX1_above_41 : decode cX1_above 41 = .ok (.iconst 0, 1) := by decide +kernel
theorem dX1_above_42 : decode cX1_above 42 = .ok (.ireturn, 1) := by decide +kernel
theorem dX1_selected_0 : decode cX1_selected 0 = .ok (.aload_n 0, 1) := by decide +kernel
theorem dX1_selected_1 : decode cX1_selected 1 = .ok (.getfield 7, 3) := by decide +kernel
theorem dX1_selected_4 : decode cX1_selected 4 = .ok (.iload_n 1, 1) := by decide +kernel
theorem dX1_selected_5 : decode cX1_selected 5 = .ok (.baload, 1) := by decide +kernel
theorem dX1_selected_6 : decode cX1_selected 6 = .ok (.ifCond .eq 23, 3) := by decide +kernel
theorem dX1_selected_9 : decode cX1_selected 9 = .ok (.aload_n 0, 1) := by decide +kernel
theorem dX1_selected_10 : decode cX1_selected 10 = .ok (.getfield 29, 3) := by decide +kernel
theorem dX1_selected_13 : decode cX1_selected 13 = .ok (.iload_n 1, 1) := by decide +kernel
theorem dX1_selected_14 : decode cX1_selected 14 = .ok (.iaload, 1) := by decide +kernel
theorem dX1_selected_15 : decode cX1_selected 15 = .ok (.iload_n 2, 1) := by decide +kernel
theorem dX1_selected_16 : decode cX1_selected 16 = .ok (.iand, 1) := by decide +kernel
theorem dX1_selected_17 : decode cX1_selected 17 = .ok (.ifCond .eq 12, 3) := by decide +kernel
theorem dX1_selected_20 : decode cX1_selected 20 = .ok (.aload_n 0, 1) := by decide +kernel
theorem dX1_selected_21 : decode cX1_selected 21 = .ok (.getfield 17, 3) := by decide +kernel
theorem dX1_selected_24 : decode cX1_selected 24 = .ok (.iload_n 1, 1) := by decide +kernel
theorem dX1_selected_25 : decode cX1_selected 25 = .ok (.baload, 1) := by decide +kernel
theorem dX1_selected_26 : decode cX1_selected 26 = .ok (.ifCond .eq 5, 3) := by decide +kernel
theorem dX1_selected_29 : decode cX1_selected 29 = .ok (.iconst 0, 1) := by decide +kernel
theorem dX1_selected_30 : decode cX1_selected 30 = .ok (.ireturn, 1) := by decide +kernel
theorem dX1_selected_31 : decode cX1_selected 31 = .ok (.iconst 0, 1) := by decide +kernel
theorem dX1_selected_32 : decode cX1_selected 32 = .ok (.istore_n 3, 1) := by decide +kernel
theorem dX1_selected_33 : decode cX1_selected 33 = .ok (.iload_n 3, 1) := by decide +kernel
theorem dX1_selected_34 : decode cX1_selected 34 = .ok (.aload_n 0, 1) := by decide +kernel
theorem dX1_selected_35 : decode cX1_selected 35 = .ok (.getfield 41, 3) := by decide +kernel
theorem dX1_selected_38 : decode cX1_selected 38 = .ok (.if_icmp .ge 29, 3) := by decide +kernel
theorem dX1_selected_41 : decode cX1_selected 41 = .ok (.aload_n 0, 1) := by decide +kernel
theorem dX1_selected_42 : decode cX1_selected 42 = .ok (.getfield 17, 3) := by decide +kernel
theorem dX1_selected_45 : decode cX1_selected 45 = .ok (.iload_n 3, 1) := by decide +kernel
theorem dX1_selected_46 : decode cX1_selected 46 = .ok (.baload, 1) := by decide +kernel
theorem dX1_selected_47 : decode cX1_selected 47 = .ok (.ifCond .eq 14, 3) := by decide +kernel
theorem dX1_selected_50 : decode cX1_selected 50 = .ok (.aload_n 0, 1) := by decide +kernel
theorem dX1_selected_51 : decode cX1_selected 51 = .ok (.iload_n 3, 1) := by decide +kernel
theorem dX1_selected_52 : decode cX1_selected 52 = .ok (.iload_n 1, 1) := by decide +kernel
theorem dX1_selected_53 : decode cX1_selected 53 = .ok (.invokevirtual 53, 3) := by decide +kernel
theorem dX1_selected_56 : decode cX1_selected 56 = .ok (.ifCond .eq 5, 3) := by decide +kernel
theorem dX1_selected_59 : decode cX1_selected 59 = .ok (.iconst 0, 1) := by decide +kernel
theorem dX1_selected_60 : decode cX1_selected 60 = .ok (.ireturn, 1) := by decide +kernel
theorem dX1_selected_61 : decode cX1_selected 61 = .ok (.iinc 3 1, 3) := by decide +kernel
theorem dX1_selected_64 : decode cX1_selected 64 = .ok (.goto (-31), 3) := by decide +kernel
theorem dX1_selected_67 : decode cX1_selected 67 = .ok (.iconst 1, 1) := by decide +kernel
theorem dX1_selected_68 : decode cX1_selected 68 = .ok (.ireturn, 1) := by decide +kernel
theorem dX1_runTest_0 : decode cX1_runTest 0 = .ok (.iconst 0, 1) := by decide +kernel
theorem dX1_runTest_1 : decode cX1_runTest 1 = .ok (.istore_n 2, 1) := by decide +kernel
theorem dX1_runTest_2 : decode cX1_runTest 2 = .ok (.iconst 2, 1) := by decide +kernel
theorem dX1_runTest_3 : decode cX1_runTest 3 = .ok (.istore_n 3, 1) := by decide +kernel
theorem dX1_runTest_4 : decode cX1_runTest 4 = .ok (.iconst 0, 1) := by decide +kernel
theorem dX1_runTest_5 : decode cX1_runTest 5 = .ok (.istore 4, 2) := by decide +kernel
theorem dX1_runTest_7 : decode cX1_runTest 7 = .ok (.iload 4, 2) := by decide +kernel
theorem dX1_runTest_9 : decode cX1_runTest 9 = .ok (.aload_n 0, 1) := by decide +kernel
theorem dX1_runTest_10 : decode cX1_runTest 10 = .ok (.getfield 23, 3) := by decide +kernel
theorem dX1_runTest_13 : decode cX1_runTest 13 = .ok (.iload_n 1, 1) := by decide +kernel
theorem dX1_runTest_14 : decode cX1_runTest 14 = .ok (.iaload, 1) := by decide +kernel
theorem dX1_runTest_15 : decode cX1_runTest 15 = .ok (.if_icmp .ge 72, 3) := by decide +kernel
theorem dX1_runTest_18 : decode cX1_runTest 18 = .ok (.iload_n 3, 1) := by decide +kernel
theorem dX1_runTest_19 : decode cX1_runTest 19 = .ok (.iconst 2, 1) := by decide +kernel
theorem dX1_runTest_20 : decode cX1_runTest 20 = .ok (.if_icmp .ne 61, 3) := by decide +kernel
theorem dX1_runTest_23 : decode cX1_runTest 23 = .ok (.aload_n 0, 1) := by decide +kernel
theorem dX1_runTest_24 : decode cX1_runTest 24 = .ok (.getfield 26, 3) := by decide +kernel
theorem dX1_runTest_27 : decode cX1_runTest 27 = .ok (.iload_n 1, 1) := by decide +kernel
theorem dX1_runTest_28 : decode cX1_runTest 28 = .ok (.iaload, 1) := by decide +kernel
theorem dX1_runTest_29 : decode cX1_runTest 29 = .ok (.iconst 2, 1) := by decide +kernel
theorem dX1_runTest_30 : decode cX1_runTest 30 = .ok (.iload 4, 2) := by decide +kernel
theorem dX1_runTest_32 : decode cX1_runTest 32 = .ok (.imul, 1) := by decide +kernel
theorem dX1_runTest_33 : decode cX1_runTest 33 = .ok (.ishr, 1) := by decide +kernel
theorem dX1_runTest_34 : decode cX1_runTest 34 = .ok (.iconst 3, 1) := by decide +kernel
theorem dX1_runTest_35 : decode cX1_runTest 35 = .ok (.iand, 1) := by decide +kernel
theorem dX1_runTest_36 : decode cX1_runTest 36 = .ok (.istore 5, 2) := by decide +kernel
theorem dX1_runTest_38 : decode cX1_runTest 38 = .ok (.aload_n 0, 1) := by decide +kernel
theorem dX1_runTest_39 : decode cX1_runTest 39 = .ok (.iload_n 1, 1) := by decide +kernel
theorem dX1_runTest_40 : decode cX1_runTest 40 = .ok (.iload 5, 2) := by decide +kernel
theorem dX1_runTest_42 : decode cX1_runTest 42 = .ok (.iconst 2, 1) := by decide +kernel
theorem dX1_runTest_43 : decode cX1_runTest 43 = .ok (.invokevirtual 63, 3) := by decide +kernel
theorem dX1_runTest_46 : decode cX1_runTest 46 = .ok (.istore 6, 2) := by decide +kernel
theorem dX1_runTest_48 : decode cX1_runTest 48 = .ok (.aload_n 0, 1) := by decide +kernel
theorem dX1_runTest_49 : decode cX1_runTest 49 = .ok (.iload_n 1, 1) := by decide +kernel
theorem dX1_runTest_50 : decode cX1_runTest 50 = .ok (.iload 5, 2) := by decide +kernel
theorem dX1_runTest_52 : decode cX1_runTest 52 = .ok (.iconst 3, 1) := by decide +kernel
theorem dX1_runTest_53 : decode cX1_runTest 53 = .ok (.invokevirtual 63, 3) := by decide +kernel
theorem dX1_runTest_56 : decode cX1_runTest 56 = .ok (.istore 7, 2) := by decide +kernel
theorem dX1_runTest_58 : decode cX1_runTest 58 = .ok (.iload 6, 2) := by decide +kernel
theorem dX1_runTest_60 : decode cX1_runTest 60 = .ok (.ifCond .eq 7, 3) := by decide +kernel
theorem dX1_runTest_63 : decode cX1_runTest 63 = .ok (.iconst 2, 1) := by decide +kernel
theorem dX1_runTest_64 : decode cX1_runTest 64 = .ok (.goto 13, 3) := by decide +kernel
theorem dX1_runTest_67 : decode cX1_runTest 67 = .ok (.iload 7, 2) := by decide +kernel
theorem dX1_runTest_69 : decode cX1_runTest 69 = .ok (.ifCond .eq 7, 3) := by decide +kernel
theorem dX1_runTest_72 : decode cX1_runTest 72 = .ok (.iconst 3, 1) := by decide +kernel
theorem dX1_runTest_73 : decode cX1_runTest 73 = .ok (.goto 4, 3) := by decide +kernel
theorem dX1_runTest_76 : decode cX1_runTest 76 = .ok (.iconst 1, 1) := by decide +kernel
theorem dX1_runTest_77 : decode cX1_runTest 77 = .ok (.istore_n 3, 1) := by decide +kernel
theorem dX1_runTest_78 : decode cX1_runTest 78 = .ok (.iinc 2 1, 3) := by decide +kernel
theorem dX1_runTest_81 : decode cX1_runTest 81 = .ok (.iinc 4 1, 3) := by decide +kernel
theorem dX1_runTest_84 : decode cX1_runTest 84 = .ok (.goto (-77), 3) := by decide +kernel
theorem dX1_runTest_87 : decode cX1_runTest 87 = .ok (.aload_n 0, 1) := by decide +kernel
theorem dX1_runTest_88 : decode cX1_runTest 88 = .ok (.getfield 32, 3) := by decide +kernel
theorem dX1_runTest_91 : decode cX1_runTest 91 = .ok (.iload_n 1, 1) := by decide +kernel
theorem dX1_runTest_92 : decode cX1_runTest 92 = .ok (.iload_n 3, 1) := by decide +kernel
theorem dX1_runTest_93 : decode cX1_runTest 93 = .ok (.iastore, 1) := by decide +kernel
theorem dX1_runTest_94 : decode cX1_runTest 94 = .ok (.aload_n 0, 1) := by decide +kernel
theorem dX1_runTest_95 : decode cX1_runTest 95 = .ok (.getfield 38, 3) := by decide +kernel
theorem dX1_runTest_98 : decode cX1_runTest 98 = .ok (.iload_n 1, 1) := by decide +kernel
theorem dX1_runTest_99 : decode cX1_runTest 99 = .ok (.iload_n 2, 1) := by decide +kernel
theorem dX1_runTest_100 : decode cX1_runTest 100 = .ok (.iastore, 1) := by decide +kernel
theorem dX1_runTest_101 : decode cX1_runTest 101 = .ok (.aload_n 0, 1) := by decide +kernel
theorem dX1_runTest_102 : decode cX1_runTest 102 = .ok (.getfield 35, 3) := by decide +kernel
theorem dX1_runTest_105 : decode cX1_runTest 105 = .ok (.iload_n 1, 1) := by decide +kernel
theorem dX1_runTest_106 : decode cX1_runTest 106 = .ok (.iconst 4, 1) := by decide +kernel
theorem dX1_runTest_107 : decode cX1_runTest 107 = .ok (.imul, 1) := by decide +kernel
theorem dX1_runTest_108 : decode cX1_runTest 108 = .ok (.aload_n 0, 1) := by decide +kernel
theorem dX1_runTest_109 : decode cX1_runTest 109 = .ok (.iload_n 1, 1) := by decide +kernel
theorem dX1_runTest_110 : decode cX1_runTest 110 = .ok (.iconst 2, 1) := by decide +kernel
theorem dX1_runTest_111 : decode cX1_runTest 111 = .ok (.invokevirtual 60, 3) := by decide +kernel
theorem dX1_runTest_114 : decode cX1_runTest 114 = .ok (.ifCond .eq 7, 3) := by decide +kernel
theorem dX1_runTest_117 : decode cX1_runTest 117 = .ok (.iload_n 2, 1) := by decide +kernel
theorem dX1_runTest_118 : decode cX1_runTest 118 = .ok (.goto 4, 3) := by decide +kernel
theorem dX1_runTest_121 : decode cX1_runTest 121 = .ok (.iconst 0, 1) := by decide +kernel
theorem dX1_runTest_122 : decode cX1_runTest 122 = .ok (.iastore, 1) := by decide +kernel
theorem dX1_runTest_123 : decode cX1_runTest 123 = .ok (.return_, 1) := by decide +kernel
theorem dX1_has_0 : decode cX1_has 0 = .ok (.iconst 0, 1) := by decide +kernel
theorem dX1_has_1 : decode cX1_has 1 = .ok (.istore 4, 2) := by decide +kernel
theorem dX1_has_3 : decode cX1_has 3 = .ok (.iload 4, 2) := by decide +kernel
theorem dX1_has_5 : decode cX1_has 5 = .ok (.aload_n 0, 1) := by decide +kernel
theorem dX1_has_6 : decode cX1_has 6 = .ok (.getfield 41, 3) := by decide +kernel
theorem dX1_has_9 : decode cX1_has 9 = .ok (.if_icmp .ge 61, 3) := by decide +kernel
theorem dX1_has_12 : decode cX1_has 12 = .ok (.aload_n 0, 1) := by decide +kernel
theorem dX1_has_13 : decode cX1_has 13 = .ok (.iload 4, 2) := by decide +kernel
theorem dX1_has_15 : decode cX1_has 15 = .ok (.iload_n 1, 1) := by decide +kernel
theorem dX1_has_16 : decode cX1_has 16 = .ok (.invokevirtual 53, 3) := by decide +kernel
theorem dX1_has_19 : decode cX1_has 19 = .ok (.ifCond .eq 45, 3) := by decide +kernel
theorem dX1_has_22 : decode cX1_has 22 = .ok (.aload_n 0, 1) := by decide +kernel
theorem dX1_has_23 : decode cX1_has 23 = .ok (.iload 4, 2) := by decide +kernel
theorem dX1_has_25 : decode cX1_has 25 = .ok (.iconst 2, 1) := by decide +kernel
theorem dX1_has_26 : decode cX1_has 26 = .ok (.invokevirtual 60, 3) := by decide +kernel
theorem dX1_has_29 : decode cX1_has 29 = .ok (.ifCond .eq 35, 3) := by decide +kernel
theorem dX1_has_32 : decode cX1_has 32 = .ok (.aload_n 0, 1) := by decide +kernel
theorem dX1_has_33 : decode cX1_has 33 = .ok (.getfield 20, 3) := by decide +kernel
theorem dX1_has_36 : decode cX1_has 36 = .ok (.iload 4, 2) := by decide +kernel
theorem dX1_has_38 : decode cX1_has 38 = .ok (.iconst 4, 1) := by decide +kernel
theorem dX1_has_39 : decode cX1_has 39 = .ok (.imul, 1) := by decide +kernel
theorem dX1_has_40 : decode cX1_has 40 = .ok (.iconst 2, 1) := by decide +kernel
theorem dX1_has_41 : decode cX1_has 41 = .ok (.iadd, 1) := by decide +kernel
theorem dX1_has_42 : decode cX1_has 42 = .ok (.iaload, 1) := by decide +kernel
theorem dX1_has_43 : decode cX1_has 43 = .ok (.iload_n 3, 1) := by decide +kernel
theorem dX1_has_44 : decode cX1_has 44 = .ok (.if_icmp .eq 18, 3) := by decide +kernel
theorem dX1_has_47 : decode cX1_has 47 = .ok (.aload_n 0, 1) := by decide +kernel
theorem dX1_has_48 : decode cX1_has 48 = .ok (.getfield 20, 3) := by decide +kernel
theorem dX1_has_51 : decode cX1_has 51 = .ok (.iload 4, 2) := by decide +kernel
theorem dX1_has_53 : decode cX1_has 53 = .ok (.iconst 4, 1) := by decide +kernel
theorem dX1_has_54 : decode cX1_has 54 = .ok (.imul, 1) := by decide +kernel
theorem dX1_has_55 : decode cX1_has 55 = .ok (.iconst 3, 1) := by decide +kernel
theorem dX1_has_56 : decode cX1_has 56 = .ok (.iadd, 1) := by decide +kernel
theorem dX1_has_57 : decode cX1_has 57 = .ok (.iaload, 1) := by decide +kernel
theorem dX1_has_58 : decode cX1_has 58 = .ok (.iload_n 3, 1) := by decide +kernel
theorem dX1_has_59 : decode cX1_has 59 = .ok (.if_icmp .ne 5, 3) := by decide +kernel
theorem dX1_has_62 : decode cX1_has 62 = .ok (.iconst 1, 1) := by decide +kernel
theorem dX1_has_63 : decode cX1_has 63 = .ok (.ireturn, 1) := by decide +kernel
theorem dX1_has_64 : decode cX1_has 64 = .ok (.iinc 4 1, 3) := by decide +kernel
theorem dX1_has_67 : decode cX1_has 67 = .ok (.goto (-64), 3) := by decide +kernel
theorem dX1_has_70 : decode cX1_has 70 = .ok (.iload_n 2, 1) := by decide +kernel
theorem dX1_has_71 : decode cX1_has 71 = .ok (.iload_n 3, 1) := by decide +kernel
theorem dX1_has_72 : decode cX1_has 72 = .ok (.if_icmp .ne 16, 3) := by decide +kernel
theorem dX1_has_75 : decode cX1_has 75 = .ok (.aload_n 0, 1) := by decide +kernel
theorem dX1_has_76 : decode cX1_has 76 = .ok (.iload_n 1, 1) := by decide +kernel
theorem dX1_has_77 : decode cX1_has 77 = .ok (.iconst 2, 1) := by decide +kernel
theorem dX1_has_78 : decode cX1_has 78 = .ok (.invokevirtual 60, 3) := by decide +kernel
theorem dX1_has_81 : decode cX1_has 81 = .ok (.ifCond .eq 7, 3) := by decide +kernel
theorem dX1_has_84 : decode cX1_has 84 = .ok (.iconst 1, 1) := by decide +kernel
theorem dX1_has_85 : decode cX1_has 85 = .ok (.goto 4, 3) := by decide +kernel
theorem dX1_has_88 : decode cX1_has 88 = .ok (.iconst 0, 1) := by decide +kernel
theorem dX1_has_89 : decode cX1_has 89 = .ok (.ireturn, 1) := by decide +kernel
theorem dX1_inUse_0 : decode cX1_inUse 0 = .ok (.iconst 0, 1) := by decide +kernel
theorem dX1_inUse_1 : decode cX1_inUse 1 = .ok (.istore_n 3, 1) := by decide +kernel
theorem dX1_inUse_2 : decode cX1_inUse 2 = .ok (.iload_n 3, 1) := by decide +kernel
theorem dX1_inUse_3 : decode cX1_inUse 3 = .ok (.aload_n 0, 1) := by decide +kernel
theorem dX1_inUse_4 : decode cX1_inUse 4 = .ok (.getfield 41, 3) := by decide +kernel
theorem dX1_inUse_7 : decode cX1_inUse 7 = .ok (.if_icmp .ge 29, 3) := by decide +kernel
theorem dX1_inUse_10 : decode cX1_inUse 10 = .ok (.aload_n 0, 1) := by decide +kernel
theorem dX1_inUse_11 : decode cX1_inUse 11 = .ok (.iload_n 1, 1) := by decide +kernel
theorem dX1_inUse_12 : decode cX1_inUse 12 = .ok (.iload_n 3, 1) := by decide +kernel
theorem dX1_inUse_13 : decode cX1_inUse 13 = .ok (.invokevirtual 53, 3) := by decide +kernel
theorem dX1_inUse_16 : decode cX1_inUse 16 = .ok (.ifCond .eq 14, 3) := by decide +kernel
theorem dX1_inUse_19 : decode cX1_inUse 19 = .ok (.aload_n 0, 1) := by decide +kernel
theorem dX1_inUse_20 : decode cX1_inUse 20 = .ok (.iload_n 3, 1) := by decide +kernel
theorem dX1_inUse_21 : decode cX1_inUse 21 = .ok (.iload_n 2, 1) := by decide +kernel
theorem dX1_inUse_22 : decode cX1_inUse 22 = .ok (.invokevirtual 57, 3) := by decide +kernel
theorem dX1_inUse_25 : decode cX1_inUse 25 = .ok (.ifCond .eq 5, 3) := by decide +kernel
theorem dX1_inUse_28 : decode cX1_inUse 28 = .ok (.iconst 1, 1) := by decide +kernel
theorem dX1_inUse_29 : decode cX1_inUse 29 = .ok (.ireturn, 1) := by decide +kernel
theorem dX1_inUse_30 : decode cX1_inUse 30 = .ok (.iinc 3 1, 3) := by decide +kernel
theorem dX1_inUse_33 : decode cX1_inUse 33 = .ok (.goto (-31), 3) := by decide +kernel
theorem dX1_inUse_36 : decode cX1_inUse 36 = .ok (.iconst 0, 1) := by decide +kernel
theorem dX1_inUse_37 : decode cX1_inUse 37 = .ok (.ireturn, 1) := by decide +kernel
theorem dX1_runContainer_0 : decode cX1_runContainer 0 = .ok (.aload_n 0, 1) := by decide +kernel
theorem dX1_runContainer_1 : decode cX1_runContainer 1 = .ok (.getfield 20, 3) := by decide +kernel
theorem dX1_runContainer_4 : decode cX1_runContainer 4 = .ok (.iload_n 1, 1) := by decide +kernel
theorem dX1_runContainer_5 : decode cX1_runContainer 5 = .ok (.iconst 4, 1) := by decide +kernel
theorem dX1_runContainer_6 : decode cX1_runContainer 6 = .ok (.imul, 1) := by decide +kernel
theorem dX1_runContainer_7 : decode cX1_runContainer 7 = .ok (.iaload, 1) := by decide +kernel
theorem dX1_runContainer_8 : decode cX1_runContainer 8 = .ok (.istore_n 2, 1) := by decide +kernel
theorem dX1_runContainer_9 : decode cX1_runContainer 9 = .ok (.aload_n 0, 1) := by decide +kernel
theorem dX1_runContainer_10 : decode cX1_runContainer 10 = .ok (.getfield 20, 3) := by decide +kernel
theorem dX1_runContainer_13 : decode cX1_runContainer 13 = .ok (.iload_n 1, 1) := by decide +kernel
theorem dX1_runContainer_14 : decode cX1_runContainer 14 = .ok (.iconst 4, 1) := by decide +kernel
theorem dX1_runContainer_15 : decode cX1_runContainer 15 = .ok (.imul, 1) := by decide +kernel
theorem dX1_runContainer_16 : decode cX1_runContainer 16 = .ok (.iconst 1, 1) := by decide +kernel
theorem dX1_runContainer_17 : decode cX1_runContainer 17 = .ok (.iadd, 1) := by decide +kernel
theorem dX1_runContainer_18 : decode cX1_runContainer 18 = .ok (.iaload, 1) := by decide +kernel
theorem dX1_runContainer_19 : decode cX1_runContainer 19 = .ok (.istore_n 3, 1) := by decide +kernel
theorem dX1_runContainer_20 : decode cX1_runContainer 20 = .ok (.aload_n 0, 1) := by decide +kernel
theorem dX1_runContainer_21 : decode cX1_runContainer 21 = .ok (.getfield 35, 3) := by decide +kernel
theorem dX1_runContainer_24 : decode cX1_runContainer 24 = .ok (.iload_n 1, 1) := by decide +kernel
theorem dX1_runContainer_25 : decode cX1_runContainer 25 = .ok (.iconst 4, 1) := by decide +kernel
theorem dX1_runContainer_26 : decode cX1_runContainer 26 = .ok (.imul, 1) := by decide +kernel
theorem dX1_runContainer_27 : decode cX1_runContainer 27 = .ok (.iload_n 2, 1) := by decide +kernel
theorem dX1_runContainer_28 : decode cX1_runContainer 28 = .ok (.ifCond .ne 7, 3) := by decide +kernel
theorem dX1_runContainer_31 : decode cX1_runContainer 31 = .ok (.iconst 0, 1) := by decide +kernel
theorem dX1_runContainer_32 : decode cX1_runContainer 32 = .ok (.goto 4, 3) := by decide +kernel
theorem dX1_runContainer_35 : decode cX1_runContainer 35 = .ok (.iconst 1, 1) := by decide +kernel
theorem dX1_runContainer_36 : decode cX1_runContainer 36 = .ok (.iastore, 1) := by decide +kernel
end
section
set_option maxRecDepth 100000
theorem dX1_runContainer_37 : decode cX1_runContainer 37 = .ok (.aload_n 0, 1) := by decide +kernel
theorem dX1_runContainer_38 : decode cX1_runContainer 38 = .ok (.getfield 35, 3) := by decide +kernel
theorem dX1_runContainer_41 : decode cX1_runContainer 41 = .ok (.iload_n 1, 1) := by decide +kernel
theorem dX1_runContainer_42 : decode cX1_runContainer 42 = .ok (.iconst 4, 1) := by decide +kernel
theorem dX1_runContainer_43 : decode cX1_runContainer 43 = .ok (.imul, 1) := by decide +kernel
theorem dX1_runContainer_44 : decode cX1_runContainer 44 = .ok (.iconst 1, 1) := by decide +kernel
theorem dX1_runContainer_45 : decode cX1_runContainer 45 = .ok (.iadd, 1) := by decide +kernel
theorem dX1_runContainer_46 : decode cX1_runContainer 46 = .ok (.iload_n 3, 1) := by decide +kernel
theorem dX1_runContainer_47 : decode cX1_runContainer 47 = .ok (.ifCond .ne 7, 3) := by decide +kernel
theorem dX1_runContainer_50 : decode cX1_runContainer 50 = .ok (.iconst 0, 1) := by decide +kernel
theorem dX1_runContainer_51 : decode cX1_runContainer 51 = .ok (.goto 4, 3) := by decide +kernel
theorem dX1_runContainer_54 : decode cX1_runContainer 54 = .ok (.iconst 1, 1) := by decide +kernel
theorem dX1_runContainer_55 : decode cX1_runContainer 55 = .ok (.iastore, 1) := by decide +kernel
theorem dX1_runContainer_56 : decode cX1_runContainer 56 = .ok (.aload_n 0, 1) := by decide +kernel
theorem dX1_runContainer_57 : decode cX1_runContainer 57 = .ok (.getfield 32, 3) := by decide +kernel
theorem dX1_runContainer_60 : decode cX1_runContainer 60 = .ok (.iload_n 1, 1) := by decide +kernel
theorem dX1_runContainer_61 : decode cX1_runContainer 61 = .ok (.iconst 1, 1) := by decide +kernel
theorem dX1_runContainer_62 : decode cX1_runContainer 62 = .ok (.iastore, 1) := by decide +kernel
theorem dX1_runContainer_63 : decode cX1_runContainer 63 = .ok (.iload_n 2, 1) := by decide +kernel
theorem dX1_runContainer_64 : decode cX1_runContainer 64 = .ok (.iconst 3, 1) := by decide +kernel
theorem dX1_runContainer_65 : decode cX1_runContainer 65 = .ok (.if_icmp .eq 8, 3) := by decide +kernel
theorem dX1_runContainer_68 : decode cX1_runContainer 68 = .ok (.iload_n 3, 1) := by decide +kernel
theorem dX1_runContainer_69 : decode cX1_runContainer 69 = .ok (.iconst 3, 1) := by decide +kernel
theorem dX1_runContainer_70 : decode cX1_runContainer 70 = .ok (.if_icmp .ne 10, 3) := by decide +kernel
theorem dX1_runContainer_73 : decode cX1_runContainer 73 = .ok (.aload_n 0, 1) := by decide +kernel
theorem dX1_runContainer_74 : decode cX1_runContainer 74 = .ok (.getfield 32, 3) := by decide +kernel
theorem dX1_runContainer_77 : decode cX1_runContainer 77 = .ok (.iload_n 1, 1) := by decide +kernel
theorem dX1_runContainer_78 : decode cX1_runContainer 78 = .ok (.iconst 3, 1) := by decide +kernel
theorem dX1_runContainer_79 : decode cX1_runContainer 79 = .ok (.iastore, 1) := by decide +kernel
theorem dX1_runContainer_80 : decode cX1_runContainer 80 = .ok (.iload_n 2, 1) := by decide +kernel
theorem dX1_runContainer_81 : decode cX1_runContainer 81 = .ok (.iconst 2, 1) := by decide +kernel
theorem dX1_runContainer_82 : decode cX1_runContainer 82 = .ok (.if_icmp .eq 8, 3) := by decide +kernel
theorem dX1_runContainer_85 : decode cX1_runContainer 85 = .ok (.iload_n 3, 1) := by decide +kernel
theorem dX1_runContainer_86 : decode cX1_runContainer 86 = .ok (.iconst 2, 1) := by decide +kernel
theorem dX1_runContainer_87 : decode cX1_runContainer 87 = .ok (.if_icmp .ne 10, 3) := by decide +kernel
theorem dX1_runContainer_90 : decode cX1_runContainer 90 = .ok (.aload_n 0, 1) := by decide +kernel
theorem dX1_runContainer_91 : decode cX1_runContainer 91 = .ok (.getfield 32, 3) := by decide +kernel
theorem dX1_runContainer_94 : decode cX1_runContainer 94 = .ok (.iload_n 1, 1) := by decide +kernel
theorem dX1_runContainer_95 : decode cX1_runContainer 95 = .ok (.iconst 2, 1) := by decide +kernel
theorem dX1_runContainer_96 : decode cX1_runContainer 96 = .ok (.iastore, 1) := by decide +kernel
theorem dX1_runContainer_97 : decode cX1_runContainer 97 = .ok (.return_, 1) := by decide +kernel
theorem dX1_each_0 : decode cX1_each 0 = .ok (.iconst 0, 1) := by decide +kernel
theorem dX1_each_1 : decode cX1_each 1 = .ok (.istore_n 2, 1) := by decide +kernel
theorem dX1_each_2 : decode cX1_each 2 = .ok (.iconst 0, 1) := by decide +kernel
theorem dX1_each_3 : decode cX1_each 3 = .ok (.istore_n 3, 1) := by decide +kernel
theorem dX1_each_4 : decode cX1_each 4 = .ok (.iload_n 3, 1) := by decide +kernel
theorem dX1_each_5 : decode cX1_each 5 = .ok (.aload_n 0, 1) := by decide +kernel
theorem dX1_each_6 : decode cX1_each 6 = .ok (.getfield 41, 3) := by decide +kernel
theorem dX1_each_9 : decode cX1_each 9 = .ok (.if_icmp .ge 27, 3) := by decide +kernel
theorem dX1_each_12 : decode cX1_each 12 = .ok (.aload_n 0, 1) := by decide +kernel
theorem dX1_each_13 : decode cX1_each 13 = .ok (.iload_n 1, 1) := by decide +kernel
theorem dX1_each_14 : decode cX1_each 14 = .ok (.iload_n 3, 1) := by decide +kernel
theorem dX1_each_15 : decode cX1_each 15 = .ok (.invokevirtual 53, 3) := by decide +kernel
theorem dX1_each_18 : decode cX1_each 18 = .ok (.ifCond .eq 12, 3) := by decide +kernel
theorem dX1_each_21 : decode cX1_each 21 = .ok (.iload_n 2, 1) := by decide +kernel
theorem dX1_each_22 : decode cX1_each 22 = .ok (.aload_n 0, 1) := by decide +kernel
theorem dX1_each_23 : decode cX1_each 23 = .ok (.getfield 38, 3) := by decide +kernel
theorem dX1_each_26 : decode cX1_each 26 = .ok (.iload_n 3, 1) := by decide +kernel
theorem dX1_each_27 : decode cX1_each 27 = .ok (.iaload, 1) := by decide +kernel
theorem dX1_each_28 : decode cX1_each 28 = .ok (.iadd, 1) := by decide +kernel
theorem dX1_each_29 : decode cX1_each 29 = .ok (.istore_n 2, 1) := by decide +kernel
theorem dX1_each_30 : decode cX1_each 30 = .ok (.iinc 3 1, 3) := by decide +kernel
theorem dX1_each_33 : decode cX1_each 33 = .ok (.goto (-29), 3) := by decide +kernel
theorem dX1_each_36 : decode cX1_each 36 = .ok (.aload_n 0, 1) := by decide +kernel
theorem dX1_each_37 : decode cX1_each 37 = .ok (.iload_n 1, 1) := by decide +kernel
theorem dX1_each_38 : decode cX1_each 38 = .ok (.iconst 2, 1) := by decide +kernel
theorem dX1_each_39 : decode cX1_each 39 = .ok (.invokevirtual 60, 3) := by decide +kernel
theorem dX1_each_42 : decode cX1_each 42 = .ok (.istore_n 3, 1) := by decide +kernel
theorem dX1_each_43 : decode cX1_each 43 = .ok (.aload_n 0, 1) := by decide +kernel
theorem dX1_each_44 : decode cX1_each 44 = .ok (.getfield 35, 3) := by decide +kernel
theorem dX1_each_47 : decode cX1_each 47 = .ok (.iload_n 1, 1) := by decide +kernel
theorem dX1_each_48 : decode cX1_each 48 = .ok (.iconst 4, 1) := by decide +kernel
theorem dX1_each_49 : decode cX1_each 49 = .ok (.imul, 1) := by decide +kernel
theorem dX1_each_50 : decode cX1_each 50 = .ok (.iconst 2, 1) := by decide +kernel
theorem dX1_each_51 : decode cX1_each 51 = .ok (.iadd, 1) := by decide +kernel
theorem dX1_each_52 : decode cX1_each 52 = .ok (.iload_n 3, 1) := by decide +kernel
theorem dX1_each_53 : decode cX1_each 53 = .ok (.ifCond .eq 20, 3) := by decide +kernel
theorem dX1_each_56 : decode cX1_each 56 = .ok (.aload_n 0, 1) := by decide +kernel
theorem dX1_each_57 : decode cX1_each 57 = .ok (.getfield 20, 3) := by decide +kernel
theorem dX1_each_60 : decode cX1_each 60 = .ok (.iload_n 1, 1) := by decide +kernel
theorem dX1_each_61 : decode cX1_each 61 = .ok (.iconst 4, 1) := by decide +kernel
theorem dX1_each_62 : decode cX1_each 62 = .ok (.imul, 1) := by decide +kernel
theorem dX1_each_63 : decode cX1_each 63 = .ok (.iconst 2, 1) := by decide +kernel
theorem dX1_each_64 : decode cX1_each 64 = .ok (.iadd, 1) := by decide +kernel
theorem dX1_each_65 : decode cX1_each 65 = .ok (.iaload, 1) := by decide +kernel
theorem dX1_each_66 : decode cX1_each 66 = .ok (.ifCond .eq 7, 3) := by decide +kernel
theorem dX1_each_69 : decode cX1_each 69 = .ok (.iload_n 2, 1) := by decide +kernel
theorem dX1_each_70 : decode cX1_each 70 = .ok (.goto 4, 3) := by decide +kernel
theorem dX1_each_73 : decode cX1_each 73 = .ok (.iconst 0, 1) := by decide +kernel
theorem dX1_each_74 : decode cX1_each 74 = .ok (.iastore, 1) := by decide +kernel
theorem dX1_each_75 : decode cX1_each 75 = .ok (.aload_n 0, 1) := by decide +kernel
theorem dX1_each_76 : decode cX1_each 76 = .ok (.getfield 35, 3) := by decide +kernel
theorem dX1_each_79 : decode cX1_each 79 = .ok (.iload_n 1, 1) := by decide +kernel
theorem dX1_each_80 : decode cX1_each 80 = .ok (.iconst 4, 1) := by decide +kernel
theorem dX1_each_81 : decode cX1_each 81 = .ok (.imul, 1) := by decide +kernel
theorem dX1_each_82 : decode cX1_each 82 = .ok (.iconst 3, 1) := by decide +kernel
theorem dX1_each_83 : decode cX1_each 83 = .ok (.iadd, 1) := by decide +kernel
theorem dX1_each_84 : decode cX1_each 84 = .ok (.iload_n 3, 1) := by decide +kernel
theorem dX1_each_85 : decode cX1_each 85 = .ok (.ifCond .eq 20, 3) := by decide +kernel
theorem dX1_each_88 : decode cX1_each 88 = .ok (.aload_n 0, 1) := by decide +kernel
theorem dX1_each_89 : decode cX1_each 89 = .ok (.getfield 20, 3) := by decide +kernel
theorem dX1_each_92 : decode cX1_each 92 = .ok (.iload_n 1, 1) := by decide +kernel
theorem dX1_each_93 : decode cX1_each 93 = .ok (.iconst 4, 1) := by decide +kernel
theorem dX1_each_94 : decode cX1_each 94 = .ok (.imul, 1) := by decide +kernel
theorem dX1_each_95 : decode cX1_each 95 = .ok (.iconst 3, 1) := by decide +kernel
theorem dX1_each_96 : decode cX1_each 96 = .ok (.iadd, 1) := by decide +kernel
theorem dX1_each_97 : decode cX1_each 97 = .ok (.iaload, 1) := by decide +kernel
theorem dX1_each_98 : decode cX1_each 98 = .ok (.ifCond .eq 7, 3) := by decide +kernel
theorem dX1_each_101 : decode cX1_each 101 = .ok (.iload_n 2, 1) := by decide +kernel
theorem dX1_each_102 : decode cX1_each 102 = .ok (.goto 4, 3) := by decide +kernel
theorem dX1_each_105 : decode cX1_each 105 = .ok (.iconst 0, 1) := by decide +kernel
theorem dX1_each_106 : decode cX1_each 106 = .ok (.iastore, 1) := by decide +kernel
theorem dX1_each_107 : decode cX1_each 107 = .ok (.return_, 1) := by decide +kernel
theorem dX1_count_0 : decode cX1_count 0 = .ok (.iconst 0, 1) := by decide +kernel
theorem dX1_count_1 : decode cX1_count 1 = .ok (.istore_n 2, 1) := by decide +kernel
theorem dX1_count_2 : decode cX1_count 2 = .ok (.iconst 0, 1) := by decide +kernel
theorem dX1_count_3 : decode cX1_count 3 = .ok (.istore_n 3, 1) := by decide +kernel
theorem dX1_count_4 : decode cX1_count 4 = .ok (.iload_n 3, 1) := by decide +kernel
theorem dX1_count_5 : decode cX1_count 5 = .ok (.aload_n 0, 1) := by decide +kernel
theorem dX1_count_6 : decode cX1_count 6 = .ok (.getfield 41, 3) := by decide +kernel
theorem dX1_count_9 : decode cX1_count 9 = .ok (.if_icmp .ge 35, 3) := by decide +kernel
theorem dX1_count_12 : decode cX1_count 12 = .ok (.aload_n 0, 1) := by decide +kernel
theorem dX1_count_13 : decode cX1_count 13 = .ok (.getfield 7, 3) := by decide +kernel
theorem dX1_count_16 : decode cX1_count 16 = .ok (.iload_n 3, 1) := by decide +kernel
theorem dX1_count_17 : decode cX1_count 17 = .ok (.baload, 1) := by decide +kernel
theorem dX1_count_18 : decode cX1_count 18 = .ok (.ifCond .eq 20, 3) := by decide +kernel
theorem dX1_count_21 : decode cX1_count 21 = .ok (.aload_n 0, 1) := by decide +kernel
theorem dX1_count_22 : decode cX1_count 22 = .ok (.getfield 32, 3) := by decide +kernel
theorem dX1_count_25 : decode cX1_count 25 = .ok (.iload_n 3, 1) := by decide +kernel
theorem dX1_count_26 : decode cX1_count 26 = .ok (.iaload, 1) := by decide +kernel
theorem dX1_count_27 : decode cX1_count 27 = .ok (.iload_n 1, 1) := by decide +kernel
theorem dX1_count_28 : decode cX1_count 28 = .ok (.if_icmp .ne 10, 3) := by decide +kernel
theorem dX1_count_31 : decode cX1_count 31 = .ok (.iload_n 1, 1) := by decide +kernel
theorem dX1_count_32 : decode cX1_count 32 = .ok (.ifCond .eq 6, 3) := by decide +kernel
theorem dX1_count_35 : decode cX1_count 35 = .ok (.iinc 2 1, 3) := by decide +kernel
theorem dX1_count_38 : decode cX1_count 38 = .ok (.iinc 3 1, 3) := by decide +kernel
theorem dX1_count_41 : decode cX1_count 41 = .ok (.goto (-37), 3) := by decide +kernel
theorem dX1_count_44 : decode cX1_count 44 = .ok (.iload_n 2, 1) := by decide +kernel
theorem dX1_count_45 : decode cX1_count 45 = .ok (.ireturn, 1) := by decide +kernel
theorem dX1_result_0 : decode cX1_result 0 = .ok (.aload_n 0, 1) := by decide +kernel
theorem dX1_result_1 : decode cX1_result 1 = .ok (.iload_n 1, 1) := by decide +kernel
theorem dX1_result_2 : decode cX1_result 2 = .ok (.invokevirtual 45, 3) := by decide +kernel
theorem dX1_result_5 : decode cX1_result 5 = .ok (.ifCond .eq 7, 3) := by decide +kernel
theorem dX1_result_8 : decode cX1_result 8 = .ok (.iconst (-1), 1) := by decide +kernel
theorem dX1_result_9 : decode cX1_result 9 = .ok (.goto 9, 3) := by decide +kernel
theorem dX1_result_12 : decode cX1_result 12 = .ok (.aload_n 0, 1) := by decide +kernel
theorem dX1_result_13 : decode cX1_result 13 = .ok (.getfield 32, 3) := by decide +kernel
theorem dX1_result_16 : decode cX1_result 16 = .ok (.iload_n 1, 1) := by decide +kernel
theorem dX1_result_17 : decode cX1_result 17 = .ok (.iaload, 1) := by decide +kernel
theorem dX1_result_18 : decode cX1_result 18 = .ok (.ireturn, 1) := by decide +kernel
theorem dX1_times_0 : decode cX1_times 0 = .ok (.aload_n 0, 1) := by decide +kernel
theorem dX1_times_1 : decode cX1_times 1 = .ok (.iload_n 1, 1) := by decide +kernel
theorem dX1_times_2 : decode cX1_times 2 = .ok (.invokevirtual 45, 3) := by decide +kernel
theorem dX1_times_5 : decode cX1_times 5 = .ok (.ifCond .ne 12, 3) := by decide +kernel
theorem dX1_times_8 : decode cX1_times 8 = .ok (.iload_n 2, 1) := by decide +kernel
theorem dX1_times_9 : decode cX1_times 9 = .ok (.ifCond .lt 8, 3) := by decide +kernel
theorem dX1_times_12 : decode cX1_times 12 = .ok (.iload_n 2, 1) := by decide +kernel
theorem dX1_times_13 : decode cX1_times 13 = .ok (.iconst 3, 1) := by decide +kernel
theorem dX1_times_14 : decode cX1_times 14 = .ok (.if_icmp .le 5, 3) := by decide +kernel
theorem dX1_times_17 : decode cX1_times 17 = .ok (.iconst (-1), 1) := by decide +kernel
theorem dX1_times_18 : decode cX1_times 18 = .ok (.ireturn, 1) := by decide +kernel
theorem dX1_times_19 : decode cX1_times 19 = .ok (.aload_n 0, 1) := by decide +kernel
theorem dX1_times_20 : decode cX1_times 20 = .ok (.getfield 35, 3) := by decide +kernel
theorem dX1_times_23 : decode cX1_times 23 = .ok (.iload_n 1, 1) := by decide +kernel
theorem dX1_times_24 : decode cX1_times 24 = .ok (.iconst 4, 1) := by decide +kernel
theorem dX1_times_25 : decode cX1_times 25 = .ok (.imul, 1) := by decide +kernel
theorem dX1_times_26 : decode cX1_times 26 = .ok (.iload_n 2, 1) := by decide +kernel
theorem dX1_times_27 : decode cX1_times 27 = .ok (.iadd, 1) := by decide +kernel
theorem dX1_times_28 : decode cX1_times 28 = .ok (.iaload, 1) := by decide +kernel
theorem dX1_times_29 : decode cX1_times 29 = .ok (.ireturn, 1) := by decide +kernel
theorem dX1_steps_0 : decode cX1_steps 0 = .ok (.iconst 0, 1) := by decide +kernel
theorem dX1_steps_1 : decode cX1_steps 1 = .ok (.istore_n 1, 1) := by decide +kernel
theorem dX1_steps_2 : decode cX1_steps 2 = .ok (.iconst 0, 1) := by decide +kernel
theorem dX1_steps_3 : decode cX1_steps 3 = .ok (.istore_n 2, 1) := by decide +kernel
theorem dX1_steps_4 : decode cX1_steps 4 = .ok (.iload_n 2, 1) := by decide +kernel
theorem dX1_steps_5 : decode cX1_steps 5 = .ok (.bipush 96, 2) := by decide +kernel
theorem dX1_steps_7 : decode cX1_steps 7 = .ok (.if_icmp .ge 18, 3) := by decide +kernel
theorem dX1_steps_10 : decode cX1_steps 10 = .ok (.iload_n 1, 1) := by decide +kernel
theorem dX1_steps_11 : decode cX1_steps 11 = .ok (.aload_n 0, 1) := by decide +kernel
theorem dX1_steps_12 : decode cX1_steps 12 = .ok (.getfield 35, 3) := by decide +kernel
theorem dX1_steps_15 : decode cX1_steps 15 = .ok (.iload_n 2, 1) := by decide +kernel
theorem dX1_steps_16 : decode cX1_steps 16 = .ok (.iaload, 1) := by decide +kernel
theorem dX1_steps_17 : decode cX1_steps 17 = .ok (.iadd, 1) := by decide +kernel
theorem dX1_steps_18 : decode cX1_steps 18 = .ok (.istore_n 1, 1) := by decide +kernel
theorem dX1_steps_19 : decode cX1_steps 19 = .ok (.iinc 2 1, 3) := by decide +kernel
theorem dX1_steps_22 : decode cX1_steps 22 = .ok (.goto (-18), 3) := by decide +kernel
theorem dX1_steps_25 : decode cX1_steps 25 = .ok (.iload_n 1, 1) := by decide +kernel
theorem dX1_steps_26 : decode cX1_steps 26 = .ok (.ireturn, 1) := by decide +kernel
theorem dX1_attempts_0 : decode cX1_attempts 0 = .ok (.aload_n 0, 1) := by decide +kernel
theorem dX1_attempts_1 : decode cX1_attempts 1 = .ok (.iload_n 1, 1) := by decide +kernel
theorem dX1_attempts_2 : decode cX1_attempts 2 = .ok (.invokevirtual 45, 3) := by decide +kernel
theorem dX1_attempts_5 : decode cX1_attempts 5 = .ok (.ifCond .eq 7, 3) := by decide +kernel
theorem dX1_attempts_8 : decode cX1_attempts 8 = .ok (.iconst (-1), 1) := by decide +kernel
theorem dX1_attempts_9 : decode cX1_attempts 9 = .ok (.goto 9, 3) := by decide +kernel
theorem dX1_attempts_12 : decode cX1_attempts 12 = .ok (.aload_n 0, 1) := by decide +kernel
theorem dX1_attempts_13 : decode cX1_attempts 13 = .ok (.getfield 38, 3) := by decide +kernel
theorem dX1_attempts_16 : decode cX1_attempts 16 = .ok (.iload_n 1, 1) := by decide +kernel
theorem dX1_attempts_17 : decode cX1_attempts 17 = .ok (.iaload, 1) := by decide +kernel
theorem dX1_attempts_18 : decode cX1_attempts 18 = .ok (.ireturn, 1) := by decide +kernel
end
section
/-! the law's own entry -/
set_option maxRecDepth 100000
abbrev cL_law : ByteArray := code
theorem dL_law_0 : decode cL_law 0 = .ok (.new 7, 3) := by decide +kernel
theorem dL_law_3 : decode cL_law 3 = .ok (.dup, 1) := by decide +kernel
theorem dL_law_4 : decode cL_law 4 = .ok (.invokespecial 9, 3) := by decide +kernel
theorem dL_law_7 : decode cL_law 7 = .ok (.astore_n 1, 1) := by decide +kernel
theorem dL_law_8 : decode cL_law 8 = .ok (.new 10, 3) := by decide +kernel
theorem dL_law_11 : decode cL_law 11 = .ok (.dup, 1) := by decide +kernel
theorem dL_law_12 : decode cL_law 12 = .ok (.invokespecial 12, 3) := by decide +kernel
theorem dL_law_15 : decode cL_law 15 = .ok (.astore_n 2, 1) := by decide +kernel
theorem dL_law_16 : decode cL_law 16 = .ok (.iconst 0, 1) := by decide +kernel
theorem dL_law_17 : decode cL_law 17 = .ok (.istore_n 3, 1) := by decide +kernel
theorem dL_law_18 : decode cL_law 18 = .ok (.iload_n 3, 1) := by decide +kernel
theorem dL_law_19 : decode cL_law 19 = .ok (.aload_n 0, 1) := by decide +kernel
theorem dL_law_20 : decode cL_law 20 = .ok (.arraylength, 1) := by decide +kernel
theorem dL_law_21 : decode cL_law 21 = .ok (.iconst 4, 1) := by decide +kernel
theorem dL_law_22 : decode cL_law 22 = .ok (.isub, 1) := by decide +kernel
theorem dL_law_23 : decode cL_law 23 = .ok (.if_icmp .gt 431, 3) := by decide +kernel
theorem dL_law_26 : decode cL_law 26 = .ok (.aload_n 0, 1) := by decide +kernel
theorem dL_law_27 : decode cL_law 27 = .ok (.iload_n 3, 1) := by decide +kernel
theorem dL_law_28 : decode cL_law 28 = .ok (.iaload, 1) := by decide +kernel
theorem dL_law_29 : decode cL_law 29 = .ok (.bipush 15, 2) := by decide +kernel
theorem dL_law_31 : decode cL_law 31 = .ok (.iand, 1) := by decide +kernel
theorem dL_law_32 : decode cL_law 32 = .ok (.tableswitch 416 0 11 #[64, 87, 110, 153, 196, 229, 278, 301, 324, 357, 380, 393], 64) := by decide +kernel
theorem dL_law_96 : decode cL_law 96 = .ok (.aload_n 1, 1) := by decide +kernel
theorem dL_law_97 : decode cL_law 97 = .ok (.aload_n 0, 1) := by decide +kernel
theorem dL_law_98 : decode cL_law 98 = .ok (.iload_n 3, 1) := by decide +kernel
theorem dL_law_99 : decode cL_law 99 = .ok (.iconst 1, 1) := by decide +kernel
theorem dL_law_100 : decode cL_law 100 = .ok (.iadd, 1) := by decide +kernel
theorem dL_law_101 : decode cL_law 101 = .ok (.iaload, 1) := by decide +kernel
theorem dL_law_102 : decode cL_law 102 = .ok (.invokevirtual 13, 3) := by decide +kernel
theorem dL_law_105 : decode cL_law 105 = .ok (.aload_n 2, 1) := by decide +kernel
theorem dL_law_106 : decode cL_law 106 = .ok (.aload_n 0, 1) := by decide +kernel
theorem dL_law_107 : decode cL_law 107 = .ok (.iload_n 3, 1) := by decide +kernel
theorem dL_law_108 : decode cL_law 108 = .ok (.iconst 1, 1) := by decide +kernel
theorem dL_law_109 : decode cL_law 109 = .ok (.iadd, 1) := by decide +kernel
theorem dL_law_110 : decode cL_law 110 = .ok (.iaload, 1) := by decide +kernel
theorem dL_law_111 : decode cL_law 111 = .ok (.invokevirtual 17, 3) := by decide +kernel
theorem dL_law_114 : decode cL_law 114 = .ok (.if_icmp .eq 334, 3) := by decide +kernel
theorem dL_law_117 : decode cL_law 117 = .ok (.iconst 0, 1) := by decide +kernel
theorem dL_law_118 : decode cL_law 118 = .ok (.ireturn, 1) := by decide +kernel
theorem dL_law_119 : decode cL_law 119 = .ok (.aload_n 1, 1) := by decide +kernel
theorem dL_law_120 : decode cL_law 120 = .ok (.aload_n 0, 1) := by decide +kernel
theorem dL_law_121 : decode cL_law 121 = .ok (.iload_n 3, 1) := by decide +kernel
theorem dL_law_122 : decode cL_law 122 = .ok (.iconst 1, 1) := by decide +kernel
theorem dL_law_123 : decode cL_law 123 = .ok (.iadd, 1) := by decide +kernel
theorem dL_law_124 : decode cL_law 124 = .ok (.iaload, 1) := by decide +kernel
theorem dL_law_125 : decode cL_law 125 = .ok (.invokevirtual 18, 3) := by decide +kernel
theorem dL_law_128 : decode cL_law 128 = .ok (.aload_n 2, 1) := by decide +kernel
theorem dL_law_129 : decode cL_law 129 = .ok (.aload_n 0, 1) := by decide +kernel
theorem dL_law_130 : decode cL_law 130 = .ok (.iload_n 3, 1) := by decide +kernel
theorem dL_law_131 : decode cL_law 131 = .ok (.iconst 1, 1) := by decide +kernel
theorem dL_law_132 : decode cL_law 132 = .ok (.iadd, 1) := by decide +kernel
theorem dL_law_133 : decode cL_law 133 = .ok (.iaload, 1) := by decide +kernel
theorem dL_law_134 : decode cL_law 134 = .ok (.invokevirtual 21, 3) := by decide +kernel
theorem dL_law_137 : decode cL_law 137 = .ok (.if_icmp .eq 311, 3) := by decide +kernel
theorem dL_law_140 : decode cL_law 140 = .ok (.iconst 0, 1) := by decide +kernel
theorem dL_law_141 : decode cL_law 141 = .ok (.ireturn, 1) := by decide +kernel
theorem dL_law_142 : decode cL_law 142 = .ok (.aload_n 1, 1) := by decide +kernel
theorem dL_law_143 : decode cL_law 143 = .ok (.aload_n 0, 1) := by decide +kernel
theorem dL_law_144 : decode cL_law 144 = .ok (.iload_n 3, 1) := by decide +kernel
theorem dL_law_145 : decode cL_law 145 = .ok (.iconst 1, 1) := by decide +kernel
theorem dL_law_146 : decode cL_law 146 = .ok (.iadd, 1) := by decide +kernel
theorem dL_law_147 : decode cL_law 147 = .ok (.iaload, 1) := by decide +kernel
theorem dL_law_148 : decode cL_law 148 = .ok (.aload_n 0, 1) := by decide +kernel
theorem dL_law_149 : decode cL_law 149 = .ok (.iload_n 3, 1) := by decide +kernel
theorem dL_law_150 : decode cL_law 150 = .ok (.iconst 2, 1) := by decide +kernel
theorem dL_law_151 : decode cL_law 151 = .ok (.iadd, 1) := by decide +kernel
theorem dL_law_152 : decode cL_law 152 = .ok (.iaload, 1) := by decide +kernel
theorem dL_law_153 : decode cL_law 153 = .ok (.aload_n 0, 1) := by decide +kernel
theorem dL_law_154 : decode cL_law 154 = .ok (.iload_n 3, 1) := by decide +kernel
theorem dL_law_155 : decode cL_law 155 = .ok (.iconst 3, 1) := by decide +kernel
theorem dL_law_156 : decode cL_law 156 = .ok (.iadd, 1) := by decide +kernel
theorem dL_law_157 : decode cL_law 157 = .ok (.iaload, 1) := by decide +kernel
theorem dL_law_158 : decode cL_law 158 = .ok (.invokevirtual 22, 3) := by decide +kernel
theorem dL_law_161 : decode cL_law 161 = .ok (.aload_n 2, 1) := by decide +kernel
theorem dL_law_162 : decode cL_law 162 = .ok (.aload_n 0, 1) := by decide +kernel
theorem dL_law_163 : decode cL_law 163 = .ok (.iload_n 3, 1) := by decide +kernel
theorem dL_law_164 : decode cL_law 164 = .ok (.iconst 1, 1) := by decide +kernel
theorem dL_law_165 : decode cL_law 165 = .ok (.iadd, 1) := by decide +kernel
theorem dL_law_166 : decode cL_law 166 = .ok (.iaload, 1) := by decide +kernel
theorem dL_law_167 : decode cL_law 167 = .ok (.aload_n 0, 1) := by decide +kernel
theorem dL_law_168 : decode cL_law 168 = .ok (.iload_n 3, 1) := by decide +kernel
theorem dL_law_169 : decode cL_law 169 = .ok (.iconst 2, 1) := by decide +kernel
theorem dL_law_170 : decode cL_law 170 = .ok (.iadd, 1) := by decide +kernel
theorem dL_law_171 : decode cL_law 171 = .ok (.iaload, 1) := by decide +kernel
theorem dL_law_172 : decode cL_law 172 = .ok (.aload_n 0, 1) := by decide +kernel
theorem dL_law_173 : decode cL_law 173 = .ok (.iload_n 3, 1) := by decide +kernel
theorem dL_law_174 : decode cL_law 174 = .ok (.iconst 3, 1) := by decide +kernel
theorem dL_law_175 : decode cL_law 175 = .ok (.iadd, 1) := by decide +kernel
theorem dL_law_176 : decode cL_law 176 = .ok (.iaload, 1) := by decide +kernel
theorem dL_law_177 : decode cL_law 177 = .ok (.invokevirtual 26, 3) := by decide +kernel
theorem dL_law_180 : decode cL_law 180 = .ok (.if_icmp .eq 268, 3) := by decide +kernel
theorem dL_law_183 : decode cL_law 183 = .ok (.iconst 0, 1) := by decide +kernel
theorem dL_law_184 : decode cL_law 184 = .ok (.ireturn, 1) := by decide +kernel
theorem dL_law_185 : decode cL_law 185 = .ok (.aload_n 1, 1) := by decide +kernel
theorem dL_law_186 : decode cL_law 186 = .ok (.aload_n 0, 1) := by decide +kernel
theorem dL_law_187 : decode cL_law 187 = .ok (.iload_n 3, 1) := by decide +kernel
theorem dL_law_188 : decode cL_law 188 = .ok (.iconst 1, 1) := by decide +kernel
theorem dL_law_189 : decode cL_law 189 = .ok (.iadd, 1) := by decide +kernel
theorem dL_law_190 : decode cL_law 190 = .ok (.iaload, 1) := by decide +kernel
theorem dL_law_191 : decode cL_law 191 = .ok (.aload_n 0, 1) := by decide +kernel
theorem dL_law_192 : decode cL_law 192 = .ok (.iload_n 3, 1) := by decide +kernel
theorem dL_law_193 : decode cL_law 193 = .ok (.iconst 2, 1) := by decide +kernel
theorem dL_law_194 : decode cL_law 194 = .ok (.iadd, 1) := by decide +kernel
theorem dL_law_195 : decode cL_law 195 = .ok (.iaload, 1) := by decide +kernel
theorem dL_law_196 : decode cL_law 196 = .ok (.aload_n 0, 1) := by decide +kernel
theorem dL_law_197 : decode cL_law 197 = .ok (.iload_n 3, 1) := by decide +kernel
theorem dL_law_198 : decode cL_law 198 = .ok (.iconst 3, 1) := by decide +kernel
theorem dL_law_199 : decode cL_law 199 = .ok (.iadd, 1) := by decide +kernel
theorem dL_law_200 : decode cL_law 200 = .ok (.iaload, 1) := by decide +kernel
theorem dL_law_201 : decode cL_law 201 = .ok (.invokevirtual 27, 3) := by decide +kernel
theorem dL_law_204 : decode cL_law 204 = .ok (.aload_n 2, 1) := by decide +kernel
theorem dL_law_205 : decode cL_law 205 = .ok (.aload_n 0, 1) := by decide +kernel
theorem dL_law_206 : decode cL_law 206 = .ok (.iload_n 3, 1) := by decide +kernel
theorem dL_law_207 : decode cL_law 207 = .ok (.iconst 1, 1) := by decide +kernel
theorem dL_law_208 : decode cL_law 208 = .ok (.iadd, 1) := by decide +kernel
theorem dL_law_209 : decode cL_law 209 = .ok (.iaload, 1) := by decide +kernel
theorem dL_law_210 : decode cL_law 210 = .ok (.aload_n 0, 1) := by decide +kernel
theorem dL_law_211 : decode cL_law 211 = .ok (.iload_n 3, 1) := by decide +kernel
theorem dL_law_212 : decode cL_law 212 = .ok (.iconst 2, 1) := by decide +kernel
theorem dL_law_213 : decode cL_law 213 = .ok (.iadd, 1) := by decide +kernel
theorem dL_law_214 : decode cL_law 214 = .ok (.iaload, 1) := by decide +kernel
theorem dL_law_215 : decode cL_law 215 = .ok (.aload_n 0, 1) := by decide +kernel
theorem dL_law_216 : decode cL_law 216 = .ok (.iload_n 3, 1) := by decide +kernel
theorem dL_law_217 : decode cL_law 217 = .ok (.iconst 3, 1) := by decide +kernel
theorem dL_law_218 : decode cL_law 218 = .ok (.iadd, 1) := by decide +kernel
theorem dL_law_219 : decode cL_law 219 = .ok (.iaload, 1) := by decide +kernel
theorem dL_law_220 : decode cL_law 220 = .ok (.invokevirtual 30, 3) := by decide +kernel
theorem dL_law_223 : decode cL_law 223 = .ok (.if_icmp .eq 225, 3) := by decide +kernel
theorem dL_law_226 : decode cL_law 226 = .ok (.iconst 0, 1) := by decide +kernel
theorem dL_law_227 : decode cL_law 227 = .ok (.ireturn, 1) := by decide +kernel
theorem dL_law_228 : decode cL_law 228 = .ok (.aload_n 1, 1) := by decide +kernel
theorem dL_law_229 : decode cL_law 229 = .ok (.aload_n 0, 1) := by decide +kernel
theorem dL_law_230 : decode cL_law 230 = .ok (.iload_n 3, 1) := by decide +kernel
theorem dL_law_231 : decode cL_law 231 = .ok (.iconst 1, 1) := by decide +kernel
theorem dL_law_232 : decode cL_law 232 = .ok (.iadd, 1) := by decide +kernel
theorem dL_law_233 : decode cL_law 233 = .ok (.iaload, 1) := by decide +kernel
theorem dL_law_234 : decode cL_law 234 = .ok (.aload_n 0, 1) := by decide +kernel
theorem dL_law_235 : decode cL_law 235 = .ok (.iload_n 3, 1) := by decide +kernel
theorem dL_law_236 : decode cL_law 236 = .ok (.iconst 2, 1) := by decide +kernel
theorem dL_law_237 : decode cL_law 237 = .ok (.iadd, 1) := by decide +kernel
theorem dL_law_238 : decode cL_law 238 = .ok (.iaload, 1) := by decide +kernel
theorem dL_law_239 : decode cL_law 239 = .ok (.invokevirtual 31, 3) := by decide +kernel
theorem dL_law_242 : decode cL_law 242 = .ok (.aload_n 2, 1) := by decide +kernel
theorem dL_law_243 : decode cL_law 243 = .ok (.aload_n 0, 1) := by decide +kernel
theorem dL_law_244 : decode cL_law 244 = .ok (.iload_n 3, 1) := by decide +kernel
theorem dL_law_245 : decode cL_law 245 = .ok (.iconst 1, 1) := by decide +kernel
theorem dL_law_246 : decode cL_law 246 = .ok (.iadd, 1) := by decide +kernel
theorem dL_law_247 : decode cL_law 247 = .ok (.iaload, 1) := by decide +kernel
theorem dL_law_248 : decode cL_law 248 = .ok (.aload_n 0, 1) := by decide +kernel
theorem dL_law_249 : decode cL_law 249 = .ok (.iload_n 3, 1) := by decide +kernel
theorem dL_law_250 : decode cL_law 250 = .ok (.iconst 2, 1) := by decide +kernel
theorem dL_law_251 : decode cL_law 251 = .ok (.iadd, 1) := by decide +kernel
theorem dL_law_252 : decode cL_law 252 = .ok (.iaload, 1) := by decide +kernel
theorem dL_law_253 : decode cL_law 253 = .ok (.invokevirtual 35, 3) := by decide +kernel
theorem dL_law_256 : decode cL_law 256 = .ok (.if_icmp .eq 192, 3) := by decide +kernel
theorem dL_law_259 : decode cL_law 259 = .ok (.iconst 0, 1) := by decide +kernel
theorem dL_law_260 : decode cL_law 260 = .ok (.ireturn, 1) := by decide +kernel
theorem dL_law_261 : decode cL_law 261 = .ok (.aload_n 1, 1) := by decide +kernel
theorem dL_law_262 : decode cL_law 262 = .ok (.aload_n 0, 1) := by decide +kernel
theorem dL_law_263 : decode cL_law 263 = .ok (.iload_n 3, 1) := by decide +kernel
theorem dL_law_264 : decode cL_law 264 = .ok (.iconst 1, 1) := by decide +kernel
theorem dL_law_265 : decode cL_law 265 = .ok (.iadd, 1) := by decide +kernel
theorem dL_law_266 : decode cL_law 266 = .ok (.iaload, 1) := by decide +kernel
theorem dL_law_267 : decode cL_law 267 = .ok (.aload_n 0, 1) := by decide +kernel
theorem dL_law_268 : decode cL_law 268 = .ok (.iload_n 3, 1) := by decide +kernel
theorem dL_law_269 : decode cL_law 269 = .ok (.iconst 2, 1) := by decide +kernel
theorem dL_law_270 : decode cL_law 270 = .ok (.iadd, 1) := by decide +kernel
theorem dL_law_271 : decode cL_law 271 = .ok (.iaload, 1) := by decide +kernel
theorem dL_law_272 : decode cL_law 272 = .ok (.ifCond .eq 7, 3) := by decide +kernel
theorem dL_law_275 : decode cL_law 275 = .ok (.iconst 1, 1) := by decide +kernel
theorem dL_law_276 : decode cL_law 276 = .ok (.goto 4, 3) := by decide +kernel
theorem dL_law_279 : decode cL_law 279 = .ok (.iconst 0, 1) := by decide +kernel
theorem dL_law_280 : decode cL_law 280 = .ok (.invokevirtual 36, 3) := by decide +kernel
theorem dL_law_283 : decode cL_law 283 = .ok (.aload_n 2, 1) := by decide +kernel
theorem dL_law_284 : decode cL_law 284 = .ok (.aload_n 0, 1) := by decide +kernel
theorem dL_law_285 : decode cL_law 285 = .ok (.iload_n 3, 1) := by decide +kernel
theorem dL_law_286 : decode cL_law 286 = .ok (.iconst 1, 1) := by decide +kernel
theorem dL_law_287 : decode cL_law 287 = .ok (.iadd, 1) := by decide +kernel
theorem dL_law_288 : decode cL_law 288 = .ok (.iaload, 1) := by decide +kernel
theorem dL_law_289 : decode cL_law 289 = .ok (.aload_n 0, 1) := by decide +kernel
theorem dL_law_290 : decode cL_law 290 = .ok (.iload_n 3, 1) := by decide +kernel
theorem dL_law_291 : decode cL_law 291 = .ok (.iconst 2, 1) := by decide +kernel
theorem dL_law_292 : decode cL_law 292 = .ok (.iadd, 1) := by decide +kernel
theorem dL_law_293 : decode cL_law 293 = .ok (.iaload, 1) := by decide +kernel
theorem dL_law_294 : decode cL_law 294 = .ok (.ifCond .eq 7, 3) := by decide +kernel
theorem dL_law_297 : decode cL_law 297 = .ok (.iconst 1, 1) := by decide +kernel
theorem dL_law_298 : decode cL_law 298 = .ok (.goto 4, 3) := by decide +kernel
theorem dL_law_301 : decode cL_law 301 = .ok (.iconst 0, 1) := by decide +kernel
theorem dL_law_302 : decode cL_law 302 = .ok (.invokevirtual 40, 3) := by decide +kernel
theorem dL_law_305 : decode cL_law 305 = .ok (.if_icmp .eq 143, 3) := by decide +kernel
theorem dL_law_308 : decode cL_law 308 = .ok (.iconst 0, 1) := by decide +kernel
theorem dL_law_309 : decode cL_law 309 = .ok (.ireturn, 1) := by decide +kernel
theorem dL_law_310 : decode cL_law 310 = .ok (.aload_n 1, 1) := by decide +kernel
theorem dL_law_311 : decode cL_law 311 = .ok (.aload_n 0, 1) := by decide +kernel
theorem dL_law_312 : decode cL_law 312 = .ok (.iload_n 3, 1) := by decide +kernel
theorem dL_law_313 : decode cL_law 313 = .ok (.iconst 1, 1) := by decide +kernel
theorem dL_law_314 : decode cL_law 314 = .ok (.iadd, 1) := by decide +kernel
theorem dL_law_315 : decode cL_law 315 = .ok (.iaload, 1) := by decide +kernel
theorem dL_law_316 : decode cL_law 316 = .ok (.invokevirtual 41, 3) := by decide +kernel
theorem dL_law_319 : decode cL_law 319 = .ok (.aload_n 2, 1) := by decide +kernel
theorem dL_law_320 : decode cL_law 320 = .ok (.aload_n 0, 1) := by decide +kernel
theorem dL_law_321 : decode cL_law 321 = .ok (.iload_n 3, 1) := by decide +kernel
theorem dL_law_322 : decode cL_law 322 = .ok (.iconst 1, 1) := by decide +kernel
theorem dL_law_323 : decode cL_law 323 = .ok (.iadd, 1) := by decide +kernel
theorem dL_law_324 : decode cL_law 324 = .ok (.iaload, 1) := by decide +kernel
theorem dL_law_325 : decode cL_law 325 = .ok (.invokevirtual 44, 3) := by decide +kernel
theorem dL_law_328 : decode cL_law 328 = .ok (.if_icmp .eq 120, 3) := by decide +kernel
theorem dL_law_331 : decode cL_law 331 = .ok (.iconst 0, 1) := by decide +kernel
theorem dL_law_332 : decode cL_law 332 = .ok (.ireturn, 1) := by decide +kernel
theorem dL_law_333 : decode cL_law 333 = .ok (.aload_n 1, 1) := by decide +kernel
theorem dL_law_334 : decode cL_law 334 = .ok (.aload_n 0, 1) := by decide +kernel
theorem dL_law_335 : decode cL_law 335 = .ok (.iload_n 3, 1) := by decide +kernel
theorem dL_law_336 : decode cL_law 336 = .ok (.iconst 1, 1) := by decide +kernel
theorem dL_law_337 : decode cL_law 337 = .ok (.iadd, 1) := by decide +kernel
theorem dL_law_338 : decode cL_law 338 = .ok (.iaload, 1) := by decide +kernel
theorem dL_law_339 : decode cL_law 339 = .ok (.invokevirtual 45, 3) := by decide +kernel
theorem dL_law_342 : decode cL_law 342 = .ok (.aload_n 2, 1) := by decide +kernel
theorem dL_law_343 : decode cL_law 343 = .ok (.aload_n 0, 1) := by decide +kernel
theorem dL_law_344 : decode cL_law 344 = .ok (.iload_n 3, 1) := by decide +kernel
theorem dL_law_345 : decode cL_law 345 = .ok (.iconst 1, 1) := by decide +kernel
theorem dL_law_346 : decode cL_law 346 = .ok (.iadd, 1) := by decide +kernel
theorem dL_law_347 : decode cL_law 347 = .ok (.iaload, 1) := by decide +kernel
theorem dL_law_348 : decode cL_law 348 = .ok (.invokevirtual 48, 3) := by decide +kernel
theorem dL_law_351 : decode cL_law 351 = .ok (.if_icmp .eq 97, 3) := by decide +kernel
theorem dL_law_354 : decode cL_law 354 = .ok (.iconst 0, 1) := by decide +kernel
theorem dL_law_355 : decode cL_law 355 = .ok (.ireturn, 1) := by decide +kernel
theorem dL_law_356 : decode cL_law 356 = .ok (.aload_n 1, 1) := by decide +kernel
theorem dL_law_357 : decode cL_law 357 = .ok (.aload_n 0, 1) := by decide +kernel
theorem dL_law_358 : decode cL_law 358 = .ok (.iload_n 3, 1) := by decide +kernel
theorem dL_law_359 : decode cL_law 359 = .ok (.iconst 1, 1) := by decide +kernel
theorem dL_law_360 : decode cL_law 360 = .ok (.iadd, 1) := by decide +kernel
theorem dL_law_361 : decode cL_law 361 = .ok (.iaload, 1) := by decide +kernel
theorem dL_law_362 : decode cL_law 362 = .ok (.aload_n 0, 1) := by decide +kernel
theorem dL_law_363 : decode cL_law 363 = .ok (.iload_n 3, 1) := by decide +kernel
theorem dL_law_364 : decode cL_law 364 = .ok (.iconst 2, 1) := by decide +kernel
theorem dL_law_365 : decode cL_law 365 = .ok (.iadd, 1) := by decide +kernel
theorem dL_law_366 : decode cL_law 366 = .ok (.iaload, 1) := by decide +kernel
theorem dL_law_367 : decode cL_law 367 = .ok (.invokevirtual 49, 3) := by decide +kernel
theorem dL_law_370 : decode cL_law 370 = .ok (.aload_n 2, 1) := by decide +kernel
theorem dL_law_371 : decode cL_law 371 = .ok (.aload_n 0, 1) := by decide +kernel
theorem dL_law_372 : decode cL_law 372 = .ok (.iload_n 3, 1) := by decide +kernel
theorem dL_law_373 : decode cL_law 373 = .ok (.iconst 1, 1) := by decide +kernel
theorem dL_law_374 : decode cL_law 374 = .ok (.iadd, 1) := by decide +kernel
theorem dL_law_375 : decode cL_law 375 = .ok (.iaload, 1) := by decide +kernel
theorem dL_law_376 : decode cL_law 376 = .ok (.aload_n 0, 1) := by decide +kernel
theorem dL_law_377 : decode cL_law 377 = .ok (.iload_n 3, 1) := by decide +kernel
theorem dL_law_378 : decode cL_law 378 = .ok (.iconst 2, 1) := by decide +kernel
theorem dL_law_379 : decode cL_law 379 = .ok (.iadd, 1) := by decide +kernel
theorem dL_law_380 : decode cL_law 380 = .ok (.iaload, 1) := by decide +kernel
theorem dL_law_381 : decode cL_law 381 = .ok (.invokevirtual 52, 3) := by decide +kernel
theorem dL_law_384 : decode cL_law 384 = .ok (.if_icmp .eq 64, 3) := by decide +kernel
theorem dL_law_387 : decode cL_law 387 = .ok (.iconst 0, 1) := by decide +kernel
theorem dL_law_388 : decode cL_law 388 = .ok (.ireturn, 1) := by decide +kernel
theorem dL_law_389 : decode cL_law 389 = .ok (.aload_n 1, 1) := by decide +kernel
theorem dL_law_390 : decode cL_law 390 = .ok (.aload_n 0, 1) := by decide +kernel
theorem dL_law_391 : decode cL_law 391 = .ok (.iload_n 3, 1) := by decide +kernel
theorem dL_law_392 : decode cL_law 392 = .ok (.iconst 1, 1) := by decide +kernel
theorem dL_law_393 : decode cL_law 393 = .ok (.iadd, 1) := by decide +kernel
theorem dL_law_394 : decode cL_law 394 = .ok (.iaload, 1) := by decide +kernel
theorem dL_law_395 : decode cL_law 395 = .ok (.invokevirtual 53, 3) := by decide +kernel
theorem dL_law_398 : decode cL_law 398 = .ok (.aload_n 2, 1) := by decide +kernel
theorem dL_law_399 : decode cL_law 399 = .ok (.aload_n 0, 1) := by decide +kernel
theorem dL_law_400 : decode cL_law 400 = .ok (.iload_n 3, 1) := by decide +kernel
theorem dL_law_401 : decode cL_law 401 = .ok (.iconst 1, 1) := by decide +kernel
theorem dL_law_402 : decode cL_law 402 = .ok (.iadd, 1) := by decide +kernel
theorem dL_law_403 : decode cL_law 403 = .ok (.iaload, 1) := by decide +kernel
theorem dL_law_404 : decode cL_law 404 = .ok (.invokevirtual 56, 3) := by decide +kernel
theorem dL_law_407 : decode cL_law 407 = .ok (.if_icmp .eq 41, 3) := by decide +kernel
theorem dL_law_410 : decode cL_law 410 = .ok (.iconst 0, 1) := by decide +kernel
theorem dL_law_411 : decode cL_law 411 = .ok (.ireturn, 1) := by decide +kernel
theorem dL_law_412 : decode cL_law 412 = .ok (.aload_n 1, 1) := by decide +kernel
theorem dL_law_413 : decode cL_law 413 = .ok (.invokevirtual 57, 3) := by decide +kernel
theorem dL_law_416 : decode cL_law 416 = .ok (.aload_n 2, 1) := by decide +kernel
theorem dL_law_417 : decode cL_law 417 = .ok (.invokevirtual 61, 3) := by decide +kernel
theorem dL_law_420 : decode cL_law 420 = .ok (.if_icmp .eq 28, 3) := by decide +kernel
theorem dL_law_423 : decode cL_law 423 = .ok (.iconst 0, 1) := by decide +kernel
theorem dL_law_424 : decode cL_law 424 = .ok (.ireturn, 1) := by decide +kernel
theorem dL_law_425 : decode cL_law 425 = .ok (.aload_n 1, 1) := by decide +kernel
theorem dL_law_426 : decode cL_law 426 = .ok (.aload_n 0, 1) := by decide +kernel
theorem dL_law_427 : decode cL_law 427 = .ok (.iload_n 3, 1) := by decide +kernel
theorem dL_law_428 : decode cL_law 428 = .ok (.iconst 1, 1) := by decide +kernel
theorem dL_law_429 : decode cL_law 429 = .ok (.iadd, 1) := by decide +kernel
theorem dL_law_430 : decode cL_law 430 = .ok (.iaload, 1) := by decide +kernel
theorem dL_law_431 : decode cL_law 431 = .ok (.invokevirtual 62, 3) := by decide +kernel
theorem dL_law_434 : decode cL_law 434 = .ok (.aload_n 2, 1) := by decide +kernel
theorem dL_law_435 : decode cL_law 435 = .ok (.aload_n 0, 1) := by decide +kernel
theorem dL_law_436 : decode cL_law 436 = .ok (.iload_n 3, 1) := by decide +kernel
theorem dL_law_437 : decode cL_law 437 = .ok (.iconst 1, 1) := by decide +kernel
theorem dL_law_438 : decode cL_law 438 = .ok (.iadd, 1) := by decide +kernel
theorem dL_law_439 : decode cL_law 439 = .ok (.iaload, 1) := by decide +kernel
theorem dL_law_440 : decode cL_law 440 = .ok (.invokevirtual 65, 3) := by decide +kernel
theorem dL_law_443 : decode cL_law 443 = .ok (.if_icmp .eq 5, 3) := by decide +kernel
theorem dL_law_446 : decode cL_law 446 = .ok (.iconst 0, 1) := by decide +kernel
theorem dL_law_447 : decode cL_law 447 = .ok (.ireturn, 1) := by decide +kernel
theorem dL_law_448 : decode cL_law 448 = .ok (.iinc 3 4, 3) := by decide +kernel
theorem dL_law_451 : decode cL_law 451 = .ok (.goto (-433), 3) := by decide +kernel
theorem dL_law_454 : decode cL_law 454 = .ok (.iconst 1, 1) := by decide +kernel
theorem dL_law_455 : decode cL_law 455 = .ok (.ireturn, 1) := by decide +kernel
end
section
set_option maxRecDepth 100000
abbrev ttS : Type := Nat → Nat → Int32
def ttU (σ : ttS) (k j : Nat) (v : Int32) : ttS := fun q => if q = k then upd (σ k) j v else σ q
theorem ttU_eq (σ : ttS) (k j : Nat) (v : Int32) : ttU σ k j v k = upd (σ k) j v := by simp [ttU]
theorem ttU_ne (σ : ttS) {k q : Nat} (j : Nat) (v : Int32) (h : q ≠ k) : ttU σ k j v q = σ q := by simp [ttU, h]
abbrev vwCl : List vw_C := [(RX0, TX0, 19), (RX1, TX1, 11)]
abbrev rmL (k : Nat) : Room := { frames := k, cells := 0, slots := 0, locals := 27 * k }
theorem tt_nar0 : vp_nar .boolean 0 = 0 := rfl
theorem tt_nar1 : vp_nar .boolean 1 = 1 := rfl
def oX (h : Nat → Nat) (σ : ttS) : List Value := [.int (σ 0 0), .ref (h 1), .ref (h 2), .ref (h 3), .ref (h 4), .ref (h 5), .ref (h 6), .ref (h 7), .ref (h 8), .ref (h 9), .ref (h 10), .ref (h 11), .ref (h 12), .ref (h 13), .int (σ 14 0), .ref (h 15), .int (σ 16 0), .ref (h 17), .int (σ 18 0)]
def cX (h : Nat → Nat) (d : Nat → ClassId) (σ : ttS) : va_W := [(h 0, .inr (0, oX h σ)), (h 1, .inl (d 1, 24, .inl (σ 1))), (h 2, .inl (d 2, 24, .inl (σ 2))), (h 3, .inl (d 3, 24, .inl (σ 3))), (h 4, .inl (d 4, 24, .inl (σ 4))), (h 5, .inl (d 5, 24, .inl (σ 5))), (h 6, .inl (d 6, 96, .inl (σ 6))), (h 7, .inl (d 7, 24, .inl (σ 7))), (h 8, .inl (d 8, 24, .inl (σ 8))), (h 9, .inl (d 9, 24, .inl (σ 9))), (h 10, .inl (d 10, 24, .inl (σ 10))), (h 11, .inl (d 11, 24, .inl (σ 11))), (h 12, .inl (d 12, 96, .inl (σ 12))), (h 13, .inl (d 13, 24, .inl (σ 13))), (h 15, .inl (d 15, 24, .inl (σ 15))), (h 17, .inl (d 17, 24, .inl (σ 17)))]
def tX (d : Nat → ClassId) : List (ClassId × FieldType) := [(d 1, .boolean), (d 2, .int), (d 3, .int), (d 4, .int), (d 5, .int), (d 6, .int), (d 7, .int), (d 8, .int), (d 9, .int), (d 10, .boolean), (d 11, .int), (d 12, .int), (d 13, .int), (d 15, .boolean), (d 17, .int)]
def bX (D : va_G) (A : Nat → Prop) (h : Nat → Nat) (d : Nat → ClassId) (σ : ttS) (s : State) (H : Heap) (locs : List Loc) : Prop := va_K D vwCl (tX d) s ∧ va_P D vwCl (cX h d σ) H ∧ va_D A (cX h d σ) ∧ va_S A s.heap H locs
def xpre (D : va_G) (h : Nat → Nat) (d : Nat → ClassId) (σ : ttS) (sz : Nat) : State → Prop := fun U => U.heap.size = sz ∧ va_P D vwCl (cX h d σ) U.heap ∧ va_K D vwCl (tX d) U ∧ va_D (fun _ => True) (cX h d σ)
def xpost (D : va_G) (h : Nat → Nat) (d : Nat → ClassId) (A : Nat → Prop) (σ : ttS) (t : State) : Prop := va_P D vwCl (cX h d σ) t.heap ∧ va_K D vwCl (tX d) t ∧ va_D A (cX h d σ)
/-- a contract of X0: with the world at σ and the arguments, the method answers rv and leaves the world at σ' -/
def MX (l : Launch) (y : MethodName) (cc : ByteArray) (L : Nat) (ret : Option FieldType) (rm : Room) (as : List Value) (σ : ttS) (rv : Int32) (σ' : ttS) : Prop := ∀ (D : va_G) (h : Nat → Nat) (d : Nat → ClassId) (sz : Nat), Met l y (ws_ y cc L ret) rm (va_Pc (.ref (h 0) :: as) (xpre D h d σ sz)) (va_Qi (fun (r : Int32) (u : ttS) => r = rv ∧ u = σ') (xpost D h d (va_A (cX h d σ) sz)) (va_A (cX h d σ) sz)) 0 0 (va_A (cX h d σ) sz)
def MXv (l : Launch) (y : MethodName) (cc : ByteArray) (L : Nat) (rm : Room) (as : List Value) (σ : ttS) (σ' : ttS) : Prop := ∀ (D : va_G) (h : Nat → Nat) (d : Nat → ClassId) (sz : Nat), Met l y (ws_ y cc L none) rm (va_Pc (.ref (h 0) :: as) (xpre D h d σ sz)) (va_Qv (fun (u : ttS) => u = σ') (xpost D h d (va_A (cX h d σ) sz)) (va_A (cX h d σ) sz)) 0 0 (va_A (cX h d σ) sz)
def xQi (below : List Frame) (D : va_G) (h : Nat → Nat) (d : Nat → ClassId) (A : Nat → Prop) (args : Array Value) (s : State) (rv : Int32) (σ' : ttS) : State → Prop := MQ below (va_Qi (fun (r : Int32) (u : ttS) => r = rv ∧ u = σ') (xpost D h d A) A) args s 0 0 A
def xQv (below : List Frame) (D : va_G) (h : Nat → Nat) (d : Nat → ClassId) (A : Nat → Prop) (args : Array Value) (s : State) (σ' : ttS) : State → Prop := MQ below (va_Qv (fun (u : ttS) => u = σ') (xpost D h d A) A) args s 0 0 A
section
variable {p : Program} {l : Launch} {e : Env} {R : Room} {s : State} {m : MethodId} {args : Array Value} {below : List Frame} {meth : Method} {c : Code} {H : Heap} {locs : List Loc} {cells slots : Nat} {Q : State → Prop}
variable {pc : Nat} {ls : Array Slot} {rest : List Value} {D : va_G} {A : Nat → Prop} {h : Nat → Nat} {d : Nat → ClassId} {σ : ttS} {cc : ByteArray} {nL : Nat}
theorem x_get_0 (S : CallFix p m c cc nL s args lw_all RX0) (hI : bX D A h d σ s H locs) (hdg : decode cc pc = .ok (.getfield 56, 3)) (kk : W p l e R s m args below meth c H locs cells slots Q (F0 m (pc + 3) ls (.int (σ 0 0) :: rest))) : W p l e R s m args below meth c H locs cells slots Q (F0 m pc ls (.ref (h 0) :: rest)) := va_get (D := D) (ci := 0) (v := .int (σ 0 0)) (C := RX0) (T := TX0) (N := 19) S.1 S.2.1 S.2.2.2.2 in_X0 S.2.2.2.1 hI.1 hI.2.1 0 rfl rfl 0 (by decide) (S.2.2.2.2 _ q41) (fun _ h9 => h9) rfl hdg kk
theorem x_put_0 (S : CallFix p m c cc nL s args lw_all RX0) (hI : bX D A h d σ s H locs) {v : Int32} (hdg : decode cc pc = .ok (.putfield 56, 3)) (kk : ∀ (H1 : Heap) (locs1 : List Loc), bX D A h d (ttU σ 0 0 v) s H1 locs1 → W p l e R s m args below meth c H1 locs1 cells slots Q (F0 m (pc + 3) ls rest)) : W p l e R s m args below meth c H locs cells slots Q (F0 m pc ls (.int v :: .ref (h 0) :: rest)) := va_put (D := D) (ci := 0) (v := .int v) (ty := .int) (C := RX0) (T := TX0) (N := 19) S.1 S.2.1 S.2.2.2.2 in_X0 tyX0 tyX0_ok nmX0 S.2.2.2.1 hI.1 hI.2.1 hI.2.2.1 hI.2.2.2 0 rfl rfl 0 (by decide) (S.2.2.2.2 _ q41) (fun _ h9 => h9) rfl (by decide +kernel) rfl rfl (Nat.le_of_ble_eq_true rfl) hdg (fun H1 locs1 hP hD hS => kk H1 locs1 ⟨hI.1, hP, hD, hS⟩)
theorem x_get_1 (S : CallFix p m c cc nL s args lw_all RX0) (hI : bX D A h d σ s H locs) (hdg : decode cc pc = .ok (.getfield 7, 3)) (kk : W p l e R s m args below meth c H locs cells slots Q (F0 m (pc + 3) ls (.ref (h 1) :: rest))) : W p l e R s m args below meth c H locs cells slots Q (F0 m pc ls (.ref (h 0) :: rest)) := va_get (D := D) (ci := 0) (v := .ref (h 1)) (C := RX0) (T := TX0) (N := 19) S.1 S.2.1 S.2.2.2.2 in_X0 S.2.2.2.1 hI.1 hI.2.1 0 rfl rfl 1 (by decide) (S.2.2.2.2 _ q42) (fun _ h9 => h9) rfl hdg kk
theorem x_ald_1 (S : CallFix p m c cc nL s args lw_all RX0) (hI : bX D A h d σ s H locs) {i : Int32} (hin : vp_in i 24) (hdg : decode cc pc = .ok (.baload, 1)) (kk : W p l e R s m args below meth c H locs cells slots Q (F0 m (pc + 1) ls (.int (σ 1 i.toNatClampNeg) :: rest))) : W p l e R s m args below meth c H locs cells slots Q (F0 m pc ls (.int i :: .ref (h 1) :: rest)) := va_zald S.1 S.2.1 hI.1 hI.2.1 1 0 rfl rfl hin hdg kk
theorem x_aln_1 (S : CallFix p m c cc nL s args lw_all RX0) (hI : bX D A h d σ s H locs) {j : Nat} (hj : j < 24) (hdg : decode cc pc = .ok (.baload, 1)) (kk : W p l e R s m args below meth c H locs cells slots Q (F0 m (pc + 1) ls (.int (σ 1 j) :: rest))) : W p l e R s m args below meth c H locs cells slots Q (F0 m pc ls (.int (nI j) :: .ref (h 1) :: rest)) := by
  refine x_ald_1 S hI (vp_in_nI hj (by decide)) hdg ?_
  rw [nI_clamp (Nat.lt_trans hj (by decide))]
  exact kk
theorem x_ast_1 (S : CallFix p m c cc nL s args lw_all RX0) (hI : bX D A h d σ s H locs) {i x : Int32} (hin : vp_in i 24) (hz : vp_nar .boolean x = x) (hdg : decode cc pc = .ok (.bastore, 1)) (kk : ∀ (H1 : Heap) (locs1 : List Loc), bX D A h d (ttU σ 1 i.toNatClampNeg x) s H1 locs1 → W p l e R s m args below meth c H1 locs1 cells slots Q (F0 m (pc + 1) ls rest)) : W p l e R s m args below meth c H locs cells slots Q (F0 m pc ls (.int x :: .int i :: .ref (h 1) :: rest)) := by
  refine va_zast S.1 S.2.1 hI.1 hI.2.1 hI.2.2.1 hI.2.2.2 1 0 rfl rfl hin hdg (fun H1 locs1 hP hD hS => ?_)
  rw [hz] at hP hD
  exact kk H1 locs1 ⟨hI.1, hP, hD, hS⟩
theorem x_asn_1 (S : CallFix p m c cc nL s args lw_all RX0) (hI : bX D A h d σ s H locs) {j : Nat} {x : Int32} (hj : j < 24) (hz : vp_nar .boolean x = x) (hdg : decode cc pc = .ok (.bastore, 1)) (kk : ∀ (H1 : Heap) (locs1 : List Loc), bX D A h d (ttU σ 1 j x) s H1 locs1 → W p l e R s m args below meth c H1 locs1 cells slots Q (F0 m (pc + 1) ls rest)) : W p l e R s m args below meth c H locs cells slots Q (F0 m pc ls (.int x :: .int (nI j) :: .ref (h 1) :: rest)) := by
  refine x_ast_1 S hI (vp_in_nI hj (by decide)) hz hdg ?_
  rw [nI_clamp (Nat.lt_trans hj (by decide))]
  exact kk
theorem x_get_2 (S : CallFix p m c cc nL s args lw_all RX0) (hI : bX D A h d σ s H locs) (hdg : decode cc pc = .ok (.getfield 13, 3)) (kk : W p l e R s m args below meth c H locs cells slots Q (F0 m (pc + 3) ls (.ref (h 2) :: rest))) : W p l e R s m args below meth c H locs cells slots Q (F0 m pc ls (.ref (h 0) :: rest)) := va_get (D := D) (ci := 0) (v := .ref (h 2)) (C := RX0) (T := TX0) (N := 19) S.1 S.2.1 S.2.2.2.2 in_X0 S.2.2.2.1 hI.1 hI.2.1 0 rfl rfl 2 (by decide) (S.2.2.2.2 _ q43) (fun _ h9 => h9) rfl hdg kk
theorem x_ald_2 (S : CallFix p m c cc nL s args lw_all RX0) (hI : bX D A h d σ s H locs) {i : Int32} (hin : vp_in i 24) (hdg : decode cc pc = .ok (.iaload, 1)) (kk : W p l e R s m args below meth c H locs cells slots Q (F0 m (pc + 1) ls (.int (σ 2 i.toNatClampNeg) :: rest))) : W p l e R s m args below meth c H locs cells slots Q (F0 m pc ls (.int i :: .ref (h 2) :: rest)) := va_iald S.1 S.2.1 hI.1 hI.2.1 2 1 rfl rfl hin hdg kk
theorem x_aln_2 (S : CallFix p m c cc nL s args lw_all RX0) (hI : bX D A h d σ s H locs) {j : Nat} (hj : j < 24) (hdg : decode cc pc = .ok (.iaload, 1)) (kk : W p l e R s m args below meth c H locs cells slots Q (F0 m (pc + 1) ls (.int (σ 2 j) :: rest))) : W p l e R s m args below meth c H locs cells slots Q (F0 m pc ls (.int (nI j) :: .ref (h 2) :: rest)) := by
  refine x_ald_2 S hI (vp_in_nI hj (by decide)) hdg ?_
  rw [nI_clamp (Nat.lt_trans hj (by decide))]
  exact kk
theorem x_ast_2 (S : CallFix p m c cc nL s args lw_all RX0) (hI : bX D A h d σ s H locs) {i x : Int32} (hin : vp_in i 24) (hdg : decode cc pc = .ok (.iastore, 1)) (kk : ∀ (H1 : Heap) (locs1 : List Loc), bX D A h d (ttU σ 2 i.toNatClampNeg x) s H1 locs1 → W p l e R s m args below meth c H1 locs1 cells slots Q (F0 m (pc + 1) ls rest)) : W p l e R s m args below meth c H locs cells slots Q (F0 m pc ls (.int x :: .int i :: .ref (h 2) :: rest)) := va_iast S.1 S.2.1 hI.1 hI.2.1 hI.2.2.1 hI.2.2.2 2 1 rfl rfl hin hdg (fun H1 locs1 hP hD hS => kk H1 locs1 ⟨hI.1, hP, hD, hS⟩)
theorem x_asn_2 (S : CallFix p m c cc nL s args lw_all RX0) (hI : bX D A h d σ s H locs) {j : Nat} {x : Int32} (hj : j < 24) (hdg : decode cc pc = .ok (.iastore, 1)) (kk : ∀ (H1 : Heap) (locs1 : List Loc), bX D A h d (ttU σ 2 j x) s H1 locs1 → W p l e R s m args below meth c H1 locs1 cells slots Q (F0 m (pc + 1) ls rest)) : W p l e R s m args below meth c H locs cells slots Q (F0 m pc ls (.int x :: .int (nI j) :: .ref (h 2) :: rest)) := by
  refine x_ast_2 S hI (vp_in_nI hj (by decide)) hdg ?_
  rw [nI_clamp (Nat.lt_trans hj (by decide))]
  exact kk
theorem x_get_3 (S : CallFix p m c cc nL s args lw_all RX0) (hI : bX D A h d σ s H locs) (hdg : decode cc pc = .ok (.getfield 17, 3)) (kk : W p l e R s m args below meth c H locs cells slots Q (F0 m (pc + 3) ls (.ref (h 3) :: rest))) : W p l e R s m args below meth c H locs cells slots Q (F0 m pc ls (.ref (h 0) :: rest)) := va_get (D := D) (ci := 0) (v := .ref (h 3)) (C := RX0) (T := TX0) (N := 19) S.1 S.2.1 S.2.2.2.2 in_X0 S.2.2.2.1 hI.1 hI.2.1 0 rfl rfl 3 (by decide) (S.2.2.2.2 _ q44) (fun _ h9 => h9) rfl hdg kk
theorem x_ald_3 (S : CallFix p m c cc nL s args lw_all RX0) (hI : bX D A h d σ s H locs) {i : Int32} (hin : vp_in i 24) (hdg : decode cc pc = .ok (.iaload, 1)) (kk : W p l e R s m args below meth c H locs cells slots Q (F0 m (pc + 1) ls (.int (σ 3 i.toNatClampNeg) :: rest))) : W p l e R s m args below meth c H locs cells slots Q (F0 m pc ls (.int i :: .ref (h 3) :: rest)) := va_iald S.1 S.2.1 hI.1 hI.2.1 3 2 rfl rfl hin hdg kk
theorem x_aln_3 (S : CallFix p m c cc nL s args lw_all RX0) (hI : bX D A h d σ s H locs) {j : Nat} (hj : j < 24) (hdg : decode cc pc = .ok (.iaload, 1)) (kk : W p l e R s m args below meth c H locs cells slots Q (F0 m (pc + 1) ls (.int (σ 3 j) :: rest))) : W p l e R s m args below meth c H locs cells slots Q (F0 m pc ls (.int (nI j) :: .ref (h 3) :: rest)) := by
  refine x_ald_3 S hI (vp_in_nI hj (by decide)) hdg ?_
  rw [nI_clamp (Nat.lt_trans hj (by decide))]
  exact kk
theorem x_ast_3 (S : CallFix p m c cc nL s args lw_all RX0) (hI : bX D A h d σ s H locs) {i x : Int32} (hin : vp_in i 24) (hdg : decode cc pc = .ok (.iastore, 1)) (kk : ∀ (H1 : Heap) (locs1 : List Loc), bX D A h d (ttU σ 3 i.toNatClampNeg x) s H1 locs1 → W p l e R s m args below meth c H1 locs1 cells slots Q (F0 m (pc + 1) ls rest)) : W p l e R s m args below meth c H locs cells slots Q (F0 m pc ls (.int x :: .int i :: .ref (h 3) :: rest)) := va_iast S.1 S.2.1 hI.1 hI.2.1 hI.2.2.1 hI.2.2.2 3 2 rfl rfl hin hdg (fun H1 locs1 hP hD hS => kk H1 locs1 ⟨hI.1, hP, hD, hS⟩)
theorem x_asn_3 (S : CallFix p m c cc nL s args lw_all RX0) (hI : bX D A h d σ s H locs) {j : Nat} {x : Int32} (hj : j < 24) (hdg : decode cc pc = .ok (.iastore, 1)) (kk : ∀ (H1 : Heap) (locs1 : List Loc), bX D A h d (ttU σ 3 j x) s H1 locs1 → W p l e R s m args below meth c H1 locs1 cells slots Q (F0 m (pc + 1) ls rest)) : W p l e R s m args below meth c H locs cells slots Q (F0 m pc ls (.int x :: .int (nI j) :: .ref (h 3) :: rest)) := by
  refine x_ast_3 S hI (vp_in_nI hj (by decide)) hdg ?_
  rw [nI_clamp (Nat.lt_trans hj (by decide))]
  exact kk
theorem x_get_4 (S : CallFix p m c cc nL s args lw_all RX0) (hI : bX D A h d σ s H locs) (hdg : decode cc pc = .ok (.getfield 20, 3)) (kk : W p l e R s m args below meth c H locs cells slots Q (F0 m (pc + 3) ls (.ref (h 4) :: rest))) : W p l e R s m args below meth c H locs cells slots Q (F0 m pc ls (.ref (h 0) :: rest)) := va_get (D := D) (ci := 0) (v := .ref (h 4)) (C := RX0) (T := TX0) (N := 19) S.1 S.2.1 S.2.2.2.2 in_X0 S.2.2.2.1 hI.1 hI.2.1 0 rfl rfl 4 (by decide) (S.2.2.2.2 _ q45) (fun _ h9 => h9) rfl hdg kk
theorem x_ald_4 (S : CallFix p m c cc nL s args lw_all RX0) (hI : bX D A h d σ s H locs) {i : Int32} (hin : vp_in i 24) (hdg : decode cc pc = .ok (.iaload, 1)) (kk : W p l e R s m args below meth c H locs cells slots Q (F0 m (pc + 1) ls (.int (σ 4 i.toNatClampNeg) :: rest))) : W p l e R s m args below meth c H locs cells slots Q (F0 m pc ls (.int i :: .ref (h 4) :: rest)) := va_iald S.1 S.2.1 hI.1 hI.2.1 4 3 rfl rfl hin hdg kk
theorem x_aln_4 (S : CallFix p m c cc nL s args lw_all RX0) (hI : bX D A h d σ s H locs) {j : Nat} (hj : j < 24) (hdg : decode cc pc = .ok (.iaload, 1)) (kk : W p l e R s m args below meth c H locs cells slots Q (F0 m (pc + 1) ls (.int (σ 4 j) :: rest))) : W p l e R s m args below meth c H locs cells slots Q (F0 m pc ls (.int (nI j) :: .ref (h 4) :: rest)) := by
  refine x_ald_4 S hI (vp_in_nI hj (by decide)) hdg ?_
  rw [nI_clamp (Nat.lt_trans hj (by decide))]
  exact kk
theorem x_ast_4 (S : CallFix p m c cc nL s args lw_all RX0) (hI : bX D A h d σ s H locs) {i x : Int32} (hin : vp_in i 24) (hdg : decode cc pc = .ok (.iastore, 1)) (kk : ∀ (H1 : Heap) (locs1 : List Loc), bX D A h d (ttU σ 4 i.toNatClampNeg x) s H1 locs1 → W p l e R s m args below meth c H1 locs1 cells slots Q (F0 m (pc + 1) ls rest)) : W p l e R s m args below meth c H locs cells slots Q (F0 m pc ls (.int x :: .int i :: .ref (h 4) :: rest)) := va_iast S.1 S.2.1 hI.1 hI.2.1 hI.2.2.1 hI.2.2.2 4 3 rfl rfl hin hdg (fun H1 locs1 hP hD hS => kk H1 locs1 ⟨hI.1, hP, hD, hS⟩)
theorem x_asn_4 (S : CallFix p m c cc nL s args lw_all RX0) (hI : bX D A h d σ s H locs) {j : Nat} {x : Int32} (hj : j < 24) (hdg : decode cc pc = .ok (.iastore, 1)) (kk : ∀ (H1 : Heap) (locs1 : List Loc), bX D A h d (ttU σ 4 j x) s H1 locs1 → W p l e R s m args below meth c H1 locs1 cells slots Q (F0 m (pc + 1) ls rest)) : W p l e R s m args below meth c H locs cells slots Q (F0 m pc ls (.int x :: .int (nI j) :: .ref (h 4) :: rest)) := by
  refine x_ast_4 S hI (vp_in_nI hj (by decide)) hdg ?_
  rw [nI_clamp (Nat.lt_trans hj (by decide))]
  exact kk
theorem x_get_5 (S : CallFix p m c cc nL s args lw_all RX0) (hI : bX D A h d σ s H locs) (hdg : decode cc pc = .ok (.getfield 23, 3)) (kk : W p l e R s m args below meth c H locs cells slots Q (F0 m (pc + 3) ls (.ref (h 5) :: rest))) : W p l e R s m args below meth c H locs cells slots Q (F0 m pc ls (.ref (h 0) :: rest)) := va_get (D := D) (ci := 0) (v := .ref (h 5)) (C := RX0) (T := TX0) (N := 19) S.1 S.2.1 S.2.2.2.2 in_X0 S.2.2.2.1 hI.1 hI.2.1 0 rfl rfl 5 (by decide) (S.2.2.2.2 _ q46) (fun _ h9 => h9) rfl hdg kk
theorem x_ald_5 (S : CallFix p m c cc nL s args lw_all RX0) (hI : bX D A h d σ s H locs) {i : Int32} (hin : vp_in i 24) (hdg : decode cc pc = .ok (.iaload, 1)) (kk : W p l e R s m args below meth c H locs cells slots Q (F0 m (pc + 1) ls (.int (σ 5 i.toNatClampNeg) :: rest))) : W p l e R s m args below meth c H locs cells slots Q (F0 m pc ls (.int i :: .ref (h 5) :: rest)) := va_iald S.1 S.2.1 hI.1 hI.2.1 5 4 rfl rfl hin hdg kk
theorem x_aln_5 (S : CallFix p m c cc nL s args lw_all RX0) (hI : bX D A h d σ s H locs) {j : Nat} (hj : j < 24) (hdg : decode cc pc = .ok (.iaload, 1)) (kk : W p l e R s m args below meth c H locs cells slots Q (F0 m (pc + 1) ls (.int (σ 5 j) :: rest))) : W p l e R s m args below meth c H locs cells slots Q (F0 m pc ls (.int (nI j) :: .ref (h 5) :: rest)) := by
  refine x_ald_5 S hI (vp_in_nI hj (by decide)) hdg ?_
  rw [nI_clamp (Nat.lt_trans hj (by decide))]
  exact kk
theorem x_ast_5 (S : CallFix p m c cc nL s args lw_all RX0) (hI : bX D A h d σ s H locs) {i x : Int32} (hin : vp_in i 24) (hdg : decode cc pc = .ok (.iastore, 1)) (kk : ∀ (H1 : Heap) (locs1 : List Loc), bX D A h d (ttU σ 5 i.toNatClampNeg x) s H1 locs1 → W p l e R s m args below meth c H1 locs1 cells slots Q (F0 m (pc + 1) ls rest)) : W p l e R s m args below meth c H locs cells slots Q (F0 m pc ls (.int x :: .int i :: .ref (h 5) :: rest)) := va_iast S.1 S.2.1 hI.1 hI.2.1 hI.2.2.1 hI.2.2.2 5 4 rfl rfl hin hdg (fun H1 locs1 hP hD hS => kk H1 locs1 ⟨hI.1, hP, hD, hS⟩)
theorem x_asn_5 (S : CallFix p m c cc nL s args lw_all RX0) (hI : bX D A h d σ s H locs) {j : Nat} {x : Int32} (hj : j < 24) (hdg : decode cc pc = .ok (.iastore, 1)) (kk : ∀ (H1 : Heap) (locs1 : List Loc), bX D A h d (ttU σ 5 j x) s H1 locs1 → W p l e R s m args below meth c H1 locs1 cells slots Q (F0 m (pc + 1) ls rest)) : W p l e R s m args below meth c H locs cells slots Q (F0 m pc ls (.int x :: .int (nI j) :: .ref (h 5) :: rest)) := by
  refine x_ast_5 S hI (vp_in_nI hj (by decide)) hdg ?_
  rw [nI_clamp (Nat.lt_trans hj (by decide))]
  exact kk
theorem x_get_6 (S : CallFix p m c cc nL s args lw_all RX0) (hI : bX D A h d σ s H locs) (hdg : decode cc pc = .ok (.getfield 26, 3)) (kk : W p l e R s m args below meth c H locs cells slots Q (F0 m (pc + 3) ls (.ref (h 6) :: rest))) : W p l e R s m args below meth c H locs cells slots Q (F0 m pc ls (.ref (h 0) :: rest)) := va_get (D := D) (ci := 0) (v := .ref (h 6)) (C := RX0) (T := TX0) (N := 19) S.1 S.2.1 S.2.2.2.2 in_X0 S.2.2.2.1 hI.1 hI.2.1 0 rfl rfl 6 (by decide) (S.2.2.2.2 _ q47) (fun _ h9 => h9) rfl hdg kk
theorem x_ald_6 (S : CallFix p m c cc nL s args lw_all RX0) (hI : bX D A h d σ s H locs) {i : Int32} (hin : vp_in i 96) (hdg : decode cc pc = .ok (.iaload, 1)) (kk : W p l e R s m args below meth c H locs cells slots Q (F0 m (pc + 1) ls (.int (σ 6 i.toNatClampNeg) :: rest))) : W p l e R s m args below meth c H locs cells slots Q (F0 m pc ls (.int i :: .ref (h 6) :: rest)) := va_iald S.1 S.2.1 hI.1 hI.2.1 6 5 rfl rfl hin hdg kk
theorem x_aln_6 (S : CallFix p m c cc nL s args lw_all RX0) (hI : bX D A h d σ s H locs) {j : Nat} (hj : j < 96) (hdg : decode cc pc = .ok (.iaload, 1)) (kk : W p l e R s m args below meth c H locs cells slots Q (F0 m (pc + 1) ls (.int (σ 6 j) :: rest))) : W p l e R s m args below meth c H locs cells slots Q (F0 m pc ls (.int (nI j) :: .ref (h 6) :: rest)) := by
  refine x_ald_6 S hI (vp_in_nI hj (by decide)) hdg ?_
  rw [nI_clamp (Nat.lt_trans hj (by decide))]
  exact kk
theorem x_ast_6 (S : CallFix p m c cc nL s args lw_all RX0) (hI : bX D A h d σ s H locs) {i x : Int32} (hin : vp_in i 96) (hdg : decode cc pc = .ok (.iastore, 1)) (kk : ∀ (H1 : Heap) (locs1 : List Loc), bX D A h d (ttU σ 6 i.toNatClampNeg x) s H1 locs1 → W p l e R s m args below meth c H1 locs1 cells slots Q (F0 m (pc + 1) ls rest)) : W p l e R s m args below meth c H locs cells slots Q (F0 m pc ls (.int x :: .int i :: .ref (h 6) :: rest)) := va_iast S.1 S.2.1 hI.1 hI.2.1 hI.2.2.1 hI.2.2.2 6 5 rfl rfl hin hdg (fun H1 locs1 hP hD hS => kk H1 locs1 ⟨hI.1, hP, hD, hS⟩)
theorem x_asn_6 (S : CallFix p m c cc nL s args lw_all RX0) (hI : bX D A h d σ s H locs) {j : Nat} {x : Int32} (hj : j < 96) (hdg : decode cc pc = .ok (.iastore, 1)) (kk : ∀ (H1 : Heap) (locs1 : List Loc), bX D A h d (ttU σ 6 j x) s H1 locs1 → W p l e R s m args below meth c H1 locs1 cells slots Q (F0 m (pc + 1) ls rest)) : W p l e R s m args below meth c H locs cells slots Q (F0 m pc ls (.int x :: .int (nI j) :: .ref (h 6) :: rest)) := by
  refine x_ast_6 S hI (vp_in_nI hj (by decide)) hdg ?_
  rw [nI_clamp (Nat.lt_trans hj (by decide))]
  exact kk
theorem x_get_7 (S : CallFix p m c cc nL s args lw_all RX0) (hI : bX D A h d σ s H locs) (hdg : decode cc pc = .ok (.getfield 29, 3)) (kk : W p l e R s m args below meth c H locs cells slots Q (F0 m (pc + 3) ls (.ref (h 7) :: rest))) : W p l e R s m args below meth c H locs cells slots Q (F0 m pc ls (.ref (h 0) :: rest)) := va_get (D := D) (ci := 0) (v := .ref (h 7)) (C := RX0) (T := TX0) (N := 19) S.1 S.2.1 S.2.2.2.2 in_X0 S.2.2.2.1 hI.1 hI.2.1 0 rfl rfl 7 (by decide) (S.2.2.2.2 _ q48) (fun _ h9 => h9) rfl hdg kk
theorem x_ald_7 (S : CallFix p m c cc nL s args lw_all RX0) (hI : bX D A h d σ s H locs) {i : Int32} (hin : vp_in i 24) (hdg : decode cc pc = .ok (.iaload, 1)) (kk : W p l e R s m args below meth c H locs cells slots Q (F0 m (pc + 1) ls (.int (σ 7 i.toNatClampNeg) :: rest))) : W p l e R s m args below meth c H locs cells slots Q (F0 m pc ls (.int i :: .ref (h 7) :: rest)) := va_iald S.1 S.2.1 hI.1 hI.2.1 7 6 rfl rfl hin hdg kk
theorem x_aln_7 (S : CallFix p m c cc nL s args lw_all RX0) (hI : bX D A h d σ s H locs) {j : Nat} (hj : j < 24) (hdg : decode cc pc = .ok (.iaload, 1)) (kk : W p l e R s m args below meth c H locs cells slots Q (F0 m (pc + 1) ls (.int (σ 7 j) :: rest))) : W p l e R s m args below meth c H locs cells slots Q (F0 m pc ls (.int (nI j) :: .ref (h 7) :: rest)) := by
  refine x_ald_7 S hI (vp_in_nI hj (by decide)) hdg ?_
  rw [nI_clamp (Nat.lt_trans hj (by decide))]
  exact kk
theorem x_ast_7 (S : CallFix p m c cc nL s args lw_all RX0) (hI : bX D A h d σ s H locs) {i x : Int32} (hin : vp_in i 24) (hdg : decode cc pc = .ok (.iastore, 1)) (kk : ∀ (H1 : Heap) (locs1 : List Loc), bX D A h d (ttU σ 7 i.toNatClampNeg x) s H1 locs1 → W p l e R s m args below meth c H1 locs1 cells slots Q (F0 m (pc + 1) ls rest)) : W p l e R s m args below meth c H locs cells slots Q (F0 m pc ls (.int x :: .int i :: .ref (h 7) :: rest)) := va_iast S.1 S.2.1 hI.1 hI.2.1 hI.2.2.1 hI.2.2.2 7 6 rfl rfl hin hdg (fun H1 locs1 hP hD hS => kk H1 locs1 ⟨hI.1, hP, hD, hS⟩)
theorem x_asn_7 (S : CallFix p m c cc nL s args lw_all RX0) (hI : bX D A h d σ s H locs) {j : Nat} {x : Int32} (hj : j < 24) (hdg : decode cc pc = .ok (.iastore, 1)) (kk : ∀ (H1 : Heap) (locs1 : List Loc), bX D A h d (ttU σ 7 j x) s H1 locs1 → W p l e R s m args below meth c H1 locs1 cells slots Q (F0 m (pc + 1) ls rest)) : W p l e R s m args below meth c H locs cells slots Q (F0 m pc ls (.int x :: .int (nI j) :: .ref (h 7) :: rest)) := by
  refine x_ast_7 S hI (vp_in_nI hj (by decide)) hdg ?_
  rw [nI_clamp (Nat.lt_trans hj (by decide))]
  exact kk
theorem x_get_8 (S : CallFix p m c cc nL s args lw_all RX0) (hI : bX D A h d σ s H locs) (hdg : decode cc pc = .ok (.getfield 32, 3)) (kk : W p l e R s m args below meth c H locs cells slots Q (F0 m (pc + 3) ls (.ref (h 8) :: rest))) : W p l e R s m args below meth c H locs cells slots Q (F0 m pc ls (.ref (h 0) :: rest)) := va_get (D := D) (ci := 0) (v := .ref (h 8)) (C := RX0) (T := TX0) (N := 19) S.1 S.2.1 S.2.2.2.2 in_X0 S.2.2.2.1 hI.1 hI.2.1 0 rfl rfl 8 (by decide) (S.2.2.2.2 _ q49) (fun _ h9 => h9) rfl hdg kk
theorem x_ald_8 (S : CallFix p m c cc nL s args lw_all RX0) (hI : bX D A h d σ s H locs) {i : Int32} (hin : vp_in i 24) (hdg : decode cc pc = .ok (.iaload, 1)) (kk : W p l e R s m args below meth c H locs cells slots Q (F0 m (pc + 1) ls (.int (σ 8 i.toNatClampNeg) :: rest))) : W p l e R s m args below meth c H locs cells slots Q (F0 m pc ls (.int i :: .ref (h 8) :: rest)) := va_iald S.1 S.2.1 hI.1 hI.2.1 8 7 rfl rfl hin hdg kk
theorem x_aln_8 (S : CallFix p m c cc nL s args lw_all RX0) (hI : bX D A h d σ s H locs) {j : Nat} (hj : j < 24) (hdg : decode cc pc = .ok (.iaload, 1)) (kk : W p l e R s m args below meth c H locs cells slots Q (F0 m (pc + 1) ls (.int (σ 8 j) :: rest))) : W p l e R s m args below meth c H locs cells slots Q (F0 m pc ls (.int (nI j) :: .ref (h 8) :: rest)) := by
  refine x_ald_8 S hI (vp_in_nI hj (by decide)) hdg ?_
  rw [nI_clamp (Nat.lt_trans hj (by decide))]
  exact kk
theorem x_ast_8 (S : CallFix p m c cc nL s args lw_all RX0) (hI : bX D A h d σ s H locs) {i x : Int32} (hin : vp_in i 24) (hdg : decode cc pc = .ok (.iastore, 1)) (kk : ∀ (H1 : Heap) (locs1 : List Loc), bX D A h d (ttU σ 8 i.toNatClampNeg x) s H1 locs1 → W p l e R s m args below meth c H1 locs1 cells slots Q (F0 m (pc + 1) ls rest)) : W p l e R s m args below meth c H locs cells slots Q (F0 m pc ls (.int x :: .int i :: .ref (h 8) :: rest)) := va_iast S.1 S.2.1 hI.1 hI.2.1 hI.2.2.1 hI.2.2.2 8 7 rfl rfl hin hdg (fun H1 locs1 hP hD hS => kk H1 locs1 ⟨hI.1, hP, hD, hS⟩)
theorem x_asn_8 (S : CallFix p m c cc nL s args lw_all RX0) (hI : bX D A h d σ s H locs) {j : Nat} {x : Int32} (hj : j < 24) (hdg : decode cc pc = .ok (.iastore, 1)) (kk : ∀ (H1 : Heap) (locs1 : List Loc), bX D A h d (ttU σ 8 j x) s H1 locs1 → W p l e R s m args below meth c H1 locs1 cells slots Q (F0 m (pc + 1) ls rest)) : W p l e R s m args below meth c H locs cells slots Q (F0 m pc ls (.int x :: .int (nI j) :: .ref (h 8) :: rest)) := by
  refine x_ast_8 S hI (vp_in_nI hj (by decide)) hdg ?_
  rw [nI_clamp (Nat.lt_trans hj (by decide))]
  exact kk
theorem x_get_9 (S : CallFix p m c cc nL s args lw_all RX0) (hI : bX D A h d σ s H locs) (hdg : decode cc pc = .ok (.getfield 35, 3)) (kk : W p l e R s m args below meth c H locs cells slots Q (F0 m (pc + 3) ls (.ref (h 9) :: rest))) : W p l e R s m args below meth c H locs cells slots Q (F0 m pc ls (.ref (h 0) :: rest)) := va_get (D := D) (ci := 0) (v := .ref (h 9)) (C := RX0) (T := TX0) (N := 19) S.1 S.2.1 S.2.2.2.2 in_X0 S.2.2.2.1 hI.1 hI.2.1 0 rfl rfl 9 (by decide) (S.2.2.2.2 _ q50) (fun _ h9 => h9) rfl hdg kk
theorem x_ald_9 (S : CallFix p m c cc nL s args lw_all RX0) (hI : bX D A h d σ s H locs) {i : Int32} (hin : vp_in i 24) (hdg : decode cc pc = .ok (.iaload, 1)) (kk : W p l e R s m args below meth c H locs cells slots Q (F0 m (pc + 1) ls (.int (σ 9 i.toNatClampNeg) :: rest))) : W p l e R s m args below meth c H locs cells slots Q (F0 m pc ls (.int i :: .ref (h 9) :: rest)) := va_iald S.1 S.2.1 hI.1 hI.2.1 9 8 rfl rfl hin hdg kk
theorem x_aln_9 (S : CallFix p m c cc nL s args lw_all RX0) (hI : bX D A h d σ s H locs) {j : Nat} (hj : j < 24) (hdg : decode cc pc = .ok (.iaload, 1)) (kk : W p l e R s m args below meth c H locs cells slots Q (F0 m (pc + 1) ls (.int (σ 9 j) :: rest))) : W p l e R s m args below meth c H locs cells slots Q (F0 m pc ls (.int (nI j) :: .ref (h 9) :: rest)) := by
  refine x_ald_9 S hI (vp_in_nI hj (by decide)) hdg ?_
  rw [nI_clamp (Nat.lt_trans hj (by decide))]
  exact kk
theorem x_ast_9 (S : CallFix p m c cc nL s args lw_all RX0) (hI : bX D A h d σ s H locs) {i x : Int32} (hin : vp_in i 24) (hdg : decode cc pc = .ok (.iastore, 1)) (kk : ∀ (H1 : Heap) (locs1 : List Loc), bX D A h d (ttU σ 9 i.toNatClampNeg x) s H1 locs1 → W p l e R s m args below meth c H1 locs1 cells slots Q (F0 m (pc + 1) ls rest)) : W p l e R s m args below meth c H locs cells slots Q (F0 m pc ls (.int x :: .int i :: .ref (h 9) :: rest)) := va_iast S.1 S.2.1 hI.1 hI.2.1 hI.2.2.1 hI.2.2.2 9 8 rfl rfl hin hdg (fun H1 locs1 hP hD hS => kk H1 locs1 ⟨hI.1, hP, hD, hS⟩)
theorem x_asn_9 (S : CallFix p m c cc nL s args lw_all RX0) (hI : bX D A h d σ s H locs) {j : Nat} {x : Int32} (hj : j < 24) (hdg : decode cc pc = .ok (.iastore, 1)) (kk : ∀ (H1 : Heap) (locs1 : List Loc), bX D A h d (ttU σ 9 j x) s H1 locs1 → W p l e R s m args below meth c H1 locs1 cells slots Q (F0 m (pc + 1) ls rest)) : W p l e R s m args below meth c H locs cells slots Q (F0 m pc ls (.int x :: .int (nI j) :: .ref (h 9) :: rest)) := by
  refine x_ast_9 S hI (vp_in_nI hj (by decide)) hdg ?_
  rw [nI_clamp (Nat.lt_trans hj (by decide))]
  exact kk
theorem x_get_10 (S : CallFix p m c cc nL s args lw_all RX0) (hI : bX D A h d σ s H locs) (hdg : decode cc pc = .ok (.getfield 38, 3)) (kk : W p l e R s m args below meth c H locs cells slots Q (F0 m (pc + 3) ls (.ref (h 10) :: rest))) : W p l e R s m args below meth c H locs cells slots Q (F0 m pc ls (.ref (h 0) :: rest)) := va_get (D := D) (ci := 0) (v := .ref (h 10)) (C := RX0) (T := TX0) (N := 19) S.1 S.2.1 S.2.2.2.2 in_X0 S.2.2.2.1 hI.1 hI.2.1 0 rfl rfl 10 (by decide) (S.2.2.2.2 _ q51) (fun _ h9 => h9) rfl hdg kk
theorem x_ald_10 (S : CallFix p m c cc nL s args lw_all RX0) (hI : bX D A h d σ s H locs) {i : Int32} (hin : vp_in i 24) (hdg : decode cc pc = .ok (.baload, 1)) (kk : W p l e R s m args below meth c H locs cells slots Q (F0 m (pc + 1) ls (.int (σ 10 i.toNatClampNeg) :: rest))) : W p l e R s m args below meth c H locs cells slots Q (F0 m pc ls (.int i :: .ref (h 10) :: rest)) := va_zald S.1 S.2.1 hI.1 hI.2.1 10 9 rfl rfl hin hdg kk
theorem x_aln_10 (S : CallFix p m c cc nL s args lw_all RX0) (hI : bX D A h d σ s H locs) {j : Nat} (hj : j < 24) (hdg : decode cc pc = .ok (.baload, 1)) (kk : W p l e R s m args below meth c H locs cells slots Q (F0 m (pc + 1) ls (.int (σ 10 j) :: rest))) : W p l e R s m args below meth c H locs cells slots Q (F0 m pc ls (.int (nI j) :: .ref (h 10) :: rest)) := by
  refine x_ald_10 S hI (vp_in_nI hj (by decide)) hdg ?_
  rw [nI_clamp (Nat.lt_trans hj (by decide))]
  exact kk
theorem x_ast_10 (S : CallFix p m c cc nL s args lw_all RX0) (hI : bX D A h d σ s H locs) {i x : Int32} (hin : vp_in i 24) (hz : vp_nar .boolean x = x) (hdg : decode cc pc = .ok (.bastore, 1)) (kk : ∀ (H1 : Heap) (locs1 : List Loc), bX D A h d (ttU σ 10 i.toNatClampNeg x) s H1 locs1 → W p l e R s m args below meth c H1 locs1 cells slots Q (F0 m (pc + 1) ls rest)) : W p l e R s m args below meth c H locs cells slots Q (F0 m pc ls (.int x :: .int i :: .ref (h 10) :: rest)) := by
  refine va_zast S.1 S.2.1 hI.1 hI.2.1 hI.2.2.1 hI.2.2.2 10 9 rfl rfl hin hdg (fun H1 locs1 hP hD hS => ?_)
  rw [hz] at hP hD
  exact kk H1 locs1 ⟨hI.1, hP, hD, hS⟩
theorem x_asn_10 (S : CallFix p m c cc nL s args lw_all RX0) (hI : bX D A h d σ s H locs) {j : Nat} {x : Int32} (hj : j < 24) (hz : vp_nar .boolean x = x) (hdg : decode cc pc = .ok (.bastore, 1)) (kk : ∀ (H1 : Heap) (locs1 : List Loc), bX D A h d (ttU σ 10 j x) s H1 locs1 → W p l e R s m args below meth c H1 locs1 cells slots Q (F0 m (pc + 1) ls rest)) : W p l e R s m args below meth c H locs cells slots Q (F0 m pc ls (.int x :: .int (nI j) :: .ref (h 10) :: rest)) := by
  refine x_ast_10 S hI (vp_in_nI hj (by decide)) hz hdg ?_
  rw [nI_clamp (Nat.lt_trans hj (by decide))]
  exact kk
theorem x_get_11 (S : CallFix p m c cc nL s args lw_all RX0) (hI : bX D A h d σ s H locs) (hdg : decode cc pc = .ok (.getfield 41, 3)) (kk : W p l e R s m args below meth c H locs cells slots Q (F0 m (pc + 3) ls (.ref (h 11) :: rest))) : W p l e R s m args below meth c H locs cells slots Q (F0 m pc ls (.ref (h 0) :: rest)) := va_get (D := D) (ci := 0) (v := .ref (h 11)) (C := RX0) (T := TX0) (N := 19) S.1 S.2.1 S.2.2.2.2 in_X0 S.2.2.2.1 hI.1 hI.2.1 0 rfl rfl 11 (by decide) (S.2.2.2.2 _ q52) (fun _ h9 => h9) rfl hdg kk
theorem x_ald_11 (S : CallFix p m c cc nL s args lw_all RX0) (hI : bX D A h d σ s H locs) {i : Int32} (hin : vp_in i 24) (hdg : decode cc pc = .ok (.iaload, 1)) (kk : W p l e R s m args below meth c H locs cells slots Q (F0 m (pc + 1) ls (.int (σ 11 i.toNatClampNeg) :: rest))) : W p l e R s m args below meth c H locs cells slots Q (F0 m pc ls (.int i :: .ref (h 11) :: rest)) := va_iald S.1 S.2.1 hI.1 hI.2.1 11 10 rfl rfl hin hdg kk
theorem x_aln_11 (S : CallFix p m c cc nL s args lw_all RX0) (hI : bX D A h d σ s H locs) {j : Nat} (hj : j < 24) (hdg : decode cc pc = .ok (.iaload, 1)) (kk : W p l e R s m args below meth c H locs cells slots Q (F0 m (pc + 1) ls (.int (σ 11 j) :: rest))) : W p l e R s m args below meth c H locs cells slots Q (F0 m pc ls (.int (nI j) :: .ref (h 11) :: rest)) := by
  refine x_ald_11 S hI (vp_in_nI hj (by decide)) hdg ?_
  rw [nI_clamp (Nat.lt_trans hj (by decide))]
  exact kk
theorem x_ast_11 (S : CallFix p m c cc nL s args lw_all RX0) (hI : bX D A h d σ s H locs) {i x : Int32} (hin : vp_in i 24) (hdg : decode cc pc = .ok (.iastore, 1)) (kk : ∀ (H1 : Heap) (locs1 : List Loc), bX D A h d (ttU σ 11 i.toNatClampNeg x) s H1 locs1 → W p l e R s m args below meth c H1 locs1 cells slots Q (F0 m (pc + 1) ls rest)) : W p l e R s m args below meth c H locs cells slots Q (F0 m pc ls (.int x :: .int i :: .ref (h 11) :: rest)) := va_iast S.1 S.2.1 hI.1 hI.2.1 hI.2.2.1 hI.2.2.2 11 10 rfl rfl hin hdg (fun H1 locs1 hP hD hS => kk H1 locs1 ⟨hI.1, hP, hD, hS⟩)
theorem x_asn_11 (S : CallFix p m c cc nL s args lw_all RX0) (hI : bX D A h d σ s H locs) {j : Nat} {x : Int32} (hj : j < 24) (hdg : decode cc pc = .ok (.iastore, 1)) (kk : ∀ (H1 : Heap) (locs1 : List Loc), bX D A h d (ttU σ 11 j x) s H1 locs1 → W p l e R s m args below meth c H1 locs1 cells slots Q (F0 m (pc + 1) ls rest)) : W p l e R s m args below meth c H locs cells slots Q (F0 m pc ls (.int x :: .int (nI j) :: .ref (h 11) :: rest)) := by
  refine x_ast_11 S hI (vp_in_nI hj (by decide)) hdg ?_
  rw [nI_clamp (Nat.lt_trans hj (by decide))]
  exact kk
theorem x_get_12 (S : CallFix p m c cc nL s args lw_all RX0) (hI : bX D A h d σ s H locs) (hdg : decode cc pc = .ok (.getfield 44, 3)) (kk : W p l e R s m args below meth c H locs cells slots Q (F0 m (pc + 3) ls (.ref (h 12) :: rest))) : W p l e R s m args below meth c H locs cells slots Q (F0 m pc ls (.ref (h 0) :: rest)) := va_get (D := D) (ci := 0) (v := .ref (h 12)) (C := RX0) (T := TX0) (N := 19) S.1 S.2.1 S.2.2.2.2 in_X0 S.2.2.2.1 hI.1 hI.2.1 0 rfl rfl 12 (by decide) (S.2.2.2.2 _ q53) (fun _ h9 => h9) rfl hdg kk
theorem x_ald_12 (S : CallFix p m c cc nL s args lw_all RX0) (hI : bX D A h d σ s H locs) {i : Int32} (hin : vp_in i 96) (hdg : decode cc pc = .ok (.iaload, 1)) (kk : W p l e R s m args below meth c H locs cells slots Q (F0 m (pc + 1) ls (.int (σ 12 i.toNatClampNeg) :: rest))) : W p l e R s m args below meth c H locs cells slots Q (F0 m pc ls (.int i :: .ref (h 12) :: rest)) := va_iald S.1 S.2.1 hI.1 hI.2.1 12 11 rfl rfl hin hdg kk
theorem x_aln_12 (S : CallFix p m c cc nL s args lw_all RX0) (hI : bX D A h d σ s H locs) {j : Nat} (hj : j < 96) (hdg : decode cc pc = .ok (.iaload, 1)) (kk : W p l e R s m args below meth c H locs cells slots Q (F0 m (pc + 1) ls (.int (σ 12 j) :: rest))) : W p l e R s m args below meth c H locs cells slots Q (F0 m pc ls (.int (nI j) :: .ref (h 12) :: rest)) := by
  refine x_ald_12 S hI (vp_in_nI hj (by decide)) hdg ?_
  rw [nI_clamp (Nat.lt_trans hj (by decide))]
  exact kk
theorem x_ast_12 (S : CallFix p m c cc nL s args lw_all RX0) (hI : bX D A h d σ s H locs) {i x : Int32} (hin : vp_in i 96) (hdg : decode cc pc = .ok (.iastore, 1)) (kk : ∀ (H1 : Heap) (locs1 : List Loc), bX D A h d (ttU σ 12 i.toNatClampNeg x) s H1 locs1 → W p l e R s m args below meth c H1 locs1 cells slots Q (F0 m (pc + 1) ls rest)) : W p l e R s m args below meth c H locs cells slots Q (F0 m pc ls (.int x :: .int i :: .ref (h 12) :: rest)) := va_iast S.1 S.2.1 hI.1 hI.2.1 hI.2.2.1 hI.2.2.2 12 11 rfl rfl hin hdg (fun H1 locs1 hP hD hS => kk H1 locs1 ⟨hI.1, hP, hD, hS⟩)
theorem x_asn_12 (S : CallFix p m c cc nL s args lw_all RX0) (hI : bX D A h d σ s H locs) {j : Nat} {x : Int32} (hj : j < 96) (hdg : decode cc pc = .ok (.iastore, 1)) (kk : ∀ (H1 : Heap) (locs1 : List Loc), bX D A h d (ttU σ 12 j x) s H1 locs1 → W p l e R s m args below meth c H1 locs1 cells slots Q (F0 m (pc + 1) ls rest)) : W p l e R s m args below meth c H locs cells slots Q (F0 m pc ls (.int x :: .int (nI j) :: .ref (h 12) :: rest)) := by
  refine x_ast_12 S hI (vp_in_nI hj (by decide)) hdg ?_
  rw [nI_clamp (Nat.lt_trans hj (by decide))]
  exact kk
theorem x_get_13 (S : CallFix p m c cc nL s args lw_all RX0) (hI : bX D A h d σ s H locs) (hdg : decode cc pc = .ok (.getfield 47, 3)) (kk : W p l e R s m args below meth c H locs cells slots Q (F0 m (pc + 3) ls (.ref (h 13) :: rest))) : W p l e R s m args below meth c H locs cells slots Q (F0 m pc ls (.ref (h 0) :: rest)) := va_get (D := D) (ci := 0) (v := .ref (h 13)) (C := RX0) (T := TX0) (N := 19) S.1 S.2.1 S.2.2.2.2 in_X0 S.2.2.2.1 hI.1 hI.2.1 0 rfl rfl 13 (by decide) (S.2.2.2.2 _ q54) (fun _ h9 => h9) rfl hdg kk
theorem x_ald_13 (S : CallFix p m c cc nL s args lw_all RX0) (hI : bX D A h d σ s H locs) {i : Int32} (hin : vp_in i 24) (hdg : decode cc pc = .ok (.iaload, 1)) (kk : W p l e R s m args below meth c H locs cells slots Q (F0 m (pc + 1) ls (.int (σ 13 i.toNatClampNeg) :: rest))) : W p l e R s m args below meth c H locs cells slots Q (F0 m pc ls (.int i :: .ref (h 13) :: rest)) := va_iald S.1 S.2.1 hI.1 hI.2.1 13 12 rfl rfl hin hdg kk
theorem x_aln_13 (S : CallFix p m c cc nL s args lw_all RX0) (hI : bX D A h d σ s H locs) {j : Nat} (hj : j < 24) (hdg : decode cc pc = .ok (.iaload, 1)) (kk : W p l e R s m args below meth c H locs cells slots Q (F0 m (pc + 1) ls (.int (σ 13 j) :: rest))) : W p l e R s m args below meth c H locs cells slots Q (F0 m pc ls (.int (nI j) :: .ref (h 13) :: rest)) := by
  refine x_ald_13 S hI (vp_in_nI hj (by decide)) hdg ?_
  rw [nI_clamp (Nat.lt_trans hj (by decide))]
  exact kk
theorem x_ast_13 (S : CallFix p m c cc nL s args lw_all RX0) (hI : bX D A h d σ s H locs) {i x : Int32} (hin : vp_in i 24) (hdg : decode cc pc = .ok (.iastore, 1)) (kk : ∀ (H1 : Heap) (locs1 : List Loc), bX D A h d (ttU σ 13 i.toNatClampNeg x) s H1 locs1 → W p l e R s m args below meth c H1 locs1 cells slots Q (F0 m (pc + 1) ls rest)) : W p l e R s m args below meth c H locs cells slots Q (F0 m pc ls (.int x :: .int i :: .ref (h 13) :: rest)) := va_iast S.1 S.2.1 hI.1 hI.2.1 hI.2.2.1 hI.2.2.2 13 12 rfl rfl hin hdg (fun H1 locs1 hP hD hS => kk H1 locs1 ⟨hI.1, hP, hD, hS⟩)
theorem x_asn_13 (S : CallFix p m c cc nL s args lw_all RX0) (hI : bX D A h d σ s H locs) {j : Nat} {x : Int32} (hj : j < 24) (hdg : decode cc pc = .ok (.iastore, 1)) (kk : ∀ (H1 : Heap) (locs1 : List Loc), bX D A h d (ttU σ 13 j x) s H1 locs1 → W p l e R s m args below meth c H1 locs1 cells slots Q (F0 m (pc + 1) ls rest)) : W p l e R s m args below meth c H locs cells slots Q (F0 m pc ls (.int x :: .int (nI j) :: .ref (h 13) :: rest)) := by
  refine x_ast_13 S hI (vp_in_nI hj (by decide)) hdg ?_
  rw [nI_clamp (Nat.lt_trans hj (by decide))]
  exact kk
theorem x_get_14 (S : CallFix p m c cc nL s args lw_all RX0) (hI : bX D A h d σ s H locs) (hdg : decode cc pc = .ok (.getfield 81, 3)) (kk : W p l e R s m args below meth c H locs cells slots Q (F0 m (pc + 3) ls (.int (σ 14 0) :: rest))) : W p l e R s m args below meth c H locs cells slots Q (F0 m pc ls (.ref (h 0) :: rest)) := va_get (D := D) (ci := 0) (v := .int (σ 14 0)) (C := RX0) (T := TX0) (N := 19) S.1 S.2.1 S.2.2.2.2 in_X0 S.2.2.2.1 hI.1 hI.2.1 0 rfl rfl 14 (by decide) (S.2.2.2.2 _ q55) (fun _ h9 => h9) rfl hdg kk
theorem x_put_14 (S : CallFix p m c cc nL s args lw_all RX0) (hI : bX D A h d σ s H locs) {v : Int32} (hdg : decode cc pc = .ok (.putfield 81, 3)) (kk : ∀ (H1 : Heap) (locs1 : List Loc), bX D A h d (ttU σ 14 0 v) s H1 locs1 → W p l e R s m args below meth c H1 locs1 cells slots Q (F0 m (pc + 3) ls rest)) : W p l e R s m args below meth c H locs cells slots Q (F0 m pc ls (.int v :: .ref (h 0) :: rest)) := va_put (D := D) (ci := 0) (v := .int v) (ty := .int) (C := RX0) (T := TX0) (N := 19) S.1 S.2.1 S.2.2.2.2 in_X0 tyX0 tyX0_ok nmX0 S.2.2.2.1 hI.1 hI.2.1 hI.2.2.1 hI.2.2.2 0 rfl rfl 14 (by decide) (S.2.2.2.2 _ q55) (fun _ h9 => h9) rfl (by decide +kernel) rfl rfl (Nat.le_of_ble_eq_true rfl) hdg (fun H1 locs1 hP hD hS => kk H1 locs1 ⟨hI.1, hP, hD, hS⟩)
theorem x_get_15 (S : CallFix p m c cc nL s args lw_all RX0) (hI : bX D A h d σ s H locs) (hdg : decode cc pc = .ok (.getfield 50, 3)) (kk : W p l e R s m args below meth c H locs cells slots Q (F0 m (pc + 3) ls (.ref (h 15) :: rest))) : W p l e R s m args below meth c H locs cells slots Q (F0 m pc ls (.ref (h 0) :: rest)) := va_get (D := D) (ci := 0) (v := .ref (h 15)) (C := RX0) (T := TX0) (N := 19) S.1 S.2.1 S.2.2.2.2 in_X0 S.2.2.2.1 hI.1 hI.2.1 0 rfl rfl 15 (by decide) (S.2.2.2.2 _ q56) (fun _ h9 => h9) rfl hdg kk
theorem x_ald_15 (S : CallFix p m c cc nL s args lw_all RX0) (hI : bX D A h d σ s H locs) {i : Int32} (hin : vp_in i 24) (hdg : decode cc pc = .ok (.baload, 1)) (kk : W p l e R s m args below meth c H locs cells slots Q (F0 m (pc + 1) ls (.int (σ 15 i.toNatClampNeg) :: rest))) : W p l e R s m args below meth c H locs cells slots Q (F0 m pc ls (.int i :: .ref (h 15) :: rest)) := va_zald S.1 S.2.1 hI.1 hI.2.1 14 13 rfl rfl hin hdg kk
theorem x_aln_15 (S : CallFix p m c cc nL s args lw_all RX0) (hI : bX D A h d σ s H locs) {j : Nat} (hj : j < 24) (hdg : decode cc pc = .ok (.baload, 1)) (kk : W p l e R s m args below meth c H locs cells slots Q (F0 m (pc + 1) ls (.int (σ 15 j) :: rest))) : W p l e R s m args below meth c H locs cells slots Q (F0 m pc ls (.int (nI j) :: .ref (h 15) :: rest)) := by
  refine x_ald_15 S hI (vp_in_nI hj (by decide)) hdg ?_
  rw [nI_clamp (Nat.lt_trans hj (by decide))]
  exact kk
theorem x_ast_15 (S : CallFix p m c cc nL s args lw_all RX0) (hI : bX D A h d σ s H locs) {i x : Int32} (hin : vp_in i 24) (hz : vp_nar .boolean x = x) (hdg : decode cc pc = .ok (.bastore, 1)) (kk : ∀ (H1 : Heap) (locs1 : List Loc), bX D A h d (ttU σ 15 i.toNatClampNeg x) s H1 locs1 → W p l e R s m args below meth c H1 locs1 cells slots Q (F0 m (pc + 1) ls rest)) : W p l e R s m args below meth c H locs cells slots Q (F0 m pc ls (.int x :: .int i :: .ref (h 15) :: rest)) := by
  refine va_zast S.1 S.2.1 hI.1 hI.2.1 hI.2.2.1 hI.2.2.2 14 13 rfl rfl hin hdg (fun H1 locs1 hP hD hS => ?_)
  rw [hz] at hP hD
  exact kk H1 locs1 ⟨hI.1, hP, hD, hS⟩
theorem x_asn_15 (S : CallFix p m c cc nL s args lw_all RX0) (hI : bX D A h d σ s H locs) {j : Nat} {x : Int32} (hj : j < 24) (hz : vp_nar .boolean x = x) (hdg : decode cc pc = .ok (.bastore, 1)) (kk : ∀ (H1 : Heap) (locs1 : List Loc), bX D A h d (ttU σ 15 j x) s H1 locs1 → W p l e R s m args below meth c H1 locs1 cells slots Q (F0 m (pc + 1) ls rest)) : W p l e R s m args below meth c H locs cells slots Q (F0 m pc ls (.int x :: .int (nI j) :: .ref (h 15) :: rest)) := by
  refine x_ast_15 S hI (vp_in_nI hj (by decide)) hz hdg ?_
  rw [nI_clamp (Nat.lt_trans hj (by decide))]
  exact kk
theorem x_get_16 (S : CallFix p m c cc nL s args lw_all RX0) (hI : bX D A h d σ s H locs) (hdg : decode cc pc = .ok (.getfield 91, 3)) (kk : W p l e R s m args below meth c H locs cells slots Q (F0 m (pc + 3) ls (.int (σ 16 0) :: rest))) : W p l e R s m args below meth c H locs cells slots Q (F0 m pc ls (.ref (h 0) :: rest)) := va_get (D := D) (ci := 0) (v := .int (σ 16 0)) (C := RX0) (T := TX0) (N := 19) S.1 S.2.1 S.2.2.2.2 in_X0 S.2.2.2.1 hI.1 hI.2.1 0 rfl rfl 16 (by decide) (S.2.2.2.2 _ q57) (fun _ h9 => h9) rfl hdg kk
theorem x_put_16 (S : CallFix p m c cc nL s args lw_all RX0) (hI : bX D A h d σ s H locs) {v : Int32} (hdg : decode cc pc = .ok (.putfield 91, 3)) (kk : ∀ (H1 : Heap) (locs1 : List Loc), bX D A h d (ttU σ 16 0 v) s H1 locs1 → W p l e R s m args below meth c H1 locs1 cells slots Q (F0 m (pc + 3) ls rest)) : W p l e R s m args below meth c H locs cells slots Q (F0 m pc ls (.int v :: .ref (h 0) :: rest)) := va_put (D := D) (ci := 0) (v := .int v) (ty := .int) (C := RX0) (T := TX0) (N := 19) S.1 S.2.1 S.2.2.2.2 in_X0 tyX0 tyX0_ok nmX0 S.2.2.2.1 hI.1 hI.2.1 hI.2.2.1 hI.2.2.2 0 rfl rfl 16 (by decide) (S.2.2.2.2 _ q57) (fun _ h9 => h9) rfl (by decide +kernel) rfl rfl (Nat.le_of_ble_eq_true rfl) hdg (fun H1 locs1 hP hD hS => kk H1 locs1 ⟨hI.1, hP, hD, hS⟩)
theorem x_get_17 (S : CallFix p m c cc nL s args lw_all RX0) (hI : bX D A h d σ s H locs) (hdg : decode cc pc = .ok (.getfield 53, 3)) (kk : W p l e R s m args below meth c H locs cells slots Q (F0 m (pc + 3) ls (.ref (h 17) :: rest))) : W p l e R s m args below meth c H locs cells slots Q (F0 m pc ls (.ref (h 0) :: rest)) := va_get (D := D) (ci := 0) (v := .ref (h 17)) (C := RX0) (T := TX0) (N := 19) S.1 S.2.1 S.2.2.2.2 in_X0 S.2.2.2.1 hI.1 hI.2.1 0 rfl rfl 17 (by decide) (S.2.2.2.2 _ q58) (fun _ h9 => h9) rfl hdg kk
theorem x_ald_17 (S : CallFix p m c cc nL s args lw_all RX0) (hI : bX D A h d σ s H locs) {i : Int32} (hin : vp_in i 24) (hdg : decode cc pc = .ok (.iaload, 1)) (kk : W p l e R s m args below meth c H locs cells slots Q (F0 m (pc + 1) ls (.int (σ 17 i.toNatClampNeg) :: rest))) : W p l e R s m args below meth c H locs cells slots Q (F0 m pc ls (.int i :: .ref (h 17) :: rest)) := va_iald S.1 S.2.1 hI.1 hI.2.1 15 14 rfl rfl hin hdg kk
theorem x_aln_17 (S : CallFix p m c cc nL s args lw_all RX0) (hI : bX D A h d σ s H locs) {j : Nat} (hj : j < 24) (hdg : decode cc pc = .ok (.iaload, 1)) (kk : W p l e R s m args below meth c H locs cells slots Q (F0 m (pc + 1) ls (.int (σ 17 j) :: rest))) : W p l e R s m args below meth c H locs cells slots Q (F0 m pc ls (.int (nI j) :: .ref (h 17) :: rest)) := by
  refine x_ald_17 S hI (vp_in_nI hj (by decide)) hdg ?_
  rw [nI_clamp (Nat.lt_trans hj (by decide))]
  exact kk
theorem x_ast_17 (S : CallFix p m c cc nL s args lw_all RX0) (hI : bX D A h d σ s H locs) {i x : Int32} (hin : vp_in i 24) (hdg : decode cc pc = .ok (.iastore, 1)) (kk : ∀ (H1 : Heap) (locs1 : List Loc), bX D A h d (ttU σ 17 i.toNatClampNeg x) s H1 locs1 → W p l e R s m args below meth c H1 locs1 cells slots Q (F0 m (pc + 1) ls rest)) : W p l e R s m args below meth c H locs cells slots Q (F0 m pc ls (.int x :: .int i :: .ref (h 17) :: rest)) := va_iast S.1 S.2.1 hI.1 hI.2.1 hI.2.2.1 hI.2.2.2 15 14 rfl rfl hin hdg (fun H1 locs1 hP hD hS => kk H1 locs1 ⟨hI.1, hP, hD, hS⟩)
theorem x_asn_17 (S : CallFix p m c cc nL s args lw_all RX0) (hI : bX D A h d σ s H locs) {j : Nat} {x : Int32} (hj : j < 24) (hdg : decode cc pc = .ok (.iastore, 1)) (kk : ∀ (H1 : Heap) (locs1 : List Loc), bX D A h d (ttU σ 17 j x) s H1 locs1 → W p l e R s m args below meth c H1 locs1 cells slots Q (F0 m (pc + 1) ls rest)) : W p l e R s m args below meth c H locs cells slots Q (F0 m pc ls (.int x :: .int (nI j) :: .ref (h 17) :: rest)) := by
  refine x_ast_17 S hI (vp_in_nI hj (by decide)) hdg ?_
  rw [nI_clamp (Nat.lt_trans hj (by decide))]
  exact kk
theorem x_get_18 (S : CallFix p m c cc nL s args lw_all RX0) (hI : bX D A h d σ s H locs) (hdg : decode cc pc = .ok (.getfield 84, 3)) (kk : W p l e R s m args below meth c H locs cells slots Q (F0 m (pc + 3) ls (.int (σ 18 0) :: rest))) : W p l e R s m args below meth c H locs cells slots Q (F0 m pc ls (.ref (h 0) :: rest)) := va_get (D := D) (ci := 0) (v := .int (σ 18 0)) (C := RX0) (T := TX0) (N := 19) S.1 S.2.1 S.2.2.2.2 in_X0 S.2.2.2.1 hI.1 hI.2.1 0 rfl rfl 18 (by decide) (S.2.2.2.2 _ q59) (fun _ h9 => h9) rfl hdg kk
theorem x_put_18 (S : CallFix p m c cc nL s args lw_all RX0) (hI : bX D A h d σ s H locs) {v : Int32} (hdg : decode cc pc = .ok (.putfield 84, 3)) (kk : ∀ (H1 : Heap) (locs1 : List Loc), bX D A h d (ttU σ 18 0 v) s H1 locs1 → W p l e R s m args below meth c H1 locs1 cells slots Q (F0 m (pc + 3) ls rest)) : W p l e R s m args below meth c H locs cells slots Q (F0 m pc ls (.int v :: .ref (h 0) :: rest)) := va_put (D := D) (ci := 0) (v := .int v) (ty := .int) (C := RX0) (T := TX0) (N := 19) S.1 S.2.1 S.2.2.2.2 in_X0 tyX0 tyX0_ok nmX0 S.2.2.2.1 hI.1 hI.2.1 hI.2.2.1 hI.2.2.2 0 rfl rfl 18 (by decide) (S.2.2.2.2 _ q59) (fun _ h9 => h9) rfl (by decide +kernel) rfl rfl (Nat.le_of_ble_eq_true rfl) hdg (fun H1 locs1 hP hD hS => kk H1 locs1 ⟨hI.1, hP, hD, hS⟩)
theorem x_iret (S : CallFix p m c cc nL s args lw_all RX0) (hI : bX D A h d σ s H locs) {v rv : Int32} {σ' : ttS} (hr : meth.sig.returnType = some .int) (hk : meth.locks = false) (hv : v = rv) (hs : σ = σ') (hdg : decode cc pc = .ok (.ireturn, 1)) : W p l e R s m args below meth c H locs 0 0 (xQi below D h d A args s rv σ') (F0 m pc ls [.int v]) := by
  subst hv
  subst hs
  exact W.iret (v := v) S.1 S.2.1 hr (fun t ht hW => ⟨⟨v, σ, rfl, ⟨rfl, rfl⟩, by rw [ht]; exact hI.2.1, va_K.moved hW.alike hI.1, hI.2.2.1⟩, hI.2.2.2.F ht⟩) hI.2.2.2.2.2 hdg hk
theorem x_zret (S : CallFix p m c cc nL s args lw_all RX0) (hI : bX D A h d σ s H locs) {v rv : Int32} {σ' : ttS} (hr : meth.sig.returnType = some .boolean) (hk : meth.locks = false) (hn : narrow .boolean (.int v) = .int v) (hv : v = rv) (hs : σ = σ') (hdg : decode cc pc = .ok (.ireturn, 1)) : W p l e R s m args below meth c H locs 0 0 (xQi below D h d A args s rv σ') (F0 m pc ls [.int v]) := by
  subst hv
  subst hs
  exact W.zret (v := v) S.1 S.2.1 hr hn (fun t ht hW => ⟨⟨v, σ, rfl, ⟨rfl, rfl⟩, by rw [ht]; exact hI.2.1, va_K.moved hW.alike hI.1, hI.2.2.1⟩, hI.2.2.2.F ht⟩) hI.2.2.2.2.2 hdg hk
theorem x_vret (S : CallFix p m c cc nL s args lw_all RX0) (hI : bX D A h d σ s H locs) {σ' : ttS} (hr : meth.sig.returnType = none) (hk : meth.locks = false) (hs : σ = σ') (hdg : decode cc pc = .ok (.return_, 1)) : W p l e R s m args below meth c H locs 0 0 (xQv below D h d A args s σ') (F0 m pc ls []) := by
  subst hs
  exact W.vret S.1 S.2.1 hr (fun t ht hW => ⟨⟨σ, rfl, rfl, by rw [ht]; exact hI.2.1, va_K.moved hW.alike hI.1, hI.2.2.1⟩, hI.2.2.2.F ht⟩) hI.2.2.2.2.2 hdg hk
theorem x_calli (S : CallFix p m c cc nL s args lw_all RX0) (hI : bX D A h d σ s H locs) (hA : ∀ q : Nat, s.heap.size ≤ q → A q) {y : MethodName} {cc' : ByteArray} {L' : Nat} {rm : Room} (as : List Value) {σ' : ttS} {rv : Int32} {ret : Option FieldType} (hM : MX l y cc' L' ret rm as σ rv σ') {idx n : Nat} (hw : GoodIn lw_all (wsV RX0 idx RX0 y (ws_ y cc' L' ret))) (hrc : rm.cells = 0) (hrs : rm.slots = 0) (hd : y.cls = RX0 ∧ y.cls ≠ "java/lang/invoke/MethodHandle" ∧ y.cls ≠ "java/lang/invoke/VarHandle" ∧ (parseMethodDescriptor y.desc).map (fun d => d.parameters.length) = some n) (hR : rm.frames + 1 ≤ R.frames ∧ 8 + (L' + 11) + rm.locals ≤ R.locals) (hn : as.length = n) (hls : ls.size = nL) {st : List Value} (hst : st = as.reverse ++ .ref (h 0) :: rest) (hW : (rest.map fun v => v.category).sum ≤ 8) (hdg : decode cc pc = .ok (.invokevirtual idx, 3)) (hf : cells ≤ R.cells ∧ slots ≤ R.slots) (kk : ∀ (H1 : Heap) (locs1 : List Loc), bX D A h d σ' s H1 locs1 → W p l e R s m args below meth c H1 locs1 cells slots Q (F0 m (pc + 3) ls (.int rv :: rest))) : W p l e R s m args below meth c H locs cells slots Q (F0 m pc ls st) := by
  subst hst
  obtain ⟨hK, hP, hD, hS⟩ := hI
  have hFc := va_free (wc := cX h d σ) hD hS hA [0, 1, 2, 3, 4, 5, 6, 7, 8, 9, 10, 11, 12, 13, 14, 15] rfl
  refine va_calli (va_runV (As := as) (rest := rest) S (hM D h d H.size) (cwV n S.2.2.2.2 hw rfl hrc hrs hd hR) ⟨fun a U g mk q => by obtain ⟨q0, q1, qP, qK, qD⟩ := q; exact ⟨q0, q1, qP, va_K.moved (u := U) (U := U.calling g mk a) (Vm.Alike.refl U.vm) qK, qD⟩, va_recv hK hP (ci := 0) (q0 := 0) rfl rfl, fun U hU hW => ⟨rfl, by rw [hU], by rw [hU]; exact hP, va_K.moved hW.alike hK, hD.weaken (fun _ _ _ _ => trivial)⟩⟩ rfl hn hls rfl (lv_room hW) hdg hf) hS (fun q _ h => hFc q h) hFc (fun r u t H1 locs1 ht hvm hw1 hB hz1 hk1 hS1 => ?_)
  obtain ⟨rfl, rfl⟩ := hw1
  obtain ⟨hP1, hK1, hD1⟩ := hB
  rw [ht] at hP1
  exact kk H1 locs1 ⟨hK, hP1, hD1.weaken (fun _ _ _ q => hFc _ q), hS1⟩
theorem x_callv (S : CallFix p m c cc nL s args lw_all RX0) (hI : bX D A h d σ s H locs) (hA : ∀ q : Nat, s.heap.size ≤ q → A q) {y : MethodName} {cc' : ByteArray} {L' : Nat} {rm : Room} (as : List Value) {σ' : ttS}  (hM : MXv l y cc' L' rm as σ σ') {idx n : Nat} (hw : GoodIn lw_all (wsV RX0 idx RX0 y (ws_ y cc' L' none))) (hrc : rm.cells = 0) (hrs : rm.slots = 0) (hd : y.cls = RX0 ∧ y.cls ≠ "java/lang/invoke/MethodHandle" ∧ y.cls ≠ "java/lang/invoke/VarHandle" ∧ (parseMethodDescriptor y.desc).map (fun d => d.parameters.length) = some n) (hR : rm.frames + 1 ≤ R.frames ∧ 8 + (L' + 11) + rm.locals ≤ R.locals) (hn : as.length = n) (hls : ls.size = nL) {st : List Value} (hst : st = as.reverse ++ .ref (h 0) :: rest) (hW : (rest.map fun v => v.category).sum ≤ 8) (hdg : decode cc pc = .ok (.invokevirtual idx, 3)) (hf : cells ≤ R.cells ∧ slots ≤ R.slots) (kk : ∀ (H1 : Heap) (locs1 : List Loc), bX D A h d σ' s H1 locs1 → W p l e R s m args below meth c H1 locs1 cells slots Q (F0 m (pc + 3) ls rest)) : W p l e R s m args below meth c H locs cells slots Q (F0 m pc ls st) := by
  subst hst
  obtain ⟨hK, hP, hD, hS⟩ := hI
  have hFc := va_free (wc := cX h d σ) hD hS hA [0, 1, 2, 3, 4, 5, 6, 7, 8, 9, 10, 11, 12, 13, 14, 15] rfl
  refine va_callv (va_runV (As := as) (rest := rest) S (hM D h d H.size) (cwV n S.2.2.2.2 hw rfl hrc hrs hd hR) ⟨fun a U g mk q => by obtain ⟨q0, q1, qP, qK, qD⟩ := q; exact ⟨q0, q1, qP, va_K.moved (u := U) (U := U.calling g mk a) (Vm.Alike.refl U.vm) qK, qD⟩, va_recv hK hP (ci := 0) (q0 := 0) rfl rfl, fun U hU hW => ⟨rfl, by rw [hU], by rw [hU]; exact hP, va_K.moved hW.alike hK, hD.weaken (fun _ _ _ _ => trivial)⟩⟩ rfl hn hls rfl (lv_room hW) hdg hf) hS (fun q _ h => hFc q h) hFc (fun u t H1 locs1 ht hvm hw1 hB hz1 hk1 hS1 => ?_)
  subst hw1
  obtain ⟨hP1, hK1, hD1⟩ := hB
  rw [ht] at hP1
  exact kk H1 locs1 ⟨hK, hP1, hD1.weaken (fun _ _ _ q => hFc _ q), hS1⟩
/-- a static method that touches no cell: its answer -/
def MS (l : Launch) (y : MethodName) (cc : ByteArray) (L : Nat) (rm : Room) (as : List Value) (rv : Int32) : Prop := Met l y (ws_ y cc L (some .int)) rm (va_Pc as (fun _ => True)) (va_Qi (fun (r : Int32) (_ : Unit) => r = rv) (fun _ _ => True) (fun _ => False)) 0 0 (fun _ => False)
theorem x_calls (S : CallFix p m c cc nL s args lw_all RX0) (hI : bX D A h d σ s H locs) {y : MethodName} {cc' : ByteArray} {L' : Nat} {rm : Room} (as : List Value) {rv : Int32} (hM : MS l y cc' L' rm as rv) {idx n : Nat} (hw : GoodIn lw_all (va_wsS RX0 idx y (ws_ y cc' L' (some .int)))) (hrc : rm.cells = 0) (hrs : rm.slots = 0) (hd : y.cls ≠ "java/lang/invoke/MethodHandle" ∧ y.cls ≠ "java/lang/invoke/VarHandle" ∧ (parseMethodDescriptor y.desc).map (fun d => d.parameters.length) = some n) (hR : rm.frames + 1 ≤ R.frames ∧ 8 + (L' + 11) + rm.locals ≤ R.locals) (hn : as.length = n) (hls : ls.size = nL) {st : List Value} (hst : st = as.reverse ++ rest) (hW : (rest.map fun v => v.category).sum ≤ 8) (hdg : decode cc pc = .ok (.invokestatic idx, 3)) (hf : cells ≤ R.cells ∧ slots ≤ R.slots) (kk : ∀ (H1 : Heap) (locs1 : List Loc), bX D A h d σ s H1 locs1 → W p l e R s m args below meth c H1 locs1 cells slots Q (F0 m (pc + 3) ls (.int rv :: rest))) : W p l e R s m args below meth c H locs cells slots Q (F0 m pc ls st) := by
  subst hst
  obtain ⟨hK, hP, hD, hS⟩ := hI
  refine va_calli (va_runS (As := as) (rest := rest) S hM (va_cwS n S.2.2.2.2 hw rfl hrc hrs hd hR) ⟨fun a U g mk q => ⟨q.1, trivial⟩, fun U hU hW => ⟨rfl, trivial⟩⟩ rfl hn hls rfl (lv_room hW) hdg hf) hS (fun q _ h => h.elim) (fun q h => h.elim) (fun r u t H1 locs1 ht hvm hw1 hB hz1 hk1 hS1 => ?_)
  subst hw1
  exact kk H1 locs1 ⟨hK, fun k q hq => (hP k q hq).kept (hk1 q.1 (hP k q hq).lt (fun z => z.elim)), hD, hS1⟩
end
theorem x_starti {l : Launch} {y : MethodName} {cc : ByteArray} {L : Nat} {rm : Room} {as : List Value} {σ σ' : ttS} {rv : Int32} {ret : Option FieldType} (hy : plainName y.cls = true) (hcls : y.cls = RX0) (hL : ∀ h : Nat → Nat, (lg_sl (.ref (h 0) :: as)).length ≤ L) (body : ∀ (p : Program) (e : Env) (s : State) (m : MethodId) (args : Array Value) (below : List Frame) (meth : Method) (c : Code) (D : va_G) (h : Nat → Nat) (d : Nat → ClassId) (A : Nat → Prop), CallFix p m c cc L s args lw_all RX0 → meth.sig.returnType = ret → meth.locks = false → (∀ q : Nat, s.heap.size ≤ q → A q) → bX D A h d σ s s.heap [] → ∀ ls : Array Slot, lv_has ls L (lv_args 0 (.ref (h 0) :: as)) → W p l e rm s m args below meth c s.heap [] 0 0 (xQi below D h d A args s rv σ') (F0 m 0 ls [])) : MX l y cc L ret rm as σ rv σ' := by
  intro D h d sz
  refine Met.ofW (cc := cc) (maxL := L) (ret := ret) hy rfl ?_
  intro p e s m args below meth c s₁ B hml hv
  obtain ⟨rfl, hsz, hP, hK, hD0⟩ := hv
  have hts := atoms_spec (ws := ws_ y cc L ret) B.pre
  have hts : ∀ w ∈ lw_all, w.before _ s = true := fun w h => hts w (List.mem_cons_of_mem _ h)
  have hown : s.vm.findClass RX0 = some m.cls := hcls ▸ findClass_of_methodNamed B.named
  subst hsz
  have hD := hD0.self (sz := s.heap.size)
  generalize hAe : va_A (cX h d σ) s.heap.size = A at hD ⊢
  have hA : ∀ q : Nat, s.heap.size ≤ q → A q := fun q h => by rw [← hAe]; exact Or.inr h
  have hl := lv_entry (.ref (h 0) :: as) (n := L) (hL h)
  rw [lg_entry_eq]
  exact body p e s m _ below meth c D h d A ⟨B.exec, B.bytes, hml, hown, hts⟩ B.returns B.notSynchronized hA ⟨hK, hP, hD, va_S.rf⟩ _ hl
theorem x_startv {l : Launch} {y : MethodName} {cc : ByteArray} {L : Nat} {rm : Room} {as : List Value} {σ σ' : ttS}  (hy : plainName y.cls = true) (hcls : y.cls = RX0) (hL : ∀ h : Nat → Nat, (lg_sl (.ref (h 0) :: as)).length ≤ L) (body : ∀ (p : Program) (e : Env) (s : State) (m : MethodId) (args : Array Value) (below : List Frame) (meth : Method) (c : Code) (D : va_G) (h : Nat → Nat) (d : Nat → ClassId) (A : Nat → Prop), CallFix p m c cc L s args lw_all RX0 → meth.sig.returnType = none → meth.locks = false → (∀ q : Nat, s.heap.size ≤ q → A q) → bX D A h d σ s s.heap [] → ∀ ls : Array Slot, lv_has ls L (lv_args 0 (.ref (h 0) :: as)) → W p l e rm s m args below meth c s.heap [] 0 0 (xQv below D h d A args s σ') (F0 m 0 ls [])) : MXv l y cc L rm as σ σ' := by
  intro D h d sz
  refine Met.ofW (cc := cc) (maxL := L) (ret := none) hy rfl ?_
  intro p e s m args below meth c s₁ B hml hv
  obtain ⟨rfl, hsz, hP, hK, hD0⟩ := hv
  have hts := atoms_spec (ws := ws_ y cc L none) B.pre
  have hts : ∀ w ∈ lw_all, w.before _ s = true := fun w h => hts w (List.mem_cons_of_mem _ h)
  have hown : s.vm.findClass RX0 = some m.cls := hcls ▸ findClass_of_methodNamed B.named
  subst hsz
  have hD := hD0.self (sz := s.heap.size)
  generalize hAe : va_A (cX h d σ) s.heap.size = A at hD ⊢
  have hA : ∀ q : Nat, s.heap.size ≤ q → A q := fun q h => by rw [← hAe]; exact Or.inr h
  have hl := lv_entry (.ref (h 0) :: as) (n := L) (hL h)
  rw [lg_entry_eq]
  exact body p e s m _ below meth c D h d A ⟨B.exec, B.bytes, hml, hown, hts⟩ B.returns B.notSynchronized hA ⟨hK, hP, hD, va_S.rf⟩ _ hl
def oY (h : Nat → Nat) (σ : ttS) : List Value := [.int (σ 0 0), .ref (h 1), .ref (h 2), .ref (h 3), .ref (h 4), .ref (h 5), .ref (h 6), .ref (h 7), .ref (h 8), .ref (h 9), .ref (h 10)]
def cY (h : Nat → Nat) (d : Nat → ClassId) (σ : ttS) : va_W := [(h 0, .inr (1, oY h σ)), (h 1, .inl (d 1, 24, .inl (σ 1))), (h 2, .inl (d 2, 24, .inl (σ 2))), (h 3, .inl (d 3, 24, .inl (σ 3))), (h 4, .inl (d 4, 96, .inl (σ 4))), (h 5, .inl (d 5, 24, .inl (σ 5))), (h 6, .inl (d 6, 24, .inl (σ 6))), (h 7, .inl (d 7, 24, .inl (σ 7))), (h 8, .inl (d 8, 24, .inl (σ 8))), (h 9, .inl (d 9, 96, .inl (σ 9))), (h 10, .inl (d 10, 24, .inl (σ 10)))]
def tY (d : Nat → ClassId) : List (ClassId × FieldType) := [(d 1, .boolean), (d 2, .int), (d 3, .boolean), (d 4, .int), (d 5, .int), (d 6, .int), (d 7, .int), (d 8, .int), (d 9, .int), (d 10, .int)]
def bY (D : va_G) (A : Nat → Prop) (h : Nat → Nat) (d : Nat → ClassId) (σ : ttS) (s : State) (H : Heap) (locs : List Loc) : Prop := va_K D vwCl (tY d) s ∧ va_P D vwCl (cY h d σ) H ∧ va_D A (cY h d σ) ∧ va_S A s.heap H locs
def ypre (D : va_G) (h : Nat → Nat) (d : Nat → ClassId) (σ : ttS) (sz : Nat) : State → Prop := fun U => U.heap.size = sz ∧ va_P D vwCl (cY h d σ) U.heap ∧ va_K D vwCl (tY d) U ∧ va_D (fun _ => True) (cY h d σ)
def ypost (D : va_G) (h : Nat → Nat) (d : Nat → ClassId) (A : Nat → Prop) (σ : ttS) (t : State) : Prop := va_P D vwCl (cY h d σ) t.heap ∧ va_K D vwCl (tY d) t ∧ va_D A (cY h d σ)
/-- a contract of X1: with the world at σ and the arguments, the method answers rv and leaves the world at σ' -/
def MY (l : Launch) (y : MethodName) (cc : ByteArray) (L : Nat) (ret : Option FieldType) (rm : Room) (as : List Value) (σ : ttS) (rv : Int32) (σ' : ttS) : Prop := ∀ (D : va_G) (h : Nat → Nat) (d : Nat → ClassId) (sz : Nat), Met l y (ws_ y cc L ret) rm (va_Pc (.ref (h 0) :: as) (ypre D h d σ sz)) (va_Qi (fun (r : Int32) (u : ttS) => r = rv ∧ u = σ') (ypost D h d (va_A (cY h d σ) sz)) (va_A (cY h d σ) sz)) 0 0 (va_A (cY h d σ) sz)
def MYv (l : Launch) (y : MethodName) (cc : ByteArray) (L : Nat) (rm : Room) (as : List Value) (σ : ttS) (σ' : ttS) : Prop := ∀ (D : va_G) (h : Nat → Nat) (d : Nat → ClassId) (sz : Nat), Met l y (ws_ y cc L none) rm (va_Pc (.ref (h 0) :: as) (ypre D h d σ sz)) (va_Qv (fun (u : ttS) => u = σ') (ypost D h d (va_A (cY h d σ) sz)) (va_A (cY h d σ) sz)) 0 0 (va_A (cY h d σ) sz)
def yQi (below : List Frame) (D : va_G) (h : Nat → Nat) (d : Nat → ClassId) (A : Nat → Prop) (args : Array Value) (s : State) (rv : Int32) (σ' : ttS) : State → Prop := MQ below (va_Qi (fun (r : Int32) (u : ttS) => r = rv ∧ u = σ') (ypost D h d A) A) args s 0 0 A
def yQv (below : List Frame) (D : va_G) (h : Nat → Nat) (d : Nat → ClassId) (A : Nat → Prop) (args : Array Value) (s : State) (σ' : ttS) : State → Prop := MQ below (va_Qv (fun (u : ttS) => u = σ') (ypost D h d A) A) args s 0 0 A
section
variable {p : Program} {l : Launch} {e : Env} {R : Room} {s : State} {m : MethodId} {args : Array Value} {below : List Frame} {meth : Method} {c : Code} {H : Heap} {locs : List Loc} {cells slots : Nat} {Q : State → Prop}
variable {pc : Nat} {ls : Array Slot} {rest : List Value} {D : va_G} {A : Nat → Prop} {h : Nat → Nat} {d : Nat → ClassId} {σ : ttS} {cc : ByteArray} {nL : Nat}
theorem y_get_0 (S : CallFix p m c cc nL s args lw_all RX1) (hI : bY D A h d σ s H locs) (hdg : decode cc pc = .ok (.getfield 41, 3)) (kk : W p l e R s m args below meth c H locs cells slots Q (F0 m (pc + 3) ls (.int (σ 0 0) :: rest))) : W p l e R s m args below meth c H locs cells slots Q (F0 m pc ls (.ref (h 0) :: rest)) := va_get (D := D) (ci := 1) (v := .int (σ 0 0)) (C := RX1) (T := TX1) (N := 11) S.1 S.2.1 S.2.2.2.2 in_X1 S.2.2.2.1 hI.1 hI.2.1 0 rfl rfl 0 (by decide) (S.2.2.2.2 _ q219) (fun _ h9 => h9) rfl hdg kk
theorem y_put_0 (S : CallFix p m c cc nL s args lw_all RX1) (hI : bY D A h d σ s H locs) {v : Int32} (hdg : decode cc pc = .ok (.putfield 41, 3)) (kk : ∀ (H1 : Heap) (locs1 : List Loc), bY D A h d (ttU σ 0 0 v) s H1 locs1 → W p l e R s m args below meth c H1 locs1 cells slots Q (F0 m (pc + 3) ls rest)) : W p l e R s m args below meth c H locs cells slots Q (F0 m pc ls (.int v :: .ref (h 0) :: rest)) := va_put (D := D) (ci := 1) (v := .int v) (ty := .int) (C := RX1) (T := TX1) (N := 11) S.1 S.2.1 S.2.2.2.2 in_X1 tyX1 tyX1_ok nmX1 S.2.2.2.1 hI.1 hI.2.1 hI.2.2.1 hI.2.2.2 0 rfl rfl 0 (by decide) (S.2.2.2.2 _ q219) (fun _ h9 => h9) rfl (by decide +kernel) rfl rfl (Nat.le_of_ble_eq_true rfl) hdg (fun H1 locs1 hP hD hS => kk H1 locs1 ⟨hI.1, hP, hD, hS⟩)
theorem y_get_1 (S : CallFix p m c cc nL s args lw_all RX1) (hI : bY D A h d σ s H locs) (hdg : decode cc pc = .ok (.getfield 7, 3)) (kk : W p l e R s m args below meth c H locs cells slots Q (F0 m (pc + 3) ls (.ref (h 1) :: rest))) : W p l e R s m args below meth c H locs cells slots Q (F0 m pc ls (.ref (h 0) :: rest)) := va_get (D := D) (ci := 1) (v := .ref (h 1)) (C := RX1) (T := TX1) (N := 11) S.1 S.2.1 S.2.2.2.2 in_X1 S.2.2.2.1 hI.1 hI.2.1 0 rfl rfl 1 (by decide) (S.2.2.2.2 _ q220) (fun _ h9 => h9) rfl hdg kk
theorem y_ald_1 (S : CallFix p m c cc nL s args lw_all RX1) (hI : bY D A h d σ s H locs) {i : Int32} (hin : vp_in i 24) (hdg : decode cc pc = .ok (.baload, 1)) (kk : W p l e R s m args below meth c H locs cells slots Q (F0 m (pc + 1) ls (.int (σ 1 i.toNatClampNeg) :: rest))) : W p l e R s m args below meth c H locs cells slots Q (F0 m pc ls (.int i :: .ref (h 1) :: rest)) := va_zald S.1 S.2.1 hI.1 hI.2.1 1 0 rfl rfl hin hdg kk
theorem y_aln_1 (S : CallFix p m c cc nL s args lw_all RX1) (hI : bY D A h d σ s H locs) {j : Nat} (hj : j < 24) (hdg : decode cc pc = .ok (.baload, 1)) (kk : W p l e R s m args below meth c H locs cells slots Q (F0 m (pc + 1) ls (.int (σ 1 j) :: rest))) : W p l e R s m args below meth c H locs cells slots Q (F0 m pc ls (.int (nI j) :: .ref (h 1) :: rest)) := by
  refine y_ald_1 S hI (vp_in_nI hj (by decide)) hdg ?_
  rw [nI_clamp (Nat.lt_trans hj (by decide))]
  exact kk
theorem y_ast_1 (S : CallFix p m c cc nL s args lw_all RX1) (hI : bY D A h d σ s H locs) {i x : Int32} (hin : vp_in i 24) (hz : vp_nar .boolean x = x) (hdg : decode cc pc = .ok (.bastore, 1)) (kk : ∀ (H1 : Heap) (locs1 : List Loc), bY D A h d (ttU σ 1 i.toNatClampNeg x) s H1 locs1 → W p l e R s m args below meth c H1 locs1 cells slots Q (F0 m (pc + 1) ls rest)) : W p l e R s m args below meth c H locs cells slots Q (F0 m pc ls (.int x :: .int i :: .ref (h 1) :: rest)) := by
  refine va_zast S.1 S.2.1 hI.1 hI.2.1 hI.2.2.1 hI.2.2.2 1 0 rfl rfl hin hdg (fun H1 locs1 hP hD hS => ?_)
  rw [hz] at hP hD
  exact kk H1 locs1 ⟨hI.1, hP, hD, hS⟩
theorem y_asn_1 (S : CallFix p m c cc nL s args lw_all RX1) (hI : bY D A h d σ s H locs) {j : Nat} {x : Int32} (hj : j < 24) (hz : vp_nar .boolean x = x) (hdg : decode cc pc = .ok (.bastore, 1)) (kk : ∀ (H1 : Heap) (locs1 : List Loc), bY D A h d (ttU σ 1 j x) s H1 locs1 → W p l e R s m args below meth c H1 locs1 cells slots Q (F0 m (pc + 1) ls rest)) : W p l e R s m args below meth c H locs cells slots Q (F0 m pc ls (.int x :: .int (nI j) :: .ref (h 1) :: rest)) := by
  refine y_ast_1 S hI (vp_in_nI hj (by decide)) hz hdg ?_
  rw [nI_clamp (Nat.lt_trans hj (by decide))]
  exact kk
theorem y_get_2 (S : CallFix p m c cc nL s args lw_all RX1) (hI : bY D A h d σ s H locs) (hdg : decode cc pc = .ok (.getfield 13, 3)) (kk : W p l e R s m args below meth c H locs cells slots Q (F0 m (pc + 3) ls (.ref (h 2) :: rest))) : W p l e R s m args below meth c H locs cells slots Q (F0 m pc ls (.ref (h 0) :: rest)) := va_get (D := D) (ci := 1) (v := .ref (h 2)) (C := RX1) (T := TX1) (N := 11) S.1 S.2.1 S.2.2.2.2 in_X1 S.2.2.2.1 hI.1 hI.2.1 0 rfl rfl 2 (by decide) (S.2.2.2.2 _ q221) (fun _ h9 => h9) rfl hdg kk
theorem y_ald_2 (S : CallFix p m c cc nL s args lw_all RX1) (hI : bY D A h d σ s H locs) {i : Int32} (hin : vp_in i 24) (hdg : decode cc pc = .ok (.iaload, 1)) (kk : W p l e R s m args below meth c H locs cells slots Q (F0 m (pc + 1) ls (.int (σ 2 i.toNatClampNeg) :: rest))) : W p l e R s m args below meth c H locs cells slots Q (F0 m pc ls (.int i :: .ref (h 2) :: rest)) := va_iald S.1 S.2.1 hI.1 hI.2.1 2 1 rfl rfl hin hdg kk
theorem y_aln_2 (S : CallFix p m c cc nL s args lw_all RX1) (hI : bY D A h d σ s H locs) {j : Nat} (hj : j < 24) (hdg : decode cc pc = .ok (.iaload, 1)) (kk : W p l e R s m args below meth c H locs cells slots Q (F0 m (pc + 1) ls (.int (σ 2 j) :: rest))) : W p l e R s m args below meth c H locs cells slots Q (F0 m pc ls (.int (nI j) :: .ref (h 2) :: rest)) := by
  refine y_ald_2 S hI (vp_in_nI hj (by decide)) hdg ?_
  rw [nI_clamp (Nat.lt_trans hj (by decide))]
  exact kk
theorem y_ast_2 (S : CallFix p m c cc nL s args lw_all RX1) (hI : bY D A h d σ s H locs) {i x : Int32} (hin : vp_in i 24) (hdg : decode cc pc = .ok (.iastore, 1)) (kk : ∀ (H1 : Heap) (locs1 : List Loc), bY D A h d (ttU σ 2 i.toNatClampNeg x) s H1 locs1 → W p l e R s m args below meth c H1 locs1 cells slots Q (F0 m (pc + 1) ls rest)) : W p l e R s m args below meth c H locs cells slots Q (F0 m pc ls (.int x :: .int i :: .ref (h 2) :: rest)) := va_iast S.1 S.2.1 hI.1 hI.2.1 hI.2.2.1 hI.2.2.2 2 1 rfl rfl hin hdg (fun H1 locs1 hP hD hS => kk H1 locs1 ⟨hI.1, hP, hD, hS⟩)
theorem y_asn_2 (S : CallFix p m c cc nL s args lw_all RX1) (hI : bY D A h d σ s H locs) {j : Nat} {x : Int32} (hj : j < 24) (hdg : decode cc pc = .ok (.iastore, 1)) (kk : ∀ (H1 : Heap) (locs1 : List Loc), bY D A h d (ttU σ 2 j x) s H1 locs1 → W p l e R s m args below meth c H1 locs1 cells slots Q (F0 m (pc + 1) ls rest)) : W p l e R s m args below meth c H locs cells slots Q (F0 m pc ls (.int x :: .int (nI j) :: .ref (h 2) :: rest)) := by
  refine y_ast_2 S hI (vp_in_nI hj (by decide)) hdg ?_
  rw [nI_clamp (Nat.lt_trans hj (by decide))]
  exact kk
theorem y_get_3 (S : CallFix p m c cc nL s args lw_all RX1) (hI : bY D A h d σ s H locs) (hdg : decode cc pc = .ok (.getfield 17, 3)) (kk : W p l e R s m args below meth c H locs cells slots Q (F0 m (pc + 3) ls (.ref (h 3) :: rest))) : W p l e R s m args below meth c H locs cells slots Q (F0 m pc ls (.ref (h 0) :: rest)) := va_get (D := D) (ci := 1) (v := .ref (h 3)) (C := RX1) (T := TX1) (N := 11) S.1 S.2.1 S.2.2.2.2 in_X1 S.2.2.2.1 hI.1 hI.2.1 0 rfl rfl 3 (by decide) (S.2.2.2.2 _ q222) (fun _ h9 => h9) rfl hdg kk
theorem y_ald_3 (S : CallFix p m c cc nL s args lw_all RX1) (hI : bY D A h d σ s H locs) {i : Int32} (hin : vp_in i 24) (hdg : decode cc pc = .ok (.baload, 1)) (kk : W p l e R s m args below meth c H locs cells slots Q (F0 m (pc + 1) ls (.int (σ 3 i.toNatClampNeg) :: rest))) : W p l e R s m args below meth c H locs cells slots Q (F0 m pc ls (.int i :: .ref (h 3) :: rest)) := va_zald S.1 S.2.1 hI.1 hI.2.1 3 2 rfl rfl hin hdg kk
theorem y_aln_3 (S : CallFix p m c cc nL s args lw_all RX1) (hI : bY D A h d σ s H locs) {j : Nat} (hj : j < 24) (hdg : decode cc pc = .ok (.baload, 1)) (kk : W p l e R s m args below meth c H locs cells slots Q (F0 m (pc + 1) ls (.int (σ 3 j) :: rest))) : W p l e R s m args below meth c H locs cells slots Q (F0 m pc ls (.int (nI j) :: .ref (h 3) :: rest)) := by
  refine y_ald_3 S hI (vp_in_nI hj (by decide)) hdg ?_
  rw [nI_clamp (Nat.lt_trans hj (by decide))]
  exact kk
theorem y_ast_3 (S : CallFix p m c cc nL s args lw_all RX1) (hI : bY D A h d σ s H locs) {i x : Int32} (hin : vp_in i 24) (hz : vp_nar .boolean x = x) (hdg : decode cc pc = .ok (.bastore, 1)) (kk : ∀ (H1 : Heap) (locs1 : List Loc), bY D A h d (ttU σ 3 i.toNatClampNeg x) s H1 locs1 → W p l e R s m args below meth c H1 locs1 cells slots Q (F0 m (pc + 1) ls rest)) : W p l e R s m args below meth c H locs cells slots Q (F0 m pc ls (.int x :: .int i :: .ref (h 3) :: rest)) := by
  refine va_zast S.1 S.2.1 hI.1 hI.2.1 hI.2.2.1 hI.2.2.2 3 2 rfl rfl hin hdg (fun H1 locs1 hP hD hS => ?_)
  rw [hz] at hP hD
  exact kk H1 locs1 ⟨hI.1, hP, hD, hS⟩
theorem y_asn_3 (S : CallFix p m c cc nL s args lw_all RX1) (hI : bY D A h d σ s H locs) {j : Nat} {x : Int32} (hj : j < 24) (hz : vp_nar .boolean x = x) (hdg : decode cc pc = .ok (.bastore, 1)) (kk : ∀ (H1 : Heap) (locs1 : List Loc), bY D A h d (ttU σ 3 j x) s H1 locs1 → W p l e R s m args below meth c H1 locs1 cells slots Q (F0 m (pc + 1) ls rest)) : W p l e R s m args below meth c H locs cells slots Q (F0 m pc ls (.int x :: .int (nI j) :: .ref (h 3) :: rest)) := by
  refine y_ast_3 S hI (vp_in_nI hj (by decide)) hz hdg ?_
  rw [nI_clamp (Nat.lt_trans hj (by decide))]
  exact kk
theorem y_get_4 (S : CallFix p m c cc nL s args lw_all RX1) (hI : bY D A h d σ s H locs) (hdg : decode cc pc = .ok (.getfield 20, 3)) (kk : W p l e R s m args below meth c H locs cells slots Q (F0 m (pc + 3) ls (.ref (h 4) :: rest))) : W p l e R s m args below meth c H locs cells slots Q (F0 m pc ls (.ref (h 0) :: rest)) := va_get (D := D) (ci := 1) (v := .ref (h 4)) (C := RX1) (T := TX1) (N := 11) S.1 S.2.1 S.2.2.2.2 in_X1 S.2.2.2.1 hI.1 hI.2.1 0 rfl rfl 4 (by decide) (S.2.2.2.2 _ q223) (fun _ h9 => h9) rfl hdg kk
theorem y_ald_4 (S : CallFix p m c cc nL s args lw_all RX1) (hI : bY D A h d σ s H locs) {i : Int32} (hin : vp_in i 96) (hdg : decode cc pc = .ok (.iaload, 1)) (kk : W p l e R s m args below meth c H locs cells slots Q (F0 m (pc + 1) ls (.int (σ 4 i.toNatClampNeg) :: rest))) : W p l e R s m args below meth c H locs cells slots Q (F0 m pc ls (.int i :: .ref (h 4) :: rest)) := va_iald S.1 S.2.1 hI.1 hI.2.1 4 3 rfl rfl hin hdg kk
theorem y_aln_4 (S : CallFix p m c cc nL s args lw_all RX1) (hI : bY D A h d σ s H locs) {j : Nat} (hj : j < 96) (hdg : decode cc pc = .ok (.iaload, 1)) (kk : W p l e R s m args below meth c H locs cells slots Q (F0 m (pc + 1) ls (.int (σ 4 j) :: rest))) : W p l e R s m args below meth c H locs cells slots Q (F0 m pc ls (.int (nI j) :: .ref (h 4) :: rest)) := by
  refine y_ald_4 S hI (vp_in_nI hj (by decide)) hdg ?_
  rw [nI_clamp (Nat.lt_trans hj (by decide))]
  exact kk
theorem y_ast_4 (S : CallFix p m c cc nL s args lw_all RX1) (hI : bY D A h d σ s H locs) {i x : Int32} (hin : vp_in i 96) (hdg : decode cc pc = .ok (.iastore, 1)) (kk : ∀ (H1 : Heap) (locs1 : List Loc), bY D A h d (ttU σ 4 i.toNatClampNeg x) s H1 locs1 → W p l e R s m args below meth c H1 locs1 cells slots Q (F0 m (pc + 1) ls rest)) : W p l e R s m args below meth c H locs cells slots Q (F0 m pc ls (.int x :: .int i :: .ref (h 4) :: rest)) := va_iast S.1 S.2.1 hI.1 hI.2.1 hI.2.2.1 hI.2.2.2 4 3 rfl rfl hin hdg (fun H1 locs1 hP hD hS => kk H1 locs1 ⟨hI.1, hP, hD, hS⟩)
theorem y_asn_4 (S : CallFix p m c cc nL s args lw_all RX1) (hI : bY D A h d σ s H locs) {j : Nat} {x : Int32} (hj : j < 96) (hdg : decode cc pc = .ok (.iastore, 1)) (kk : ∀ (H1 : Heap) (locs1 : List Loc), bY D A h d (ttU σ 4 j x) s H1 locs1 → W p l e R s m args below meth c H1 locs1 cells slots Q (F0 m (pc + 1) ls rest)) : W p l e R s m args below meth c H locs cells slots Q (F0 m pc ls (.int x :: .int (nI j) :: .ref (h 4) :: rest)) := by
  refine y_ast_4 S hI (vp_in_nI hj (by decide)) hdg ?_
  rw [nI_clamp (Nat.lt_trans hj (by decide))]
  exact kk
theorem y_get_5 (S : CallFix p m c cc nL s args lw_all RX1) (hI : bY D A h d σ s H locs) (hdg : decode cc pc = .ok (.getfield 23, 3)) (kk : W p l e R s m args below meth c H locs cells slots Q (F0 m (pc + 3) ls (.ref (h 5) :: rest))) : W p l e R s m args below meth c H locs cells slots Q (F0 m pc ls (.ref (h 0) :: rest)) := va_get (D := D) (ci := 1) (v := .ref (h 5)) (C := RX1) (T := TX1) (N := 11) S.1 S.2.1 S.2.2.2.2 in_X1 S.2.2.2.1 hI.1 hI.2.1 0 rfl rfl 5 (by decide) (S.2.2.2.2 _ q224) (fun _ h9 => h9) rfl hdg kk
theorem y_ald_5 (S : CallFix p m c cc nL s args lw_all RX1) (hI : bY D A h d σ s H locs) {i : Int32} (hin : vp_in i 24) (hdg : decode cc pc = .ok (.iaload, 1)) (kk : W p l e R s m args below meth c H locs cells slots Q (F0 m (pc + 1) ls (.int (σ 5 i.toNatClampNeg) :: rest))) : W p l e R s m args below meth c H locs cells slots Q (F0 m pc ls (.int i :: .ref (h 5) :: rest)) := va_iald S.1 S.2.1 hI.1 hI.2.1 5 4 rfl rfl hin hdg kk
theorem y_aln_5 (S : CallFix p m c cc nL s args lw_all RX1) (hI : bY D A h d σ s H locs) {j : Nat} (hj : j < 24) (hdg : decode cc pc = .ok (.iaload, 1)) (kk : W p l e R s m args below meth c H locs cells slots Q (F0 m (pc + 1) ls (.int (σ 5 j) :: rest))) : W p l e R s m args below meth c H locs cells slots Q (F0 m pc ls (.int (nI j) :: .ref (h 5) :: rest)) := by
  refine y_ald_5 S hI (vp_in_nI hj (by decide)) hdg ?_
  rw [nI_clamp (Nat.lt_trans hj (by decide))]
  exact kk
theorem y_ast_5 (S : CallFix p m c cc nL s args lw_all RX1) (hI : bY D A h d σ s H locs) {i x : Int32} (hin : vp_in i 24) (hdg : decode cc pc = .ok (.iastore, 1)) (kk : ∀ (H1 : Heap) (locs1 : List Loc), bY D A h d (ttU σ 5 i.toNatClampNeg x) s H1 locs1 → W p l e R s m args below meth c H1 locs1 cells slots Q (F0 m (pc + 1) ls rest)) : W p l e R s m args below meth c H locs cells slots Q (F0 m pc ls (.int x :: .int i :: .ref (h 5) :: rest)) := va_iast S.1 S.2.1 hI.1 hI.2.1 hI.2.2.1 hI.2.2.2 5 4 rfl rfl hin hdg (fun H1 locs1 hP hD hS => kk H1 locs1 ⟨hI.1, hP, hD, hS⟩)
theorem y_asn_5 (S : CallFix p m c cc nL s args lw_all RX1) (hI : bY D A h d σ s H locs) {j : Nat} {x : Int32} (hj : j < 24) (hdg : decode cc pc = .ok (.iastore, 1)) (kk : ∀ (H1 : Heap) (locs1 : List Loc), bY D A h d (ttU σ 5 j x) s H1 locs1 → W p l e R s m args below meth c H1 locs1 cells slots Q (F0 m (pc + 1) ls rest)) : W p l e R s m args below meth c H locs cells slots Q (F0 m pc ls (.int x :: .int (nI j) :: .ref (h 5) :: rest)) := by
  refine y_ast_5 S hI (vp_in_nI hj (by decide)) hdg ?_
  rw [nI_clamp (Nat.lt_trans hj (by decide))]
  exact kk
theorem y_get_6 (S : CallFix p m c cc nL s args lw_all RX1) (hI : bY D A h d σ s H locs) (hdg : decode cc pc = .ok (.getfield 26, 3)) (kk : W p l e R s m args below meth c H locs cells slots Q (F0 m (pc + 3) ls (.ref (h 6) :: rest))) : W p l e R s m args below meth c H locs cells slots Q (F0 m pc ls (.ref (h 0) :: rest)) := va_get (D := D) (ci := 1) (v := .ref (h 6)) (C := RX1) (T := TX1) (N := 11) S.1 S.2.1 S.2.2.2.2 in_X1 S.2.2.2.1 hI.1 hI.2.1 0 rfl rfl 6 (by decide) (S.2.2.2.2 _ q225) (fun _ h9 => h9) rfl hdg kk
theorem y_ald_6 (S : CallFix p m c cc nL s args lw_all RX1) (hI : bY D A h d σ s H locs) {i : Int32} (hin : vp_in i 24) (hdg : decode cc pc = .ok (.iaload, 1)) (kk : W p l e R s m args below meth c H locs cells slots Q (F0 m (pc + 1) ls (.int (σ 6 i.toNatClampNeg) :: rest))) : W p l e R s m args below meth c H locs cells slots Q (F0 m pc ls (.int i :: .ref (h 6) :: rest)) := va_iald S.1 S.2.1 hI.1 hI.2.1 6 5 rfl rfl hin hdg kk
theorem y_aln_6 (S : CallFix p m c cc nL s args lw_all RX1) (hI : bY D A h d σ s H locs) {j : Nat} (hj : j < 24) (hdg : decode cc pc = .ok (.iaload, 1)) (kk : W p l e R s m args below meth c H locs cells slots Q (F0 m (pc + 1) ls (.int (σ 6 j) :: rest))) : W p l e R s m args below meth c H locs cells slots Q (F0 m pc ls (.int (nI j) :: .ref (h 6) :: rest)) := by
  refine y_ald_6 S hI (vp_in_nI hj (by decide)) hdg ?_
  rw [nI_clamp (Nat.lt_trans hj (by decide))]
  exact kk
theorem y_ast_6 (S : CallFix p m c cc nL s args lw_all RX1) (hI : bY D A h d σ s H locs) {i x : Int32} (hin : vp_in i 24) (hdg : decode cc pc = .ok (.iastore, 1)) (kk : ∀ (H1 : Heap) (locs1 : List Loc), bY D A h d (ttU σ 6 i.toNatClampNeg x) s H1 locs1 → W p l e R s m args below meth c H1 locs1 cells slots Q (F0 m (pc + 1) ls rest)) : W p l e R s m args below meth c H locs cells slots Q (F0 m pc ls (.int x :: .int i :: .ref (h 6) :: rest)) := va_iast S.1 S.2.1 hI.1 hI.2.1 hI.2.2.1 hI.2.2.2 6 5 rfl rfl hin hdg (fun H1 locs1 hP hD hS => kk H1 locs1 ⟨hI.1, hP, hD, hS⟩)
theorem y_asn_6 (S : CallFix p m c cc nL s args lw_all RX1) (hI : bY D A h d σ s H locs) {j : Nat} {x : Int32} (hj : j < 24) (hdg : decode cc pc = .ok (.iastore, 1)) (kk : ∀ (H1 : Heap) (locs1 : List Loc), bY D A h d (ttU σ 6 j x) s H1 locs1 → W p l e R s m args below meth c H1 locs1 cells slots Q (F0 m (pc + 1) ls rest)) : W p l e R s m args below meth c H locs cells slots Q (F0 m pc ls (.int x :: .int (nI j) :: .ref (h 6) :: rest)) := by
  refine y_ast_6 S hI (vp_in_nI hj (by decide)) hdg ?_
  rw [nI_clamp (Nat.lt_trans hj (by decide))]
  exact kk
theorem y_get_7 (S : CallFix p m c cc nL s args lw_all RX1) (hI : bY D A h d σ s H locs) (hdg : decode cc pc = .ok (.getfield 29, 3)) (kk : W p l e R s m args below meth c H locs cells slots Q (F0 m (pc + 3) ls (.ref (h 7) :: rest))) : W p l e R s m args below meth c H locs cells slots Q (F0 m pc ls (.ref (h 0) :: rest)) := va_get (D := D) (ci := 1) (v := .ref (h 7)) (C := RX1) (T := TX1) (N := 11) S.1 S.2.1 S.2.2.2.2 in_X1 S.2.2.2.1 hI.1 hI.2.1 0 rfl rfl 7 (by decide) (S.2.2.2.2 _ q226) (fun _ h9 => h9) rfl hdg kk
theorem y_ald_7 (S : CallFix p m c cc nL s args lw_all RX1) (hI : bY D A h d σ s H locs) {i : Int32} (hin : vp_in i 24) (hdg : decode cc pc = .ok (.iaload, 1)) (kk : W p l e R s m args below meth c H locs cells slots Q (F0 m (pc + 1) ls (.int (σ 7 i.toNatClampNeg) :: rest))) : W p l e R s m args below meth c H locs cells slots Q (F0 m pc ls (.int i :: .ref (h 7) :: rest)) := va_iald S.1 S.2.1 hI.1 hI.2.1 7 6 rfl rfl hin hdg kk
theorem y_aln_7 (S : CallFix p m c cc nL s args lw_all RX1) (hI : bY D A h d σ s H locs) {j : Nat} (hj : j < 24) (hdg : decode cc pc = .ok (.iaload, 1)) (kk : W p l e R s m args below meth c H locs cells slots Q (F0 m (pc + 1) ls (.int (σ 7 j) :: rest))) : W p l e R s m args below meth c H locs cells slots Q (F0 m pc ls (.int (nI j) :: .ref (h 7) :: rest)) := by
  refine y_ald_7 S hI (vp_in_nI hj (by decide)) hdg ?_
  rw [nI_clamp (Nat.lt_trans hj (by decide))]
  exact kk
theorem y_ast_7 (S : CallFix p m c cc nL s args lw_all RX1) (hI : bY D A h d σ s H locs) {i x : Int32} (hin : vp_in i 24) (hdg : decode cc pc = .ok (.iastore, 1)) (kk : ∀ (H1 : Heap) (locs1 : List Loc), bY D A h d (ttU σ 7 i.toNatClampNeg x) s H1 locs1 → W p l e R s m args below meth c H1 locs1 cells slots Q (F0 m (pc + 1) ls rest)) : W p l e R s m args below meth c H locs cells slots Q (F0 m pc ls (.int x :: .int i :: .ref (h 7) :: rest)) := va_iast S.1 S.2.1 hI.1 hI.2.1 hI.2.2.1 hI.2.2.2 7 6 rfl rfl hin hdg (fun H1 locs1 hP hD hS => kk H1 locs1 ⟨hI.1, hP, hD, hS⟩)
theorem y_asn_7 (S : CallFix p m c cc nL s args lw_all RX1) (hI : bY D A h d σ s H locs) {j : Nat} {x : Int32} (hj : j < 24) (hdg : decode cc pc = .ok (.iastore, 1)) (kk : ∀ (H1 : Heap) (locs1 : List Loc), bY D A h d (ttU σ 7 j x) s H1 locs1 → W p l e R s m args below meth c H1 locs1 cells slots Q (F0 m (pc + 1) ls rest)) : W p l e R s m args below meth c H locs cells slots Q (F0 m pc ls (.int x :: .int (nI j) :: .ref (h 7) :: rest)) := by
  refine y_ast_7 S hI (vp_in_nI hj (by decide)) hdg ?_
  rw [nI_clamp (Nat.lt_trans hj (by decide))]
  exact kk
theorem y_get_8 (S : CallFix p m c cc nL s args lw_all RX1) (hI : bY D A h d σ s H locs) (hdg : decode cc pc = .ok (.getfield 32, 3)) (kk : W p l e R s m args below meth c H locs cells slots Q (F0 m (pc + 3) ls (.ref (h 8) :: rest))) : W p l e R s m args below meth c H locs cells slots Q (F0 m pc ls (.ref (h 0) :: rest)) := va_get (D := D) (ci := 1) (v := .ref (h 8)) (C := RX1) (T := TX1) (N := 11) S.1 S.2.1 S.2.2.2.2 in_X1 S.2.2.2.1 hI.1 hI.2.1 0 rfl rfl 8 (by decide) (S.2.2.2.2 _ q227) (fun _ h9 => h9) rfl hdg kk
theorem y_ald_8 (S : CallFix p m c cc nL s args lw_all RX1) (hI : bY D A h d σ s H locs) {i : Int32} (hin : vp_in i 24) (hdg : decode cc pc = .ok (.iaload, 1)) (kk : W p l e R s m args below meth c H locs cells slots Q (F0 m (pc + 1) ls (.int (σ 8 i.toNatClampNeg) :: rest))) : W p l e R s m args below meth c H locs cells slots Q (F0 m pc ls (.int i :: .ref (h 8) :: rest)) := va_iald S.1 S.2.1 hI.1 hI.2.1 8 7 rfl rfl hin hdg kk
theorem y_aln_8 (S : CallFix p m c cc nL s args lw_all RX1) (hI : bY D A h d σ s H locs) {j : Nat} (hj : j < 24) (hdg : decode cc pc = .ok (.iaload, 1)) (kk : W p l e R s m args below meth c H locs cells slots Q (F0 m (pc + 1) ls (.int (σ 8 j) :: rest))) : W p l e R s m args below meth c H locs cells slots Q (F0 m pc ls (.int (nI j) :: .ref (h 8) :: rest)) := by
  refine y_ald_8 S hI (vp_in_nI hj (by decide)) hdg ?_
  rw [nI_clamp (Nat.lt_trans hj (by decide))]
  exact kk
theorem y_ast_8 (S : CallFix p m c cc nL s args lw_all RX1) (hI : bY D A h d σ s H locs) {i x : Int32} (hin : vp_in i 24) (hdg : decode cc pc = .ok (.iastore, 1)) (kk : ∀ (H1 : Heap) (locs1 : List Loc), bY D A h d (ttU σ 8 i.toNatClampNeg x) s H1 locs1 → W p l e R s m args below meth c H1 locs1 cells slots Q (F0 m (pc + 1) ls rest)) : W p l e R s m args below meth c H locs cells slots Q (F0 m pc ls (.int x :: .int i :: .ref (h 8) :: rest)) := va_iast S.1 S.2.1 hI.1 hI.2.1 hI.2.2.1 hI.2.2.2 8 7 rfl rfl hin hdg (fun H1 locs1 hP hD hS => kk H1 locs1 ⟨hI.1, hP, hD, hS⟩)
theorem y_asn_8 (S : CallFix p m c cc nL s args lw_all RX1) (hI : bY D A h d σ s H locs) {j : Nat} {x : Int32} (hj : j < 24) (hdg : decode cc pc = .ok (.iastore, 1)) (kk : ∀ (H1 : Heap) (locs1 : List Loc), bY D A h d (ttU σ 8 j x) s H1 locs1 → W p l e R s m args below meth c H1 locs1 cells slots Q (F0 m (pc + 1) ls rest)) : W p l e R s m args below meth c H locs cells slots Q (F0 m pc ls (.int x :: .int (nI j) :: .ref (h 8) :: rest)) := by
  refine y_ast_8 S hI (vp_in_nI hj (by decide)) hdg ?_
  rw [nI_clamp (Nat.lt_trans hj (by decide))]
  exact kk
theorem y_get_9 (S : CallFix p m c cc nL s args lw_all RX1) (hI : bY D A h d σ s H locs) (hdg : decode cc pc = .ok (.getfield 35, 3)) (kk : W p l e R s m args below meth c H locs cells slots Q (F0 m (pc + 3) ls (.ref (h 9) :: rest))) : W p l e R s m args below meth c H locs cells slots Q (F0 m pc ls (.ref (h 0) :: rest)) := va_get (D := D) (ci := 1) (v := .ref (h 9)) (C := RX1) (T := TX1) (N := 11) S.1 S.2.1 S.2.2.2.2 in_X1 S.2.2.2.1 hI.1 hI.2.1 0 rfl rfl 9 (by decide) (S.2.2.2.2 _ q228) (fun _ h9 => h9) rfl hdg kk
theorem y_ald_9 (S : CallFix p m c cc nL s args lw_all RX1) (hI : bY D A h d σ s H locs) {i : Int32} (hin : vp_in i 96) (hdg : decode cc pc = .ok (.iaload, 1)) (kk : W p l e R s m args below meth c H locs cells slots Q (F0 m (pc + 1) ls (.int (σ 9 i.toNatClampNeg) :: rest))) : W p l e R s m args below meth c H locs cells slots Q (F0 m pc ls (.int i :: .ref (h 9) :: rest)) := va_iald S.1 S.2.1 hI.1 hI.2.1 9 8 rfl rfl hin hdg kk
theorem y_aln_9 (S : CallFix p m c cc nL s args lw_all RX1) (hI : bY D A h d σ s H locs) {j : Nat} (hj : j < 96) (hdg : decode cc pc = .ok (.iaload, 1)) (kk : W p l e R s m args below meth c H locs cells slots Q (F0 m (pc + 1) ls (.int (σ 9 j) :: rest))) : W p l e R s m args below meth c H locs cells slots Q (F0 m pc ls (.int (nI j) :: .ref (h 9) :: rest)) := by
  refine y_ald_9 S hI (vp_in_nI hj (by decide)) hdg ?_
  rw [nI_clamp (Nat.lt_trans hj (by decide))]
  exact kk
theorem y_ast_9 (S : CallFix p m c cc nL s args lw_all RX1) (hI : bY D A h d σ s H locs) {i x : Int32} (hin : vp_in i 96) (hdg : decode cc pc = .ok (.iastore, 1)) (kk : ∀ (H1 : Heap) (locs1 : List Loc), bY D A h d (ttU σ 9 i.toNatClampNeg x) s H1 locs1 → W p l e R s m args below meth c H1 locs1 cells slots Q (F0 m (pc + 1) ls rest)) : W p l e R s m args below meth c H locs cells slots Q (F0 m pc ls (.int x :: .int i :: .ref (h 9) :: rest)) := va_iast S.1 S.2.1 hI.1 hI.2.1 hI.2.2.1 hI.2.2.2 9 8 rfl rfl hin hdg (fun H1 locs1 hP hD hS => kk H1 locs1 ⟨hI.1, hP, hD, hS⟩)
theorem y_asn_9 (S : CallFix p m c cc nL s args lw_all RX1) (hI : bY D A h d σ s H locs) {j : Nat} {x : Int32} (hj : j < 96) (hdg : decode cc pc = .ok (.iastore, 1)) (kk : ∀ (H1 : Heap) (locs1 : List Loc), bY D A h d (ttU σ 9 j x) s H1 locs1 → W p l e R s m args below meth c H1 locs1 cells slots Q (F0 m (pc + 1) ls rest)) : W p l e R s m args below meth c H locs cells slots Q (F0 m pc ls (.int x :: .int (nI j) :: .ref (h 9) :: rest)) := by
  refine y_ast_9 S hI (vp_in_nI hj (by decide)) hdg ?_
  rw [nI_clamp (Nat.lt_trans hj (by decide))]
  exact kk
theorem y_get_10 (S : CallFix p m c cc nL s args lw_all RX1) (hI : bY D A h d σ s H locs) (hdg : decode cc pc = .ok (.getfield 38, 3)) (kk : W p l e R s m args below meth c H locs cells slots Q (F0 m (pc + 3) ls (.ref (h 10) :: rest))) : W p l e R s m args below meth c H locs cells slots Q (F0 m pc ls (.ref (h 0) :: rest)) := va_get (D := D) (ci := 1) (v := .ref (h 10)) (C := RX1) (T := TX1) (N := 11) S.1 S.2.1 S.2.2.2.2 in_X1 S.2.2.2.1 hI.1 hI.2.1 0 rfl rfl 10 (by decide) (S.2.2.2.2 _ q229) (fun _ h9 => h9) rfl hdg kk
theorem y_ald_10 (S : CallFix p m c cc nL s args lw_all RX1) (hI : bY D A h d σ s H locs) {i : Int32} (hin : vp_in i 24) (hdg : decode cc pc = .ok (.iaload, 1)) (kk : W p l e R s m args below meth c H locs cells slots Q (F0 m (pc + 1) ls (.int (σ 10 i.toNatClampNeg) :: rest))) : W p l e R s m args below meth c H locs cells slots Q (F0 m pc ls (.int i :: .ref (h 10) :: rest)) := va_iald S.1 S.2.1 hI.1 hI.2.1 10 9 rfl rfl hin hdg kk
theorem y_aln_10 (S : CallFix p m c cc nL s args lw_all RX1) (hI : bY D A h d σ s H locs) {j : Nat} (hj : j < 24) (hdg : decode cc pc = .ok (.iaload, 1)) (kk : W p l e R s m args below meth c H locs cells slots Q (F0 m (pc + 1) ls (.int (σ 10 j) :: rest))) : W p l e R s m args below meth c H locs cells slots Q (F0 m pc ls (.int (nI j) :: .ref (h 10) :: rest)) := by
  refine y_ald_10 S hI (vp_in_nI hj (by decide)) hdg ?_
  rw [nI_clamp (Nat.lt_trans hj (by decide))]
  exact kk
theorem y_ast_10 (S : CallFix p m c cc nL s args lw_all RX1) (hI : bY D A h d σ s H locs) {i x : Int32} (hin : vp_in i 24) (hdg : decode cc pc = .ok (.iastore, 1)) (kk : ∀ (H1 : Heap) (locs1 : List Loc), bY D A h d (ttU σ 10 i.toNatClampNeg x) s H1 locs1 → W p l e R s m args below meth c H1 locs1 cells slots Q (F0 m (pc + 1) ls rest)) : W p l e R s m args below meth c H locs cells slots Q (F0 m pc ls (.int x :: .int i :: .ref (h 10) :: rest)) := va_iast S.1 S.2.1 hI.1 hI.2.1 hI.2.2.1 hI.2.2.2 10 9 rfl rfl hin hdg (fun H1 locs1 hP hD hS => kk H1 locs1 ⟨hI.1, hP, hD, hS⟩)
theorem y_asn_10 (S : CallFix p m c cc nL s args lw_all RX1) (hI : bY D A h d σ s H locs) {j : Nat} {x : Int32} (hj : j < 24) (hdg : decode cc pc = .ok (.iastore, 1)) (kk : ∀ (H1 : Heap) (locs1 : List Loc), bY D A h d (ttU σ 10 j x) s H1 locs1 → W p l e R s m args below meth c H1 locs1 cells slots Q (F0 m (pc + 1) ls rest)) : W p l e R s m args below meth c H locs cells slots Q (F0 m pc ls (.int x :: .int (nI j) :: .ref (h 10) :: rest)) := by
  refine y_ast_10 S hI (vp_in_nI hj (by decide)) hdg ?_
  rw [nI_clamp (Nat.lt_trans hj (by decide))]
  exact kk
theorem y_iret (S : CallFix p m c cc nL s args lw_all RX1) (hI : bY D A h d σ s H locs) {v rv : Int32} {σ' : ttS} (hr : meth.sig.returnType = some .int) (hk : meth.locks = false) (hv : v = rv) (hs : σ = σ') (hdg : decode cc pc = .ok (.ireturn, 1)) : W p l e R s m args below meth c H locs 0 0 (yQi below D h d A args s rv σ') (F0 m pc ls [.int v]) := by
  subst hv
  subst hs
  exact W.iret (v := v) S.1 S.2.1 hr (fun t ht hW => ⟨⟨v, σ, rfl, ⟨rfl, rfl⟩, by rw [ht]; exact hI.2.1, va_K.moved hW.alike hI.1, hI.2.2.1⟩, hI.2.2.2.F ht⟩) hI.2.2.2.2.2 hdg hk
theorem y_zret (S : CallFix p m c cc nL s args lw_all RX1) (hI : bY D A h d σ s H locs) {v rv : Int32} {σ' : ttS} (hr : meth.sig.returnType = some .boolean) (hk : meth.locks = false) (hn : narrow .boolean (.int v) = .int v) (hv : v = rv) (hs : σ = σ') (hdg : decode cc pc = .ok (.ireturn, 1)) : W p l e R s m args below meth c H locs 0 0 (yQi below D h d A args s rv σ') (F0 m pc ls [.int v]) := by
  subst hv
  subst hs
  exact W.zret (v := v) S.1 S.2.1 hr hn (fun t ht hW => ⟨⟨v, σ, rfl, ⟨rfl, rfl⟩, by rw [ht]; exact hI.2.1, va_K.moved hW.alike hI.1, hI.2.2.1⟩, hI.2.2.2.F ht⟩) hI.2.2.2.2.2 hdg hk
theorem y_vret (S : CallFix p m c cc nL s args lw_all RX1) (hI : bY D A h d σ s H locs) {σ' : ttS} (hr : meth.sig.returnType = none) (hk : meth.locks = false) (hs : σ = σ') (hdg : decode cc pc = .ok (.return_, 1)) : W p l e R s m args below meth c H locs 0 0 (yQv below D h d A args s σ') (F0 m pc ls []) := by
  subst hs
  exact W.vret S.1 S.2.1 hr (fun t ht hW => ⟨⟨σ, rfl, rfl, by rw [ht]; exact hI.2.1, va_K.moved hW.alike hI.1, hI.2.2.1⟩, hI.2.2.2.F ht⟩) hI.2.2.2.2.2 hdg hk
theorem y_calli (S : CallFix p m c cc nL s args lw_all RX1) (hI : bY D A h d σ s H locs) (hA : ∀ q : Nat, s.heap.size ≤ q → A q) {y : MethodName} {cc' : ByteArray} {L' : Nat} {rm : Room} (as : List Value) {σ' : ttS} {rv : Int32} {ret : Option FieldType} (hM : MY l y cc' L' ret rm as σ rv σ') {idx n : Nat} (hw : GoodIn lw_all (wsV RX1 idx RX1 y (ws_ y cc' L' ret))) (hrc : rm.cells = 0) (hrs : rm.slots = 0) (hd : y.cls = RX1 ∧ y.cls ≠ "java/lang/invoke/MethodHandle" ∧ y.cls ≠ "java/lang/invoke/VarHandle" ∧ (parseMethodDescriptor y.desc).map (fun d => d.parameters.length) = some n) (hR : rm.frames + 1 ≤ R.frames ∧ 8 + (L' + 11) + rm.locals ≤ R.locals) (hn : as.length = n) (hls : ls.size = nL) {st : List Value} (hst : st = as.reverse ++ .ref (h 0) :: rest) (hW : (rest.map fun v => v.category).sum ≤ 8) (hdg : decode cc pc = .ok (.invokevirtual idx, 3)) (hf : cells ≤ R.cells ∧ slots ≤ R.slots) (kk : ∀ (H1 : Heap) (locs1 : List Loc), bY D A h d σ' s H1 locs1 → W p l e R s m args below meth c H1 locs1 cells slots Q (F0 m (pc + 3) ls (.int rv :: rest))) : W p l e R s m args below meth c H locs cells slots Q (F0 m pc ls st) := by
  subst hst
  obtain ⟨hK, hP, hD, hS⟩ := hI
  have hFc := va_free (wc := cY h d σ) hD hS hA [0, 1, 2, 3, 4, 5, 6, 7, 8, 9, 10] rfl
  refine va_calli (va_runV (As := as) (rest := rest) S (hM D h d H.size) (cwV n S.2.2.2.2 hw rfl hrc hrs hd hR) ⟨fun a U g mk q => by obtain ⟨q0, q1, qP, qK, qD⟩ := q; exact ⟨q0, q1, qP, va_K.moved (u := U) (U := U.calling g mk a) (Vm.Alike.refl U.vm) qK, qD⟩, va_recv hK hP (ci := 1) (q0 := 0) rfl rfl, fun U hU hW => ⟨rfl, by rw [hU], by rw [hU]; exact hP, va_K.moved hW.alike hK, hD.weaken (fun _ _ _ _ => trivial)⟩⟩ rfl hn hls rfl (lv_room hW) hdg hf) hS (fun q _ h => hFc q h) hFc (fun r u t H1 locs1 ht hvm hw1 hB hz1 hk1 hS1 => ?_)
  obtain ⟨rfl, rfl⟩ := hw1
  obtain ⟨hP1, hK1, hD1⟩ := hB
  rw [ht] at hP1
  exact kk H1 locs1 ⟨hK, hP1, hD1.weaken (fun _ _ _ q => hFc _ q), hS1⟩
theorem y_callv (S : CallFix p m c cc nL s args lw_all RX1) (hI : bY D A h d σ s H locs) (hA : ∀ q : Nat, s.heap.size ≤ q → A q) {y : MethodName} {cc' : ByteArray} {L' : Nat} {rm : Room} (as : List Value) {σ' : ttS}  (hM : MYv l y cc' L' rm as σ σ') {idx n : Nat} (hw : GoodIn lw_all (wsV RX1 idx RX1 y (ws_ y cc' L' none))) (hrc : rm.cells = 0) (hrs : rm.slots = 0) (hd : y.cls = RX1 ∧ y.cls ≠ "java/lang/invoke/MethodHandle" ∧ y.cls ≠ "java/lang/invoke/VarHandle" ∧ (parseMethodDescriptor y.desc).map (fun d => d.parameters.length) = some n) (hR : rm.frames + 1 ≤ R.frames ∧ 8 + (L' + 11) + rm.locals ≤ R.locals) (hn : as.length = n) (hls : ls.size = nL) {st : List Value} (hst : st = as.reverse ++ .ref (h 0) :: rest) (hW : (rest.map fun v => v.category).sum ≤ 8) (hdg : decode cc pc = .ok (.invokevirtual idx, 3)) (hf : cells ≤ R.cells ∧ slots ≤ R.slots) (kk : ∀ (H1 : Heap) (locs1 : List Loc), bY D A h d σ' s H1 locs1 → W p l e R s m args below meth c H1 locs1 cells slots Q (F0 m (pc + 3) ls rest)) : W p l e R s m args below meth c H locs cells slots Q (F0 m pc ls st) := by
  subst hst
  obtain ⟨hK, hP, hD, hS⟩ := hI
  have hFc := va_free (wc := cY h d σ) hD hS hA [0, 1, 2, 3, 4, 5, 6, 7, 8, 9, 10] rfl
  refine va_callv (va_runV (As := as) (rest := rest) S (hM D h d H.size) (cwV n S.2.2.2.2 hw rfl hrc hrs hd hR) ⟨fun a U g mk q => by obtain ⟨q0, q1, qP, qK, qD⟩ := q; exact ⟨q0, q1, qP, va_K.moved (u := U) (U := U.calling g mk a) (Vm.Alike.refl U.vm) qK, qD⟩, va_recv hK hP (ci := 1) (q0 := 0) rfl rfl, fun U hU hW => ⟨rfl, by rw [hU], by rw [hU]; exact hP, va_K.moved hW.alike hK, hD.weaken (fun _ _ _ _ => trivial)⟩⟩ rfl hn hls rfl (lv_room hW) hdg hf) hS (fun q _ h => hFc q h) hFc (fun u t H1 locs1 ht hvm hw1 hB hz1 hk1 hS1 => ?_)
  subst hw1
  obtain ⟨hP1, hK1, hD1⟩ := hB
  rw [ht] at hP1
  exact kk H1 locs1 ⟨hK, hP1, hD1.weaken (fun _ _ _ q => hFc _ q), hS1⟩
end
theorem y_starti {l : Launch} {y : MethodName} {cc : ByteArray} {L : Nat} {rm : Room} {as : List Value} {σ σ' : ttS} {rv : Int32} {ret : Option FieldType} (hy : plainName y.cls = true) (hcls : y.cls = RX1) (hL : ∀ h : Nat → Nat, (lg_sl (.ref (h 0) :: as)).length ≤ L) (body : ∀ (p : Program) (e : Env) (s : State) (m : MethodId) (args : Array Value) (below : List Frame) (meth : Method) (c : Code) (D : va_G) (h : Nat → Nat) (d : Nat → ClassId) (A : Nat → Prop), CallFix p m c cc L s args lw_all RX1 → meth.sig.returnType = ret → meth.locks = false → (∀ q : Nat, s.heap.size ≤ q → A q) → bY D A h d σ s s.heap [] → ∀ ls : Array Slot, lv_has ls L (lv_args 0 (.ref (h 0) :: as)) → W p l e rm s m args below meth c s.heap [] 0 0 (yQi below D h d A args s rv σ') (F0 m 0 ls [])) : MY l y cc L ret rm as σ rv σ' := by
  intro D h d sz
  refine Met.ofW (cc := cc) (maxL := L) (ret := ret) hy rfl ?_
  intro p e s m args below meth c s₁ B hml hv
  obtain ⟨rfl, hsz, hP, hK, hD0⟩ := hv
  have hts := atoms_spec (ws := ws_ y cc L ret) B.pre
  have hts : ∀ w ∈ lw_all, w.before _ s = true := fun w h => hts w (List.mem_cons_of_mem _ h)
  have hown : s.vm.findClass RX1 = some m.cls := hcls ▸ findClass_of_methodNamed B.named
  subst hsz
  have hD := hD0.self (sz := s.heap.size)
  generalize hAe : va_A (cY h d σ) s.heap.size = A at hD ⊢
  have hA : ∀ q : Nat, s.heap.size ≤ q → A q := fun q h => by rw [← hAe]; exact Or.inr h
  have hl := lv_entry (.ref (h 0) :: as) (n := L) (hL h)
  rw [lg_entry_eq]
  exact body p e s m _ below meth c D h d A ⟨B.exec, B.bytes, hml, hown, hts⟩ B.returns B.notSynchronized hA ⟨hK, hP, hD, va_S.rf⟩ _ hl
theorem y_startv {l : Launch} {y : MethodName} {cc : ByteArray} {L : Nat} {rm : Room} {as : List Value} {σ σ' : ttS}  (hy : plainName y.cls = true) (hcls : y.cls = RX1) (hL : ∀ h : Nat → Nat, (lg_sl (.ref (h 0) :: as)).length ≤ L) (body : ∀ (p : Program) (e : Env) (s : State) (m : MethodId) (args : Array Value) (below : List Frame) (meth : Method) (c : Code) (D : va_G) (h : Nat → Nat) (d : Nat → ClassId) (A : Nat → Prop), CallFix p m c cc L s args lw_all RX1 → meth.sig.returnType = none → meth.locks = false → (∀ q : Nat, s.heap.size ≤ q → A q) → bY D A h d σ s s.heap [] → ∀ ls : Array Slot, lv_has ls L (lv_args 0 (.ref (h 0) :: as)) → W p l e rm s m args below meth c s.heap [] 0 0 (yQv below D h d A args s σ') (F0 m 0 ls [])) : MYv l y cc L rm as σ σ' := by
  intro D h d sz
  refine Met.ofW (cc := cc) (maxL := L) (ret := none) hy rfl ?_
  intro p e s m args below meth c s₁ B hml hv
  obtain ⟨rfl, hsz, hP, hK, hD0⟩ := hv
  have hts := atoms_spec (ws := ws_ y cc L none) B.pre
  have hts : ∀ w ∈ lw_all, w.before _ s = true := fun w h => hts w (List.mem_cons_of_mem _ h)
  have hown : s.vm.findClass RX1 = some m.cls := hcls ▸ findClass_of_methodNamed B.named
  subst hsz
  have hD := hD0.self (sz := s.heap.size)
  generalize hAe : va_A (cY h d σ) s.heap.size = A at hD ⊢
  have hA : ∀ q : Nat, s.heap.size ≤ q → A q := fun q h => by rw [← hAe]; exact Or.inr h
  have hl := lv_entry (.ref (h 0) :: as) (n := L) (hL h)
  rw [lg_entry_eq]
  exact body p e s m _ below meth c D h d A ⟨B.exec, B.bytes, hml, hown, hts⟩ B.returns B.notSynchronized hA ⟨hK, hP, hD, va_S.rf⟩ _ hl
theorem s_start {l : Launch} {y : MethodName} {cc : ByteArray} {L : Nat} {rm : Room} {as : List Value} {rv : Int32} (hy : plainName y.cls = true) (hL : (lg_sl as).length ≤ L) (body : ∀ (p : Program) (e : Env) (s : State) (m : MethodId) (below : List Frame) (meth : Method) (c : Code), p.tables.exec = Jvm.exec → c.code = cc → meth.sig.returnType = some .int → meth.locks = false → ∀ ls : Array Slot, lv_has ls L (lv_args 0 as) → W p l e rm s m as.toArray below meth c s.heap [] 0 0 (MQ below (va_Qi (fun (r : Int32) (_ : Unit) => r = rv) (fun _ _ => True) (fun _ => False)) as.toArray s 0 0 (fun _ => False)) (F0 m 0 ls [])) : MS l y cc L rm as rv := by
  refine Met.ofW (cc := cc) (maxL := L) (ret := some .int) hy rfl ?_
  intro p e s m args below meth c s₁ B hml hv
  obtain ⟨rfl, -⟩ := hv
  have hl := lv_entry as (n := L) hL
  rw [lg_entry_eq]
  exact body p e s m below meth c B.exec B.bytes B.returns B.notSynchronized _ hl
theorem s_iret {p : Program} {l : Launch} {e : Env} {R : Room} {s : State} {m : MethodId} {args : Array Value} {below : List Frame} {meth : Method} {c : Code} {cc : ByteArray} {pc : Nat} {ls : Array Slot} {v rv : Int32} (hx : p.tables.exec = Jvm.exec) (hb : c.code = cc) (hr : meth.sig.returnType = some .int) (hk : meth.locks = false) (hv : v = rv) (hdg : decode cc pc = .ok (.ireturn, 1)) : W p l e R s m args below meth c s.heap [] 0 0 (MQ below (va_Qi (fun (r : Int32) (_ : Unit) => r = rv) (fun _ _ => True) (fun _ => False)) args s 0 0 (fun _ => False)) (F0 m pc ls [.int v]) := by
  subst hv
  exact W.iret (v := v) hx hb hr (fun t ht hW => ⟨⟨v, (), rfl, rfl, trivial⟩, va_S.F va_S.rf ht⟩) (fun q h => by cases h) hdg hk
/-- the number on top under another name -/
theorem tt_top {p : Program} {l : Launch} {e : Env} {R : Room} {s : State} {m : MethodId} {args : Array Value} {below : List Frame} {meth : Method} {c : Code} {H : Heap} {locs : List Loc} {cells slots : Nat} {Q : State → Prop} {pc : Nat} {ls : Array Slot} {rest : List Value} {x : Int32} (y : Int32) (h : x = y) (k : W p l e R s m args below meth c H locs cells slots Q (F0 m pc ls (.int y :: rest))) : W p l e R s m args below meth c H locs cells slots Q (F0 m pc ls (.int x :: rest)) := h ▸ k
theorem tt_mul4 (a : Nat) : nI a * 4 = nI (a * 4) := pk_mul a 4
theorem tt_add1 (a : Nat) : nI a + 1 = nI (a + 1) := nI_1 a
theorem tt_add2 (a : Nat) : nI a + 2 = nI (a + 2) := nI_add a 2
theorem tt_add3 (a : Nat) : nI a + 3 = nI (a + 3) := nI_add a 3
theorem tt_sub1 (a : Nat) : nI (a + 1) - 1 = nI a := nI_pred a
theorem tt_dec (a : Nat) : nI (a + 1) + Int32.ofInt (-1) = nI a := pk_m1 a
theorem tt_inc (a : Nat) : nI a + Int32.ofInt 1 = nI (a + 1) := nI_1 a
end
section
/-! the component's methods as plain functions of its cells: building and questions -/
def xClear (σ : ttS) (n : Nat) (u t : Int32) : ttS := ttU (ttU (ttU (ttU (ttU (ttU (ttU (ttU σ 1 n t) 2 n u) 3 n (-1)) 4 n (-1)) 5 n (-1)) 7 n 1) 8 n 1) 9 n 1
def xNoNode (σ : ttS) (x : Int32) : Int32 := if x < 0 then 1 else if x < σ 0 0 then 0 else 1
def xNoCont (σ : ttS) (x : Int32) : Int32 := if xNoNode σ x = 0 then (if σ 1 x.toNatClampNeg = 0 then 0 else 1) else 1
def xNoTest (σ : ttS) (x : Int32) : Int32 := if xNoNode σ x = 0 then (if σ 1 x.toNatClampNeg = 0 then 1 else 0) else 1
theorem tt_in {n0 x : Int32} {N : Nat} (h1 : ¬ x < 0) (h2 : x < n0) (hN : n0 = nI N) (h24 : N ≤ 24) : vp_in x 24 := by
  subst hN
  obtain ⟨j, hj, rfl⟩ := nI_of h1
  have := (nI_ltI hj (by omega)).mp h2
  exact vp_in_nI (by omega) (by decide)
theorem tt_NN {σ : ttS} {x : Int32} (h : xNoNode σ x = 0) : ¬ x < 0 ∧ x < σ 0 0 := by
  unfold xNoNode at h
  by_cases h1 : x < 0
  · rw [if_pos h1] at h; exact absurd h (by decide)
  · rw [if_neg h1] at h
    by_cases h2 : x < σ 0 0
    · exact ⟨h1, h2⟩
    · rw [if_neg h2] at h; exact absurd h (by decide)
theorem tt_inN {σ : ttS} {x : Int32} {N : Nat} (h : xNoNode σ x = 0) (hN : σ 0 0 = nI N) (h24 : N ≤ 24) : vp_in x 24 := tt_in (tt_NN h).1 (tt_NN h).2 hN h24
theorem tt_NC {σ : ttS} {x : Int32} (h : xNoCont σ x = 0) : xNoNode σ x = 0 ∧ σ 1 x.toNatClampNeg = 0 := by
  unfold xNoCont at h
  by_cases h1 : xNoNode σ x = 0
  · rw [if_pos h1] at h
    by_cases h2 : σ 1 x.toNatClampNeg = 0
    · exact ⟨h1, h2⟩
    · rw [if_neg h2] at h; exact absurd h (by decide)
  · rw [if_neg h1] at h; exact absurd h (by decide)
theorem tt_NT {σ : ttS} {x : Int32} (h : xNoTest σ x = 0) : xNoNode σ x = 0 ∧ ¬ σ 1 x.toNatClampNeg = 0 := by
  unfold xNoTest at h
  by_cases h1 : xNoNode σ x = 0
  · rw [if_pos h1] at h
    by_cases h2 : σ 1 x.toNatClampNeg = 0
    · rw [if_pos h2] at h; exact absurd h (by decide)
    · exact ⟨h1, h2⟩
  · rw [if_neg h1] at h; exact absurd h (by decide)
theorem tt_in4 {x w : Int32} (h : vp_in x 24) (h1 : ¬ w < 0) (h2 : w ≤ 3) : vp_in (x * 4 + w) 96 := by
  obtain ⟨j, hj, rfl⟩ := vp_in_of h (by decide)
  obtain ⟨k, hk, rfl⟩ := nI_of h1
  have hk3 : k ≤ 3 := (nI_leI hk (by decide)).mp h2
  rw [show nI j * 4 = nI (j * 4) from pk_mul j 4, nI_add]
  exact vp_in_nI (by omega) (by decide)
theorem tt_lt24 {n0 : Int32} {N : Nat} (h : n0 < 24) (hN : n0 = nI N) (h24 : N ≤ 24) : N < 24 := by
  subst hN
  exact (nI_ltI (b := 24) (by omega) (by decide)).mp h
theorem tt_ofin {x : Int32} {n : Nat} (h : vp_in x n) (hn : n < 2 ^ 31) : x = nI x.toNatClampNeg ∧ x.toNatClampNeg < n := by
  obtain ⟨j, hj, rfl⟩ := vp_in_of h hn
  rw [nI_clamp (by omega)]
  exact ⟨rfl, hj⟩
def xAdd2 (σ : ttS) (N : Nat) (x : Int32) : ttS :=
  let σ2 := if 0 ≤ σ 4 x.toNatClampNeg then ttU σ 5 (σ 4 x.toNatClampNeg).toNatClampNeg (nI N) else ttU σ 3 x.toNatClampNeg (nI N)
  let σ3 := ttU σ2 4 x.toNatClampNeg (nI N)
  ttU σ3 0 0 (σ3 0 0 + 1)
def xAddR (σ : ttS) (N : Nat) (x : Int32) : Int32 := if xNoCont σ x = 0 then (if σ 0 0 < 24 then nI N else -2) else -1
def xAddS (σ : ttS) (N : Nat) (x t : Int32) : ttS := if xNoCont σ x = 0 then (if σ 0 0 < 24 then xAdd2 (xClear σ N x t) N x else σ) else σ
theorem tt_clear4 (σ : ttS) (N : Nat) (x t : Int32) (j : Nat) (h : j ≠ N) : xClear σ N x t 4 j = σ 4 j := by
  show upd (σ 4) N (-1) j = σ 4 j
  simp [upd, h]
theorem tt_ixN {σ : ttS} {x : Int32} {N : Nat} (h : xNoNode σ x = 0) (hN : σ 0 0 = nI N) (h24 : N ≤ 24) : x.toNatClampNeg < N := by
  obtain ⟨h1, h2⟩ := tt_NN h
  obtain ⟨j, hj, rfl⟩ := nI_of h1
  rw [hN] at h2
  rw [nI_clamp hj]
  exact (nI_ltI hj (by omega)).mp h2
def xHookR (σ : ttS) (x w o : Int32) : Int32 := if xNoCont σ x = 0 then (if w < 0 then -3 else if 3 < w then -3 else if o < 0 then -3 else if o ≤ 3 then σ 6 (x * 4 + w).toNatClampNeg else -3) else -1
def xHookS (σ : ttS) (x w o : Int32) : ttS := if xNoCont σ x = 0 then (if w < 0 then σ else if 3 < w then σ else if o < 0 then σ else if o ≤ 3 then ttU σ 6 (x * 4 + w).toNatClampNeg o else σ) else σ
def xBodyR (σ : ttS) (x a : Int32) : Int32 := if xNoTest σ x = 0 then (if a < 1 then -3 else if a ≤ 4 then 0 else -3) else -1
def xBodyS (σ : ttS) (x a o : Int32) : ttS := if xNoTest σ x = 0 then (if a < 1 then σ else if a ≤ 4 then ttU (ttU σ 7 x.toNatClampNeg a) 8 x.toNatClampNeg o else σ) else σ
def xTagsR (σ : ttS) (x : Int32) : Int32 := if xNoTest σ x = 0 then 0 else -1
def xTagsS (σ : ttS) (x g : Int32) : ttS := if xNoTest σ x = 0 then ttU σ 9 x.toNatClampNeg g else σ
def xDisR (σ : ttS) (x : Int32) : Int32 := if xNoNode σ x = 0 then (if σ 10 x.toNatClampNeg = 0 then 0 else 1) else -1
def xDisS (σ : ttS) (x b : Int32) : ttS := if xNoNode σ x = 0 then ttU σ 10 x.toNatClampNeg b else σ
def xResR (σ : ttS) (x : Int32) : Int32 := if xNoNode σ x = 0 then σ 11 x.toNatClampNeg else -1
def xAttR (σ : ttS) (x : Int32) : Int32 := if xNoNode σ x = 0 then σ 13 x.toNatClampNeg else -1
def xTimR (σ : ttS) (x w : Int32) : Int32 := if xNoNode σ x = 0 then (if w < 0 then -1 else if w ≤ 3 then σ 12 (x * 4 + w).toNatClampNeg else -1) else -1
/-- how many of the first i nodes are tests with the result r -/
def xCnt (σ : ttS) (r : Int32) : Nat → Int32
  | 0 => 0
  | i + 1 => if σ 1 i = 0 then xCnt σ r i else if σ 11 i = r then xCnt σ r i + 1 else xCnt σ r i
def xCntR (σ : ttS) (N : Nat) (r : Int32) : Int32 := if r < 1 then 0 else if r ≤ 3 then xCnt σ r N else 0
end
section
set_option maxRecDepth 100000
set_option maxHeartbeats 4000000 in
set_option maxRecDepth 100000 in
theorem metX_clearNode (l : Launch) (σ : ttS) (n : Nat) (u t : Int32) (hn : n < 24) (ht : vp_nar .boolean t = t) : MXv l yX0_clearNode cX0_clearNode 4 (rmL 0) [.int (nI n), .int u, .int t] σ (xClear σ n u t) := by
  refine x_startv rfl rfl (fun h => Nat.le_of_ble_eq_true rfl) ?_
  intro p e s m args below meth c D h d A S hr hk hA hI ls hl
  have hx := S.1
  have hb := S.2.1
  have hl : lv_has ls 4 [(0, .ref (h 0)), (1, .int (nI n)), (2, .int u), (3, .int t)] := hl
  refine lv_aload_n hx hb dX0_clearNode_0 rfl (lv_at hl 0 rfl) ?_
  refine x_get_1 S hI dX0_clearNode_1 ?_
  refine lv_iload_n hx hb dX0_clearNode_4 rfl (lv_at hl 1 rfl) ?_
  refine lv_iload_n hx hb dX0_clearNode_5 rfl (lv_at hl 3 rfl) ?_
  refine x_asn_1 S hI (by omega) ht dX0_clearNode_6 (fun H locs hI => ?_)
  refine lv_aload_n hx hb dX0_clearNode_7 rfl (lv_at hl 0 rfl) ?_
  refine x_get_2 S hI dX0_clearNode_8 ?_
  refine lv_iload_n hx hb dX0_clearNode_11 rfl (lv_at hl 1 rfl) ?_
  refine lv_iload_n hx hb dX0_clearNode_12 rfl (lv_at hl 2 rfl) ?_
  refine x_asn_2 S hI (by omega) dX0_clearNode_13 (fun H locs hI => ?_)
  refine lv_aload_n hx hb dX0_clearNode_14 rfl (lv_at hl 0 rfl) ?_
  refine x_get_3 S hI dX0_clearNode_15 ?_
  refine lv_iload_n hx hb dX0_clearNode_18 rfl (lv_at hl 1 rfl) ?_
  refine lv_iconst (v := -1) hx hb dX0_clearNode_19 (by decide) ?_
  refine x_asn_3 S hI (by omega) dX0_clearNode_20 (fun H locs hI => ?_)
  refine lv_aload_n hx hb dX0_clearNode_21 rfl (lv_at hl 0 rfl) ?_
  refine x_get_4 S hI dX0_clearNode_22 ?_
  refine lv_iload_n hx hb dX0_clearNode_25 rfl (lv_at hl 1 rfl) ?_
  refine lv_iconst (v := -1) hx hb dX0_clearNode_26 (by decide) ?_
  refine x_asn_4 S hI (by omega) dX0_clearNode_27 (fun H locs hI => ?_)
  refine lv_aload_n hx hb dX0_clearNode_28 rfl (lv_at hl 0 rfl) ?_
  refine x_get_5 S hI dX0_clearNode_29 ?_
  refine lv_iload_n hx hb dX0_clearNode_32 rfl (lv_at hl 1 rfl) ?_
  refine lv_iconst (v := -1) hx hb dX0_clearNode_33 (by decide) ?_
  refine x_asn_5 S hI (by omega) dX0_clearNode_34 (fun H locs hI => ?_)
  refine lv_aload_n hx hb dX0_clearNode_35 rfl (lv_at hl 0 rfl) ?_
  refine x_get_7 S hI dX0_clearNode_36 ?_
  refine lv_iload_n hx hb dX0_clearNode_39 rfl (lv_at hl 1 rfl) ?_
  refine lv_iconst (v := 1) hx hb dX0_clearNode_40 (by decide) ?_
  refine x_asn_7 S hI (by omega) dX0_clearNode_41 (fun H locs hI => ?_)
  refine lv_aload_n hx hb dX0_clearNode_42 rfl (lv_at hl 0 rfl) ?_
  refine x_get_8 S hI dX0_clearNode_43 ?_
  refine lv_iload_n hx hb dX0_clearNode_46 rfl (lv_at hl 1 rfl) ?_
  refine lv_iconst (v := 1) hx hb dX0_clearNode_47 (by decide) ?_
  refine x_asn_8 S hI (by omega) dX0_clearNode_48 (fun H locs hI => ?_)
  refine lv_aload_n hx hb dX0_clearNode_49 rfl (lv_at hl 0 rfl) ?_
  refine x_get_9 S hI dX0_clearNode_50 ?_
  refine lv_iload_n hx hb dX0_clearNode_53 rfl (lv_at hl 1 rfl) ?_
  refine lv_iconst (v := 1) hx hb dX0_clearNode_54 (by decide) ?_
  refine x_asn_9 S hI (by omega) dX0_clearNode_55 (fun H locs hI => ?_)
  exact x_vret S hI hr hk rfl dX0_clearNode_56
set_option maxHeartbeats 4000000 in
set_option maxRecDepth 100000 in
theorem metX_noNode (l : Launch) (σ : ttS) (x : Int32) : MX l yX0_noNode cX0_noNode 2 (some .boolean) (rmL 0) [.int x] σ (xNoNode σ x) σ := by
  refine x_starti rfl rfl (fun h => Nat.le_of_ble_eq_true rfl) ?_
  intro p e s m args below meth c D h d A S hr hk hA hI ls hl
  have hx := S.1
  have hb := S.2.1
  have hl : lv_has ls 2 [(0, .ref (h 0)), (1, .int x)] := hl
  refine lv_iload_n hx hb dX0_noNode_0 rfl (lv_at hl 1 rfl) ?_
  refine lv_if_lt (tgt := 12) hx hb dX0_noNode_1 (by decide) (fun c_1 => ?_) (fun c_1 => ?_)
  · refine lv_iconst (v := 1) hx hb dX0_noNode_12 (by decide) ?_
    refine lv_goto (tgt := 17) hx hb dX0_noNode_13 (by decide) ?_
    exact x_zret S hI hr hk rfl (by simp [xNoNode, c_1]) rfl dX0_noNode_17
  · refine lv_iload_n hx hb dX0_noNode_4 rfl (lv_at hl 1 rfl) ?_
    refine lv_aload_n hx hb dX0_noNode_5 rfl (lv_at hl 0 rfl) ?_
    refine x_get_0 S hI dX0_noNode_6 ?_
    refine lv_icmp_lt (tgt := 16) hx hb dX0_noNode_9 (by decide) (fun c_9 => ?_) (fun c_9 => ?_)
    · refine lv_iconst (v := 0) hx hb dX0_noNode_16 (by decide) ?_
      exact x_zret S hI hr hk rfl (by simp [xNoNode, c_1, c_9]) rfl dX0_noNode_17
    · refine lv_iconst (v := 1) hx hb dX0_noNode_12 (by decide) ?_
      refine lv_goto (tgt := 17) hx hb dX0_noNode_13 (by decide) ?_
      exact x_zret S hI hr hk rfl (by simp [xNoNode, c_1, c_9]) rfl dX0_noNode_17
set_option maxHeartbeats 4000000 in
set_option maxRecDepth 100000 in
theorem metX_noContainer (l : Launch) (σ : ttS) (x : Int32) {N : Nat} (hN : σ 0 0 = nI N) (h24 : N ≤ 24) : MX l yX0_noContainer cX0_noContainer 2 (some .boolean) (rmL 1) [.int x] σ (xNoCont σ x) σ := by
  refine x_starti rfl rfl (fun h => Nat.le_of_ble_eq_true rfl) ?_
  intro p e s m args below meth c D h d A S hr hk hA hI ls hl
  have hx := S.1
  have hb := S.2.1
  have hl : lv_has ls 2 [(0, .ref (h 0)), (1, .int x)] := hl
  refine lv_aload_n hx hb dX0_noContainer_0 rfl (lv_at hl 0 rfl) ?_
  refine lv_iload_n hx hb dX0_noContainer_1 rfl (lv_at hl 1 rfl) ?_
  refine x_calli (n := 1) S hI hA [.int x] (metX_noNode l _ x) (lw_V q113 q115 qs3 q27 q116) rfl rfl (by decide +kernel) ⟨by decide, by decide⟩ rfl hl.1 rfl (by decide) dX0_noContainer_2 ⟨by decide, by decide⟩ (fun H locs hI => ?_)
  refine lv_if_ne (tgt := 17) hx hb dX0_noContainer_5 (by decide) (fun c_5 => ?_) (fun c_5 => ?_)
  · refine lv_iconst (v := 1) hx hb dX0_noContainer_17 (by decide) ?_
    refine lv_goto (tgt := 22) hx hb dX0_noContainer_18 (by decide) ?_
    exact x_zret S hI hr hk rfl (by simp [xNoCont, c_5]) rfl dX0_noContainer_22
  · refine lv_aload_n hx hb dX0_noContainer_8 rfl (lv_at hl 0 rfl) ?_
    refine x_get_1 S hI dX0_noContainer_9 ?_
    refine lv_iload_n hx hb dX0_noContainer_12 rfl (lv_at hl 1 rfl) ?_
    refine x_ald_1 S hI (tt_inN c_5 hN h24) dX0_noContainer_13 ?_
    refine lv_if_eq (tgt := 21) hx hb dX0_noContainer_14 (by decide) (fun c_14 => ?_) (fun c_14 => ?_)
    · refine lv_iconst (v := 0) hx hb dX0_noContainer_21 (by decide) ?_
      exact x_zret S hI hr hk rfl (by simp [xNoCont, c_5, c_14]) rfl dX0_noContainer_22
    · refine lv_iconst (v := 1) hx hb dX0_noContainer_17 (by decide) ?_
      refine lv_goto (tgt := 22) hx hb dX0_noContainer_18 (by decide) ?_
      exact x_zret S hI hr hk rfl (by simp [xNoCont, c_5, c_14]) rfl dX0_noContainer_22
set_option maxHeartbeats 4000000 in
set_option maxRecDepth 100000 in
theorem metX_noTest (l : Launch) (σ : ttS) (x : Int32) {N : Nat} (hN : σ 0 0 = nI N) (h24 : N ≤ 24) : MX l yX0_noTest cX0_noTest 2 (some .boolean) (rmL 1) [.int x] σ (xNoTest σ x) σ := by
  refine x_starti rfl rfl (fun h => Nat.le_of_ble_eq_true rfl) ?_
  intro p e s m args below meth c D h d A S hr hk hA hI ls hl
  have hx := S.1
  have hb := S.2.1
  have hl : lv_has ls 2 [(0, .ref (h 0)), (1, .int x)] := hl
  refine lv_aload_n hx hb dX0_noTest_0 rfl (lv_at hl 0 rfl) ?_
  refine lv_iload_n hx hb dX0_noTest_1 rfl (lv_at hl 1 rfl) ?_
  refine x_calli (n := 1) S hI hA [.int x] (metX_noNode l _ x) (lw_V q113 q115 qs3 q27 q116) rfl rfl (by decide +kernel) ⟨by decide, by decide⟩ rfl hl.1 rfl (by decide) dX0_noTest_2 ⟨by decide, by decide⟩ (fun H locs hI => ?_)
  refine lv_if_ne (tgt := 17) hx hb dX0_noTest_5 (by decide) (fun c_5 => ?_) (fun c_5 => ?_)
  · refine lv_iconst (v := 1) hx hb dX0_noTest_17 (by decide) ?_
    refine lv_goto (tgt := 22) hx hb dX0_noTest_18 (by decide) ?_
    exact x_zret S hI hr hk rfl (by simp [xNoTest, c_5]) rfl dX0_noTest_22
  · refine lv_aload_n hx hb dX0_noTest_8 rfl (lv_at hl 0 rfl) ?_
    refine x_get_1 S hI dX0_noTest_9 ?_
    refine lv_iload_n hx hb dX0_noTest_12 rfl (lv_at hl 1 rfl) ?_
    refine x_ald_1 S hI (tt_inN c_5 hN h24) dX0_noTest_13 ?_
    refine lv_if_ne (tgt := 21) hx hb dX0_noTest_14 (by decide) (fun c_14 => ?_) (fun c_14 => ?_)
    · refine lv_iconst (v := 0) hx hb dX0_noTest_21 (by decide) ?_
      exact x_zret S hI hr hk rfl (by simp [xNoTest, c_5, c_14]) rfl dX0_noTest_22
    · refine lv_iconst (v := 1) hx hb dX0_noTest_17 (by decide) ?_
      refine lv_goto (tgt := 22) hx hb dX0_noTest_18 (by decide) ?_
      exact x_zret S hI hr hk rfl (by simp [xNoTest, c_5, c_14]) rfl dX0_noTest_22
set_option maxHeartbeats 4000000 in
set_option maxRecDepth 100000 in
theorem metX_add (l : Launch) (σ : ttS) (x t : Int32) {N : Nat} (hN : σ 0 0 = nI N) (h24 : N ≤ 24) (hlc : ∀ j, j < 24 → 0 ≤ σ 4 j → vp_in (σ 4 j) 24) (ht : vp_nar .boolean t = t) : MX l yX0_add cX0_add 4 (some .int) (rmL 2) [.int x, .int t] σ (xAddR σ N x) (xAddS σ N x t) := by
  refine x_starti rfl rfl (fun h => Nat.le_of_ble_eq_true rfl) ?_
  intro p e s m args below meth c D h d A S hr hk hA hI ls hl
  have hx := S.1
  have hb := S.2.1
  have hl : lv_has ls 4 [(0, .ref (h 0)), (1, .int x), (2, .int t)] := hl
  refine lv_aload_n hx hb dX0_add_0 rfl (lv_at hl 0 rfl) ?_
  refine lv_iload_n hx hb dX0_add_1 rfl (lv_at hl 1 rfl) ?_
  refine x_calli (n := 1) S hI hA [.int x] (metX_noContainer l _ x hN h24) (lw_V q109 q111 qs2 q27 q112) rfl rfl (by decide +kernel) ⟨by decide, by decide⟩ rfl hl.1 rfl (by decide) dX0_add_2 ⟨by decide, by decide⟩ (fun H locs hI => ?_)
  refine lv_if_eq (tgt := 10) hx hb dX0_add_5 (by decide) (fun c_5 => ?_) (fun c_5 => ?_)
  · refine lv_aload_n hx hb dX0_add_10 rfl (lv_at hl 0 rfl) ?_
    refine x_get_0 S hI dX0_add_11 ?_
    refine lv_bipush (v := 24) hx hb dX0_add_14 (by decide) ?_
    refine lv_icmp_lt (tgt := 22) hx hb dX0_add_16 (by decide) (fun c_16 => ?_) (fun c_16 => ?_)
    · have hN24 := tt_lt24 c_16 hN h24
      have hx24 := (tt_inN (tt_NC c_5).1 hN h24)
      have hxN := tt_ixN (tt_NC c_5).1 hN h24
      refine lv_aload_n hx hb dX0_add_22 rfl (lv_at hl 0 rfl) ?_
      refine x_get_0 S hI dX0_add_23 ?_
      refine tt_top (nI N) hN ?_
      refine lv_istore_n (lv' := [(3, .int (nI N)), (0, .ref (h 0)), (1, .int x), (2, .int t)]) hx hb dX0_add_26 rfl hl (by decide) rfl (fun ls hl => ?_)
      refine lv_aload_n hx hb dX0_add_27 rfl (lv_at hl 1 rfl) ?_
      refine lv_iload_n hx hb dX0_add_28 rfl (lv_at hl 0 rfl) ?_
      refine lv_iload_n hx hb dX0_add_29 rfl (lv_at hl 2 rfl) ?_
      refine lv_iload_n hx hb dX0_add_30 rfl (lv_at hl 3 rfl) ?_
      refine x_callv (n := 3) S hI hA [.int (nI N), .int x, .int t] (metX_clearNode l _ N x t hN24 ht) (lw_V q37 q39 qs0 q27 q40) rfl rfl (by decide +kernel) ⟨by decide, by decide⟩ rfl hl.1 rfl (by decide) dX0_add_31 ⟨by decide, by decide⟩ (fun H locs hI => ?_)
      refine lv_aload_n hx hb dX0_add_34 rfl (lv_at hl 1 rfl) ?_
      refine x_get_4 S hI dX0_add_35 ?_
      refine lv_iload_n hx hb dX0_add_38 rfl (lv_at hl 2 rfl) ?_
      refine x_ald_4 S hI hx24 dX0_add_39 ?_
      refine lv_if_ge (tgt := 53) hx hb dX0_add_40 (by decide) (fun c_40 => ?_) (fun c_40 => ?_)
      · refine lv_aload_n hx hb dX0_add_53 rfl (lv_at hl 1 rfl) ?_
        refine x_get_5 S hI dX0_add_54 ?_
        refine lv_aload_n hx hb dX0_add_57 rfl (lv_at hl 1 rfl) ?_
        refine x_get_4 S hI dX0_add_58 ?_
        refine lv_iload_n hx hb dX0_add_61 rfl (lv_at hl 2 rfl) ?_
        refine x_ald_4 S hI hx24 dX0_add_62 ?_
        refine lv_iload_n hx hb dX0_add_63 rfl (lv_at hl 0 rfl) ?_
        refine x_ast_5 S hI (by rw [tt_clear4 _ _ _ _ _ (Nat.ne_of_lt hxN)]; rw [tt_clear4 _ _ _ _ _ (Nat.ne_of_lt hxN)] at c_40; exact hlc _ (by omega) c_40) dX0_add_64 (fun H locs hI => ?_)
        refine lv_aload_n hx hb dX0_add_65 rfl (lv_at hl 1 rfl) ?_
        refine x_get_4 S hI dX0_add_66 ?_
        refine lv_iload_n hx hb dX0_add_69 rfl (lv_at hl 2 rfl) ?_
        refine lv_iload_n hx hb dX0_add_70 rfl (lv_at hl 0 rfl) ?_
        refine x_ast_4 S hI hx24 dX0_add_71 (fun H locs hI => ?_)
        refine lv_aload_n hx hb dX0_add_72 rfl (lv_at hl 1 rfl) ?_
        refine lv_dup hx hb dX0_add_73 rfl ?_
        refine x_get_0 S hI dX0_add_74 ?_
        refine lv_iconst (v := 1) hx hb dX0_add_77 (by decide) ?_
        refine lv_iadd hx hb dX0_add_78 ?_
        refine x_put_0 S hI dX0_add_79 (fun H locs hI => ?_)
        refine lv_iload_n hx hb dX0_add_82 rfl (lv_at hl 0 rfl) ?_
        exact x_iret S hI hr hk (by simp [xAddR, xAddS, xAdd2, c_5, c_16, c_40]) (by simp [xAddR, xAddS, xAdd2, c_5, c_16, c_40]) dX0_add_83
      · refine lv_aload_n hx hb dX0_add_43 rfl (lv_at hl 1 rfl) ?_
        refine x_get_3 S hI dX0_add_44 ?_
        refine lv_iload_n hx hb dX0_add_47 rfl (lv_at hl 2 rfl) ?_
        refine lv_iload_n hx hb dX0_add_48 rfl (lv_at hl 0 rfl) ?_
        refine x_ast_3 S hI hx24 dX0_add_49 (fun H locs hI => ?_)
        refine lv_goto (tgt := 65) hx hb dX0_add_50 (by decide) ?_
        refine lv_aload_n hx hb dX0_add_65 rfl (lv_at hl 1 rfl) ?_
        refine x_get_4 S hI dX0_add_66 ?_
        refine lv_iload_n hx hb dX0_add_69 rfl (lv_at hl 2 rfl) ?_
        refine lv_iload_n hx hb dX0_add_70 rfl (lv_at hl 0 rfl) ?_
        refine x_ast_4 S hI hx24 dX0_add_71 (fun H locs hI => ?_)
        refine lv_aload_n hx hb dX0_add_72 rfl (lv_at hl 1 rfl) ?_
        refine lv_dup hx hb dX0_add_73 rfl ?_
        refine x_get_0 S hI dX0_add_74 ?_
        refine lv_iconst (v := 1) hx hb dX0_add_77 (by decide) ?_
        refine lv_iadd hx hb dX0_add_78 ?_
        refine x_put_0 S hI dX0_add_79 (fun H locs hI => ?_)
        refine lv_iload_n hx hb dX0_add_82 rfl (lv_at hl 0 rfl) ?_
        exact x_iret S hI hr hk (by simp [xAddR, xAddS, xAdd2, c_5, c_16, c_40]) (by simp [xAddR, xAddS, xAdd2, c_5, c_16, c_40]) dX0_add_83
    · refine lv_bipush (v := -2) hx hb dX0_add_19 (by decide) ?_
      exact x_iret S hI hr hk (by simp [xAddR, xAddS, xAdd2, c_5, c_16]) (by simp [xAddR, xAddS, xAdd2, c_5, c_16]) dX0_add_21
  · refine lv_iconst (v := -1) hx hb dX0_add_8 (by decide) ?_
    exact x_iret S hI hr hk (by simp [xAddR, xAddS, xAdd2, c_5]) (by simp [xAddR, xAddS, xAdd2, c_5]) dX0_add_9
set_option maxHeartbeats 4000000 in
set_option maxRecDepth 100000 in
theorem metX_container (l : Launch) (σ : ttS) (x : Int32) {N : Nat} (hN : σ 0 0 = nI N) (h24 : N ≤ 24) (hlc : ∀ j, j < 24 → 0 ≤ σ 4 j → vp_in (σ 4 j) 24) : MX l yX0_container cX0_container 2 (some .int) (rmL 3) [.int x] σ (xAddR σ N x) (xAddS σ N x 0) := by
  refine x_starti rfl rfl (fun h => Nat.le_of_ble_eq_true rfl) ?_
  intro p e s m args below meth c D h d A S hr hk hA hI ls hl
  have hx := S.1
  have hb := S.2.1
  have hl : lv_has ls 2 [(0, .ref (h 0)), (1, .int x)] := hl
  refine lv_aload_n hx hb dX0_container_0 rfl (lv_at hl 0 rfl) ?_
  refine lv_iload_n hx hb dX0_container_1 rfl (lv_at hl 1 rfl) ?_
  refine lv_iconst (v := 0) hx hb dX0_container_2 (by decide) ?_
  refine x_calli (n := 2) S hI hA [.int x, .int 0] (metX_add l _ x 0 hN h24 hlc rfl) (lw_V q105 q107 qs1 q27 q108) rfl rfl (by decide +kernel) ⟨by decide, by decide⟩ rfl hl.1 rfl (by decide) dX0_container_3 ⟨by decide, by decide⟩ (fun H locs hI => ?_)
  exact x_iret S hI hr hk rfl rfl dX0_container_6
set_option maxHeartbeats 4000000 in
set_option maxRecDepth 100000 in
theorem metX_test (l : Launch) (σ : ttS) (x : Int32) {N : Nat} (hN : σ 0 0 = nI N) (h24 : N ≤ 24) (hlc : ∀ j, j < 24 → 0 ≤ σ 4 j → vp_in (σ 4 j) 24) : MX l yX0_test cX0_test 2 (some .int) (rmL 3) [.int x] σ (xAddR σ N x) (xAddS σ N x 1) := by
  refine x_starti rfl rfl (fun h => Nat.le_of_ble_eq_true rfl) ?_
  intro p e s m args below meth c D h d A S hr hk hA hI ls hl
  have hx := S.1
  have hb := S.2.1
  have hl : lv_has ls 2 [(0, .ref (h 0)), (1, .int x)] := hl
  refine lv_aload_n hx hb dX0_test_0 rfl (lv_at hl 0 rfl) ?_
  refine lv_iload_n hx hb dX0_test_1 rfl (lv_at hl 1 rfl) ?_
  refine lv_iconst (v := 1) hx hb dX0_test_2 (by decide) ?_
  refine x_calli (n := 2) S hI hA [.int x, .int 1] (metX_add l _ x 1 hN h24 hlc rfl) (lw_V q105 q107 qs1 q27 q108) rfl rfl (by decide +kernel) ⟨by decide, by decide⟩ rfl hl.1 rfl (by decide) dX0_test_3 ⟨by decide, by decide⟩ (fun H locs hI => ?_)
  exact x_iret S hI hr hk rfl rfl dX0_test_6
set_option maxHeartbeats 4000000 in
set_option maxRecDepth 100000 in
theorem metX_hook (l : Launch) (σ : ttS) (x w o : Int32) {N : Nat} (hN : σ 0 0 = nI N) (h24 : N ≤ 24) : MX l yX0_hook cX0_hook 5 (some .int) (rmL 2) [.int x, .int w, .int o] σ (xHookR σ x w o) (xHookS σ x w o) := by
  refine x_starti rfl rfl (fun h => Nat.le_of_ble_eq_true rfl) ?_
  intro p e s m args below meth c D h d A S hr hk hA hI ls hl
  have hx := S.1
  have hb := S.2.1
  have hl : lv_has ls 5 [(0, .ref (h 0)), (1, .int x), (2, .int w), (3, .int o)] := hl
  refine lv_aload_n hx hb dX0_hook_0 rfl (lv_at hl 0 rfl) ?_
  refine lv_iload_n hx hb dX0_hook_1 rfl (lv_at hl 1 rfl) ?_
  refine x_calli (n := 1) S hI hA [.int x] (metX_noContainer l _ x hN h24) (lw_V q109 q111 qs2 q27 q112) rfl rfl (by decide +kernel) ⟨by decide, by decide⟩ rfl hl.1 rfl (by decide) dX0_hook_2 ⟨by decide, by decide⟩ (fun H locs hI => ?_)
  refine lv_if_eq (tgt := 10) hx hb dX0_hook_5 (by decide) (fun c_5 => ?_) (fun c_5 => ?_)
  · refine lv_iload_n hx hb dX0_hook_10 rfl (lv_at hl 2 rfl) ?_
    refine lv_if_lt (tgt := 28) hx hb dX0_hook_11 (by decide) (fun c_11 => ?_) (fun c_11 => ?_)
    · refine lv_bipush (v := -3) hx hb dX0_hook_28 (by decide) ?_
      exact x_iret S hI hr hk (by simp [xHookR, xHookS, c_5, c_11]) (by simp [xHookR, xHookS, c_5, c_11]) dX0_hook_30
    · refine lv_iload_n hx hb dX0_hook_14 rfl (lv_at hl 2 rfl) ?_
      refine lv_iconst (v := 3) hx hb dX0_hook_15 (by decide) ?_
      refine lv_icmp_gt (tgt := 28) hx hb dX0_hook_16 (by decide) (fun c_16 => ?_) (fun c_16 => ?_)
      · refine lv_bipush (v := -3) hx hb dX0_hook_28 (by decide) ?_
        exact x_iret S hI hr hk (by simp [xHookR, xHookS, c_5, c_11, c_16]) (by simp [xHookR, xHookS, c_5, c_11, c_16]) dX0_hook_30
      · refine lv_iload_n hx hb dX0_hook_19 rfl (lv_at hl 3 rfl) ?_
        refine lv_if_lt (tgt := 28) hx hb dX0_hook_20 (by decide) (fun c_20 => ?_) (fun c_20 => ?_)
        · refine lv_bipush (v := -3) hx hb dX0_hook_28 (by decide) ?_
          exact x_iret S hI hr hk (by simp [xHookR, xHookS, c_5, c_11, c_16, c_20]) (by simp [xHookR, xHookS, c_5, c_11, c_16, c_20]) dX0_hook_30
        · refine lv_iload_n hx hb dX0_hook_23 rfl (lv_at hl 3 rfl) ?_
          refine lv_iconst (v := 3) hx hb dX0_hook_24 (by decide) ?_
          refine lv_icmp_le (tgt := 31) hx hb dX0_hook_25 (by decide) (fun c_25 => ?_) (fun c_25 => ?_)
          · refine lv_aload_n hx hb dX0_hook_31 rfl (lv_at hl 0 rfl) ?_
            refine x_get_6 S hI dX0_hook_32 ?_
            refine lv_iload_n hx hb dX0_hook_35 rfl (lv_at hl 1 rfl) ?_
            refine lv_iconst (v := 4) hx hb dX0_hook_36 (by decide) ?_
            refine lv_imul hx hb dX0_hook_37 ?_
            refine lv_iload_n hx hb dX0_hook_38 rfl (lv_at hl 2 rfl) ?_
            refine lv_iadd hx hb dX0_hook_39 ?_
            refine x_ald_6 S hI (tt_in4 (tt_inN (tt_NC c_5).1 hN h24) c_11 (Int32.not_lt.mp c_16)) dX0_hook_40 ?_
            refine lv_istore (lv' := [(4, .int (σ 6 ((x * 4) + w).toNatClampNeg)), (0, .ref (h 0)), (1, .int x), (2, .int w), (3, .int o)]) hx hb dX0_hook_41 hl (by decide) rfl (fun ls hl => ?_)
            refine lv_aload_n hx hb dX0_hook_43 rfl (lv_at hl 1 rfl) ?_
            refine x_get_6 S hI dX0_hook_44 ?_
            refine lv_iload_n hx hb dX0_hook_47 rfl (lv_at hl 2 rfl) ?_
            refine lv_iconst (v := 4) hx hb dX0_hook_48 (by decide) ?_
            refine lv_imul hx hb dX0_hook_49 ?_
            refine lv_iload_n hx hb dX0_hook_50 rfl (lv_at hl 3 rfl) ?_
            refine lv_iadd hx hb dX0_hook_51 ?_
            refine lv_iload_n hx hb dX0_hook_52 rfl (lv_at hl 4 rfl) ?_
            refine x_ast_6 S hI (tt_in4 (tt_inN (tt_NC c_5).1 hN h24) c_11 (Int32.not_lt.mp c_16)) dX0_hook_53 (fun H locs hI => ?_)
            refine lv_iload hx hb dX0_hook_54 (lv_at hl 0 rfl) ?_
            exact x_iret S hI hr hk (by simp [xHookR, xHookS, c_5, c_11, c_16, c_20, c_25]) (by simp [xHookR, xHookS, c_5, c_11, c_16, c_20, c_25]) dX0_hook_56
          · refine lv_bipush (v := -3) hx hb dX0_hook_28 (by decide) ?_
            exact x_iret S hI hr hk (by simp [xHookR, xHookS, c_5, c_11, c_16, c_20, c_25]) (by simp [xHookR, xHookS, c_5, c_11, c_16, c_20, c_25]) dX0_hook_30
  · refine lv_iconst (v := -1) hx hb dX0_hook_8 (by decide) ?_
    exact x_iret S hI hr hk (by simp [xHookR, xHookS, c_5]) (by simp [xHookR, xHookS, c_5]) dX0_hook_9
set_option maxHeartbeats 4000000 in
set_option maxRecDepth 100000 in
theorem metX_body (l : Launch) (σ : ttS) (x a o : Int32) {N : Nat} (hN : σ 0 0 = nI N) (h24 : N ≤ 24) : MX l yX0_body cX0_body 4 (some .int) (rmL 2) [.int x, .int a, .int o] σ (xBodyR σ x a) (xBodyS σ x a o) := by
  refine x_starti rfl rfl (fun h => Nat.le_of_ble_eq_true rfl) ?_
  intro p e s m args below meth c D h d A S hr hk hA hI ls hl
  have hx := S.1
  have hb := S.2.1
  have hl : lv_has ls 4 [(0, .ref (h 0)), (1, .int x), (2, .int a), (3, .int o)] := hl
  refine lv_aload_n hx hb dX0_body_0 rfl (lv_at hl 0 rfl) ?_
  refine lv_iload_n hx hb dX0_body_1 rfl (lv_at hl 1 rfl) ?_
  refine x_calli (n := 1) S hI hA [.int x] (metX_noTest l _ x hN h24) (lw_V q129 q131 qs4 q27 q132) rfl rfl (by decide +kernel) ⟨by decide, by decide⟩ rfl hl.1 rfl (by decide) dX0_body_2 ⟨by decide, by decide⟩ (fun H locs hI => ?_)
  refine lv_if_eq (tgt := 10) hx hb dX0_body_5 (by decide) (fun c_5 => ?_) (fun c_5 => ?_)
  · refine lv_iload_n hx hb dX0_body_10 rfl (lv_at hl 2 rfl) ?_
    refine lv_iconst (v := 1) hx hb dX0_body_11 (by decide) ?_
    refine lv_icmp_lt (tgt := 20) hx hb dX0_body_12 (by decide) (fun c_12 => ?_) (fun c_12 => ?_)
    · refine lv_bipush (v := -3) hx hb dX0_body_20 (by decide) ?_
      exact x_iret S hI hr hk (by simp [xBodyR, xBodyS, c_5, c_12]) (by simp [xBodyR, xBodyS, c_5, c_12]) dX0_body_22
    · refine lv_iload_n hx hb dX0_body_15 rfl (lv_at hl 2 rfl) ?_
      refine lv_iconst (v := 4) hx hb dX0_body_16 (by decide) ?_
      refine lv_icmp_le (tgt := 23) hx hb dX0_body_17 (by decide) (fun c_17 => ?_) (fun c_17 => ?_)
      · refine lv_aload_n hx hb dX0_body_23 rfl (lv_at hl 0 rfl) ?_
        refine x_get_7 S hI dX0_body_24 ?_
        refine lv_iload_n hx hb dX0_body_27 rfl (lv_at hl 1 rfl) ?_
        refine lv_iload_n hx hb dX0_body_28 rfl (lv_at hl 2 rfl) ?_
        refine x_ast_7 S hI (tt_inN (tt_NT c_5).1 hN h24) dX0_body_29 (fun H locs hI => ?_)
        refine lv_aload_n hx hb dX0_body_30 rfl (lv_at hl 0 rfl) ?_
        refine x_get_8 S hI dX0_body_31 ?_
        refine lv_iload_n hx hb dX0_body_34 rfl (lv_at hl 1 rfl) ?_
        refine lv_iload_n hx hb dX0_body_35 rfl (lv_at hl 3 rfl) ?_
        refine x_ast_8 S hI (tt_inN (tt_NT c_5).1 hN h24) dX0_body_36 (fun H locs hI => ?_)
        refine lv_iconst (v := 0) hx hb dX0_body_37 (by decide) ?_
        exact x_iret S hI hr hk (by simp [xBodyR, xBodyS, c_5, c_12, c_17]) (by simp [xBodyR, xBodyS, c_5, c_12, c_17]) dX0_body_38
      · refine lv_bipush (v := -3) hx hb dX0_body_20 (by decide) ?_
        exact x_iret S hI hr hk (by simp [xBodyR, xBodyS, c_5, c_12, c_17]) (by simp [xBodyR, xBodyS, c_5, c_12, c_17]) dX0_body_22
  · refine lv_iconst (v := -1) hx hb dX0_body_8 (by decide) ?_
    exact x_iret S hI hr hk (by simp [xBodyR, xBodyS, c_5]) (by simp [xBodyR, xBodyS, c_5]) dX0_body_9
set_option maxHeartbeats 4000000 in
set_option maxRecDepth 100000 in
theorem metX_tags (l : Launch) (σ : ttS) (x g : Int32) {N : Nat} (hN : σ 0 0 = nI N) (h24 : N ≤ 24) : MX l yX0_tags cX0_tags 3 (some .int) (rmL 2) [.int x, .int g] σ (xTagsR σ x) (xTagsS σ x g) := by
  refine x_starti rfl rfl (fun h => Nat.le_of_ble_eq_true rfl) ?_
  intro p e s m args below meth c D h d A S hr hk hA hI ls hl
  have hx := S.1
  have hb := S.2.1
  have hl : lv_has ls 3 [(0, .ref (h 0)), (1, .int x), (2, .int g)] := hl
  refine lv_aload_n hx hb dX0_tags_0 rfl (lv_at hl 0 rfl) ?_
  refine lv_iload_n hx hb dX0_tags_1 rfl (lv_at hl 1 rfl) ?_
  refine x_calli (n := 1) S hI hA [.int x] (metX_noTest l _ x hN h24) (lw_V q129 q131 qs4 q27 q132) rfl rfl (by decide +kernel) ⟨by decide, by decide⟩ rfl hl.1 rfl (by decide) dX0_tags_2 ⟨by decide, by decide⟩ (fun H locs hI => ?_)
  refine lv_if_eq (tgt := 10) hx hb dX0_tags_5 (by decide) (fun c_5 => ?_) (fun c_5 => ?_)
  · refine lv_aload_n hx hb dX0_tags_10 rfl (lv_at hl 0 rfl) ?_
    refine x_get_9 S hI dX0_tags_11 ?_
    refine lv_iload_n hx hb dX0_tags_14 rfl (lv_at hl 1 rfl) ?_
    refine lv_iload_n hx hb dX0_tags_15 rfl (lv_at hl 2 rfl) ?_
    refine x_ast_9 S hI (tt_inN (tt_NT c_5).1 hN h24) dX0_tags_16 (fun H locs hI => ?_)
    refine lv_iconst (v := 0) hx hb dX0_tags_17 (by decide) ?_
    exact x_iret S hI hr hk (by simp [xTagsR, xTagsS, c_5]) (by simp [xTagsR, xTagsS, c_5]) dX0_tags_18
  · refine lv_iconst (v := -1) hx hb dX0_tags_8 (by decide) ?_
    exact x_iret S hI hr hk (by simp [xTagsR, xTagsS, c_5]) (by simp [xTagsR, xTagsS, c_5]) dX0_tags_9
set_option maxHeartbeats 4000000 in
set_option maxRecDepth 100000 in
theorem metX_disable (l : Launch) (σ : ttS) (x b : Int32) {N : Nat} (hN : σ 0 0 = nI N) (h24 : N ≤ 24) (ht : vp_nar .boolean b = b) : MX l yX0_disable cX0_disable 4 (some .int) (rmL 1) [.int x, .int b] σ (xDisR σ x) (xDisS σ x b) := by
  refine x_starti rfl rfl (fun h => Nat.le_of_ble_eq_true rfl) ?_
  intro p e s m args below meth c D h d A S hr hk hA hI ls hl
  have hx := S.1
  have hb := S.2.1
  have hl : lv_has ls 4 [(0, .ref (h 0)), (1, .int x), (2, .int b)] := hl
  refine lv_aload_n hx hb dX0_disable_0 rfl (lv_at hl 0 rfl) ?_
  refine lv_iload_n hx hb dX0_disable_1 rfl (lv_at hl 1 rfl) ?_
  refine x_calli (n := 1) S hI hA [.int x] (metX_noNode l _ x) (lw_V q113 q115 qs3 q27 q116) rfl rfl (by decide +kernel) ⟨by decide, by decide⟩ rfl hl.1 rfl (by decide) dX0_disable_2 ⟨by decide, by decide⟩ (fun H locs hI => ?_)
  refine lv_if_eq (tgt := 10) hx hb dX0_disable_5 (by decide) (fun c_5 => ?_) (fun c_5 => ?_)
  · refine lv_aload_n hx hb dX0_disable_10 rfl (lv_at hl 0 rfl) ?_
    refine x_get_10 S hI dX0_disable_11 ?_
    refine lv_iload_n hx hb dX0_disable_14 rfl (lv_at hl 1 rfl) ?_
    refine x_ald_10 S hI (tt_inN c_5 hN h24) dX0_disable_15 ?_
    refine lv_if_eq (tgt := 23) hx hb dX0_disable_16 (by decide) (fun c_16 => ?_) (fun c_16 => ?_)
    · refine lv_iconst (v := 0) hx hb dX0_disable_23 (by decide) ?_
      refine lv_istore_n (lv' := [(3, .int 0), (0, .ref (h 0)), (1, .int x), (2, .int b)]) hx hb dX0_disable_24 rfl hl (by decide) rfl (fun ls hl => ?_)
      refine lv_aload_n hx hb dX0_disable_25 rfl (lv_at hl 1 rfl) ?_
      refine x_get_10 S hI dX0_disable_26 ?_
      refine lv_iload_n hx hb dX0_disable_29 rfl (lv_at hl 2 rfl) ?_
      refine lv_iload_n hx hb dX0_disable_30 rfl (lv_at hl 3 rfl) ?_
      refine x_ast_10 S hI (tt_inN c_5 hN h24) ht dX0_disable_31 (fun H locs hI => ?_)
      refine lv_iload_n hx hb dX0_disable_32 rfl (lv_at hl 0 rfl) ?_
      exact x_iret S hI hr hk (by simp [xDisR, xDisS, c_5, c_16]) (by simp [xDisR, xDisS, c_5, c_16]) dX0_disable_33
    · refine lv_iconst (v := 1) hx hb dX0_disable_19 (by decide) ?_
      refine lv_goto (tgt := 24) hx hb dX0_disable_20 (by decide) ?_
      refine lv_istore_n (lv' := [(3, .int 1), (0, .ref (h 0)), (1, .int x), (2, .int b)]) hx hb dX0_disable_24 rfl hl (by decide) rfl (fun ls hl => ?_)
      refine lv_aload_n hx hb dX0_disable_25 rfl (lv_at hl 1 rfl) ?_
      refine x_get_10 S hI dX0_disable_26 ?_
      refine lv_iload_n hx hb dX0_disable_29 rfl (lv_at hl 2 rfl) ?_
      refine lv_iload_n hx hb dX0_disable_30 rfl (lv_at hl 3 rfl) ?_
      refine x_ast_10 S hI (tt_inN c_5 hN h24) ht dX0_disable_31 (fun H locs hI => ?_)
      refine lv_iload_n hx hb dX0_disable_32 rfl (lv_at hl 0 rfl) ?_
      exact x_iret S hI hr hk (by simp [xDisR, xDisS, c_5, c_16]) (by simp [xDisR, xDisS, c_5, c_16]) dX0_disable_33
  · refine lv_iconst (v := -1) hx hb dX0_disable_8 (by decide) ?_
    exact x_iret S hI hr hk (by simp [xDisR, xDisS, c_5]) (by simp [xDisR, xDisS, c_5]) dX0_disable_9
set_option maxHeartbeats 4000000 in
set_option maxRecDepth 100000 in
theorem metX_result (l : Launch) (σ : ttS) (x : Int32) {N : Nat} (hN : σ 0 0 = nI N) (h24 : N ≤ 24) : MX l yX0_result cX0_result 2 (some .int) (rmL 1) [.int x] σ (xResR σ x) σ := by
  refine x_starti rfl rfl (fun h => Nat.le_of_ble_eq_true rfl) ?_
  intro p e s m args below meth c D h d A S hr hk hA hI ls hl
  have hx := S.1
  have hb := S.2.1
  have hl : lv_has ls 2 [(0, .ref (h 0)), (1, .int x)] := hl
  refine lv_aload_n hx hb dX0_result_0 rfl (lv_at hl 0 rfl) ?_
  refine lv_iload_n hx hb dX0_result_1 rfl (lv_at hl 1 rfl) ?_
  refine x_calli (n := 1) S hI hA [.int x] (metX_noNode l _ x) (lw_V q113 q115 qs3 q27 q116) rfl rfl (by decide +kernel) ⟨by decide, by decide⟩ rfl hl.1 rfl (by decide) dX0_result_2 ⟨by decide, by decide⟩ (fun H locs hI => ?_)
  refine lv_if_eq (tgt := 12) hx hb dX0_result_5 (by decide) (fun c_5 => ?_) (fun c_5 => ?_)
  · refine lv_aload_n hx hb dX0_result_12 rfl (lv_at hl 0 rfl) ?_
    refine x_get_11 S hI dX0_result_13 ?_
    refine lv_iload_n hx hb dX0_result_16 rfl (lv_at hl 1 rfl) ?_
    refine x_ald_11 S hI (tt_inN c_5 hN h24) dX0_result_17 ?_
    exact x_iret S hI hr hk (by simp [xResR, c_5]) rfl dX0_result_18
  · refine lv_iconst (v := -1) hx hb dX0_result_8 (by decide) ?_
    refine lv_goto (tgt := 18) hx hb dX0_result_9 (by decide) ?_
    exact x_iret S hI hr hk (by simp [xResR, c_5]) rfl dX0_result_18
set_option maxHeartbeats 4000000 in
set_option maxRecDepth 100000 in
theorem metX_attempts (l : Launch) (σ : ttS) (x : Int32) {N : Nat} (hN : σ 0 0 = nI N) (h24 : N ≤ 24) : MX l yX0_attempts cX0_attempts 2 (some .int) (rmL 1) [.int x] σ (xAttR σ x) σ := by
  refine x_starti rfl rfl (fun h => Nat.le_of_ble_eq_true rfl) ?_
  intro p e s m args below meth c D h d A S hr hk hA hI ls hl
  have hx := S.1
  have hb := S.2.1
  have hl : lv_has ls 2 [(0, .ref (h 0)), (1, .int x)] := hl
  refine lv_aload_n hx hb dX0_attempts_0 rfl (lv_at hl 0 rfl) ?_
  refine lv_iload_n hx hb dX0_attempts_1 rfl (lv_at hl 1 rfl) ?_
  refine x_calli (n := 1) S hI hA [.int x] (metX_noNode l _ x) (lw_V q113 q115 qs3 q27 q116) rfl rfl (by decide +kernel) ⟨by decide, by decide⟩ rfl hl.1 rfl (by decide) dX0_attempts_2 ⟨by decide, by decide⟩ (fun H locs hI => ?_)
  refine lv_if_eq (tgt := 12) hx hb dX0_attempts_5 (by decide) (fun c_5 => ?_) (fun c_5 => ?_)
  · refine lv_aload_n hx hb dX0_attempts_12 rfl (lv_at hl 0 rfl) ?_
    refine x_get_13 S hI dX0_attempts_13 ?_
    refine lv_iload_n hx hb dX0_attempts_16 rfl (lv_at hl 1 rfl) ?_
    refine x_ald_13 S hI (tt_inN c_5 hN h24) dX0_attempts_17 ?_
    exact x_iret S hI hr hk (by simp [xAttR, c_5]) rfl dX0_attempts_18
  · refine lv_iconst (v := -1) hx hb dX0_attempts_8 (by decide) ?_
    refine lv_goto (tgt := 18) hx hb dX0_attempts_9 (by decide) ?_
    exact x_iret S hI hr hk (by simp [xAttR, c_5]) rfl dX0_attempts_18
set_option maxHeartbeats 4000000 in
set_option maxRecDepth 100000 in
theorem metX_times (l : Launch) (σ : ttS) (x w : Int32) {N : Nat} (hN : σ 0 0 = nI N) (h24 : N ≤ 24) : MX l yX0_times cX0_times 3 (some .int) (rmL 1) [.int x, .int w] σ (xTimR σ x w) σ := by
  refine x_starti rfl rfl (fun h => Nat.le_of_ble_eq_true rfl) ?_
  intro p e s m args below meth c D h d A S hr hk hA hI ls hl
  have hx := S.1
  have hb := S.2.1
  have hl : lv_has ls 3 [(0, .ref (h 0)), (1, .int x), (2, .int w)] := hl
  refine lv_aload_n hx hb dX0_times_0 rfl (lv_at hl 0 rfl) ?_
  refine lv_iload_n hx hb dX0_times_1 rfl (lv_at hl 1 rfl) ?_
  refine x_calli (n := 1) S hI hA [.int x] (metX_noNode l _ x) (lw_V q113 q115 qs3 q27 q116) rfl rfl (by decide +kernel) ⟨by decide, by decide⟩ rfl hl.1 rfl (by decide) dX0_times_2 ⟨by decide, by decide⟩ (fun H locs hI => ?_)
  refine lv_if_ne (tgt := 17) hx hb dX0_times_5 (by decide) (fun c_5 => ?_) (fun c_5 => ?_)
  · refine lv_iconst (v := -1) hx hb dX0_times_17 (by decide) ?_
    exact x_iret S hI hr hk (by simp [xTimR, c_5]) rfl dX0_times_18
  · refine lv_iload_n hx hb dX0_times_8 rfl (lv_at hl 2 rfl) ?_
    refine lv_if_lt (tgt := 17) hx hb dX0_times_9 (by decide) (fun c_9 => ?_) (fun c_9 => ?_)
    · refine lv_iconst (v := -1) hx hb dX0_times_17 (by decide) ?_
      exact x_iret S hI hr hk (by simp [xTimR, c_5, c_9]) rfl dX0_times_18
    · refine lv_iload_n hx hb dX0_times_12 rfl (lv_at hl 2 rfl) ?_
      refine lv_iconst (v := 3) hx hb dX0_times_13 (by decide) ?_
      refine lv_icmp_le (tgt := 19) hx hb dX0_times_14 (by decide) (fun c_14 => ?_) (fun c_14 => ?_)
      · refine lv_aload_n hx hb dX0_times_19 rfl (lv_at hl 0 rfl) ?_
        refine x_get_12 S hI dX0_times_20 ?_
        refine lv_iload_n hx hb dX0_times_23 rfl (lv_at hl 1 rfl) ?_
        refine lv_iconst (v := 4) hx hb dX0_times_24 (by decide) ?_
        refine lv_imul hx hb dX0_times_25 ?_
        refine lv_iload_n hx hb dX0_times_26 rfl (lv_at hl 2 rfl) ?_
        refine lv_iadd hx hb dX0_times_27 ?_
        refine x_ald_12 S hI (tt_in4 (tt_inN c_5 hN h24) c_9 c_14) dX0_times_28 ?_
        exact x_iret S hI hr hk (by simp [xTimR, c_5, c_9, c_14]) rfl dX0_times_29
      · refine lv_iconst (v := -1) hx hb dX0_times_17 (by decide) ?_
        exact x_iret S hI hr hk (by simp [xTimR, c_5, c_9, c_14]) rfl dX0_times_18
set_option maxHeartbeats 4000000 in
set_option maxRecDepth 100000 in
theorem metX_steps (l : Launch) (σ : ttS)  : MX l yX0_steps cX0_steps 1 (some .int) (rmL 0) [] σ (σ 14 0) σ := by
  refine x_starti rfl rfl (fun h => Nat.le_of_ble_eq_true rfl) ?_
  intro p e s m args below meth c D h d A S hr hk hA hI ls hl
  have hx := S.1
  have hb := S.2.1
  have hl : lv_has ls 1 [(0, .ref (h 0))] := hl
  refine lv_aload_n hx hb dX0_steps_0 rfl (lv_at hl 0 rfl) ?_
  refine x_get_14 S hI dX0_steps_1 ?_
  exact x_iret S hI hr hk rfl rfl dX0_steps_4
set_option maxHeartbeats 4000000 in
set_option maxRecDepth 100000 in
theorem metX_count (l : Launch) (σ : ttS) (r : Int32) {N : Nat} (hN : σ 0 0 = nI N) (h24 : N ≤ 24) : MX l yX0_count cX0_count 4 (some .int) (rmL 0) [.int r] σ (xCntR σ N r) σ := by
  refine x_starti rfl rfl (fun h => Nat.le_of_ble_eq_true rfl) ?_
  intro p e s m args below meth c D h d A S hr hk hA hI ls hl
  have hx := S.1
  have hb := S.2.1
  have hl : lv_has ls 4 [(0, .ref (h 0)), (1, .int r)] := hl
  obtain ⟨rv, hrv⟩ : ∃ z, z = xCntR σ N r := ⟨_, rfl⟩
  rw [← hrv]
  obtain ⟨sf, hsf⟩ : ∃ z, z = σ := ⟨_, rfl⟩
  rw [← hsf]
  refine lv_iload_n hx hb dX0_count_0 rfl (lv_at hl 1 rfl) ?_
  refine lv_iconst (v := 1) hx hb dX0_count_1 (by decide) ?_
  refine lv_icmp_lt (tgt := 10) hx hb dX0_count_2 (by decide) (fun c_2 => ?_) (fun c_2 => ?_)
  · refine lv_iconst (v := 0) hx hb dX0_count_10 (by decide) ?_
    exact x_iret S hI hr hk (by rw [hrv]; simp [xCntR, c_2]) hsf.symm dX0_count_11
  · refine lv_iload_n hx hb dX0_count_5 rfl (lv_at hl 1 rfl) ?_
    refine lv_iconst (v := 3) hx hb dX0_count_6 (by decide) ?_
    refine lv_icmp_le (tgt := 12) hx hb dX0_count_7 (by decide) (fun c_7 => ?_) (fun c_7 => ?_)
    · refine lv_iconst (v := 0) hx hb dX0_count_12 (by decide) ?_
      refine lv_istore_n (lv' := [(2, .int 0), (0, .ref (h 0)), (1, .int r)]) hx hb dX0_count_13 rfl hl (by decide) rfl (fun ls hl => ?_)
      refine lv_iconst (v := 0) hx hb dX0_count_14 (by decide) ?_
      refine lv_istore_n (lv' := [(3, .int 0), (2, .int 0), (0, .ref (h 0)), (1, .int r)]) hx hb dX0_count_15 rfl hl (by decide) rfl (fun ls hl => ?_)
      have key16 : ∀ (f : Nat) (k : Nat) (H : Heap) (locs : List Loc) (ls : Array Slot), (k + f = N) → (xCnt σ r N = rv) → bX D A h d σ s H locs → lv_has ls 4 [(3, .int (nI k)), (2, .int (xCnt σ r (k))), (0, .ref (h 0)), (1, .int r)] → W p l e (rmL 0) s m args below meth c H locs 0 0 (xQi below D h d A args s rv sf) (F0 m 16 ls []) := by
        intro f
        induction f with
        | zero =>
          intro k H locs ls hk2 hrk hI hl
          obtain rfl : k = N := by omega
          refine lv_iload_n hx hb dX0_count_16 rfl (lv_at hl 0 rfl) ?_
          refine lv_aload_n hx hb dX0_count_17 rfl (lv_at hl 2 rfl) ?_
          refine x_get_0 S hI dX0_count_18 ?_
          refine lv_icmp_ge (tgt := 52) hx hb dX0_count_21 (by decide) (fun c_21 => ?_) (fun c_21 => ?_)
          · refine lv_iload_n hx hb dX0_count_52 rfl (lv_at hl 1 rfl) ?_
            exact x_iret S hI hr hk hrk hsf.symm dX0_count_53
          · exact absurd (by rw [hN]; exact nI_le (Nat.le_refl k) (by omega)) c_21
        | succ f ih =>
          intro k H locs ls hk2 hrk hI hl
          refine lv_iload_n hx hb dX0_count_16 rfl (lv_at hl 0 rfl) ?_
          refine lv_aload_n hx hb dX0_count_17 rfl (lv_at hl 2 rfl) ?_
          refine x_get_0 S hI dX0_count_18 ?_
          refine lv_icmp_ge (tgt := 52) hx hb dX0_count_21 (by decide) (fun c_21 => ?_) (fun c_21 => ?_)
          · exact absurd c_21 (by rw [hN]; exact nI_ge (by omega) (by omega))
          · refine lv_aload_n hx hb dX0_count_24 rfl (lv_at hl 2 rfl) ?_
            refine x_get_1 S hI dX0_count_25 ?_
            refine lv_iload_n hx hb dX0_count_28 rfl (lv_at hl 0 rfl) ?_
            refine x_aln_1 S hI (by omega) dX0_count_29 ?_
            refine lv_if_eq (tgt := 46) hx hb dX0_count_30 (by decide) (fun c_30 => ?_) (fun c_30 => ?_)
            · refine lv_iinc (v := nI (k + 1)) (lv' := [(3, .int (nI (k + 1))), (2, .int (xCnt σ r (k))), (0, .ref (h 0)), (1, .int r)]) hx hb dX0_count_46 hl (k := 0) rfl (tt_inc _) (by decide) rfl (fun ls hl => ?_)
              refine lv_goto (tgt := 16) hx hb dX0_count_49 (by decide) ?_
              exact ih (k + 1) H locs ls (by omega) hrk hI (by rw [show xCnt σ r (k + 1) = xCnt σ r (k) from (by simp [xCnt, c_2, c_7, c_21, c_30])]; exact lv_sub hl [0, 1, 2, 3] rfl)
            · refine lv_aload_n hx hb dX0_count_33 rfl (lv_at hl 2 rfl) ?_
              refine x_get_11 S hI dX0_count_34 ?_
              refine lv_iload_n hx hb dX0_count_37 rfl (lv_at hl 0 rfl) ?_
              refine x_aln_11 S hI (by omega) dX0_count_38 ?_
              refine lv_iload_n hx hb dX0_count_39 rfl (lv_at hl 3 rfl) ?_
              refine lv_icmp_ne (tgt := 46) hx hb dX0_count_40 (by decide) (fun c_40 => ?_) (fun c_40 => ?_)
              · refine lv_iinc (v := nI (k + 1)) (lv' := [(3, .int (nI (k + 1))), (2, .int (xCnt σ r (k))), (0, .ref (h 0)), (1, .int r)]) hx hb dX0_count_46 hl (k := 0) rfl (tt_inc _) (by decide) rfl (fun ls hl => ?_)
                refine lv_goto (tgt := 16) hx hb dX0_count_49 (by decide) ?_
                exact ih (k + 1) H locs ls (by omega) hrk hI (by rw [show xCnt σ r (k + 1) = xCnt σ r (k) from (by simp [xCnt, c_2, c_7, c_21, c_30, c_40])]; exact lv_sub hl [0, 1, 2, 3] rfl)
              · refine lv_iinc (v := xCnt σ r (k) + 1) (lv' := [(2, .int (xCnt σ r (k) + 1)), (3, .int (nI k)), (0, .ref (h 0)), (1, .int r)]) hx hb dX0_count_43 hl (k := 1) rfl rfl (by decide) rfl (fun ls hl => ?_)
                refine lv_iinc (v := nI (k + 1)) (lv' := [(3, .int (nI (k + 1))), (2, .int (xCnt σ r (k) + 1)), (0, .ref (h 0)), (1, .int r)]) hx hb dX0_count_46 hl (k := 1) rfl (tt_inc _) (by decide) rfl (fun ls hl => ?_)
                refine lv_goto (tgt := 16) hx hb dX0_count_49 (by decide) ?_
                exact ih (k + 1) H locs ls (by omega) hrk hI (by rw [show xCnt σ r (k + 1) = xCnt σ r (k) + 1 from (by simp [xCnt, c_2, c_7, c_21, c_30, c_40])]; exact lv_sub hl [0, 1, 2, 3] rfl)
      exact key16 N 0 _ _ _ (by omega) (by rw [hrv]; simp [xCntR, c_2, c_7]) hI (lv_sub hl [0, 1, 2, 3] rfl)
    · refine lv_iconst (v := 0) hx hb dX0_count_10 (by decide) ?_
      exact x_iret S hI hr hk (by rw [hrv]; simp [xCntR, c_2, c_7]) hsf.symm dX0_count_11
end
section
/-! the component's run, as plain functions of its cells -/
def xCar (σ : ttS) (n w : Nat) : ttS := if σ 6 (n * 4 + w) = 0 then σ else ttU (ttU σ 12 (n * 4 + w) (σ 12 (n * 4 + w) + 1)) 14 0 (σ 14 0 + 1)
theorem xCar_k (σ : ttS) (n w : Nat) {k : Nat} (h1 : k ≠ 12) (h2 : k ≠ 14) : xCar σ n w k = σ k := by
  unfold xCar
  split
  · rfl
  · rw [ttU_ne _ _ _ h2, ttU_ne _ _ _ h1]
def xW (a b : Int32) : Int32 := if a = 2 then 2 else if b = 2 then 2 else if a = 3 then 3 else if b = 3 then 3 else 1
def xNote (σ : ttS) (o : Int32) : ttS := ttU σ 18 0 (xW (σ 18 0) o)
theorem xNote_k (σ : ttS) (o : Int32) {k : Nat} (h : k ≠ 18) : xNote σ o k = σ k := ttU_ne _ _ _ h
/-- one hook of the k-th open container, and its outcome noted -/
def xHk (σ : ttS) (k w : Nat) : ttS := xNote (xCar σ (σ 17 k).toNatClampNeg w) (σ 6 ((σ 17 k).toNatClampNeg * 4 + w))
theorem xHk_k (σ : ttS) (i w : Nat) {k : Nat} (h1 : k ≠ 12) (h2 : k ≠ 14) (h3 : k ≠ 18) : xHk σ i w k = σ k := by
  unfold xHk
  rw [xNote_k _ _ h3, xCar_k _ _ _ h1 h2]
def xDown : Nat → Nat → ttS → Nat × ttS
  | 0, k, σ => (k, σ)
  | f + 1, k, σ => if σ 18 0 = 1 then xDown f (k + 1) (xHk σ k 2) else (k, σ)
theorem xDown_k (f : Nat) : ∀ (i : Nat) (σ : ttS) {k : Nat}, k ≠ 12 → k ≠ 14 → k ≠ 18 → (xDown f i σ).2 k = σ k := by
  induction f with
  | zero => intro i σ k _ _ _; rfl
  | succ f ih =>
    intro i σ k h1 h2 h3
    unfold xDown
    split
    · rw [ih _ _ h1 h2 h3, xHk_k _ _ _ h1 h2 h3]
    · rfl
theorem xDown_le (f : Nat) : ∀ (i : Nat) (σ : ttS), (xDown f i σ).1 ≤ i + f := by
  induction f with
  | zero => intro i σ; exact Nat.le_refl _
  | succ f ih =>
    intro i σ
    unfold xDown
    split
    · have := ih (i + 1) (xHk σ i 2); omega
    · show i ≤ _; omega
def xBod (σ : ttS) (t i : Nat) : Int32 := if ((σ 8 t) >>> ((2 * nI i) &&& 31)) &&& 3 = 0 then 1 else ((σ 8 t) >>> ((2 * nI i) &&& 31)) &&& 3
def xAtt2 (σ : ttS) (t i : Nat) : ttS := if σ 18 0 = 1 then xNote (ttU (ttU σ 12 (t * 4) (σ 12 (t * 4) + 1)) 14 0 (σ 14 0 + 1)) (xBod σ t i) else σ
theorem xAtt2_k (σ : ttS) (t i : Nat) {k : Nat} (h1 : k ≠ 12) (h2 : k ≠ 14) (h3 : k ≠ 18) : xAtt2 σ t i k = σ k := by
  unfold xAtt2
  split
  · rw [xNote_k _ _ h3, ttU_ne _ _ _ h2, ttU_ne _ _ _ h1]
  · rfl
def xUpL : Nat → ttS → ttS
  | 0, σ => σ
  | k + 1, σ => xUpL k (xHk σ k 3)
theorem xUpL_k (f : Nat) : ∀ (σ : ttS) {k : Nat}, k ≠ 12 → k ≠ 14 → k ≠ 18 → xUpL f σ k = σ k := by
  induction f with
  | zero => intro σ k _ _ _; rfl
  | succ f ih =>
    intro σ k h1 h2 h3
    unfold xUpL
    rw [ih _ h1 h2 h3, xHk_k _ _ _ h1 h2 h3]
def xAttS (σ : ttS) (dd t i : Nat) : ttS := xUpL (xDown dd 0 (ttU σ 18 0 1)).1 (xAtt2 (xDown dd 0 (ttU σ 18 0 1)).2 t i)
theorem xAttS_k (σ : ttS) (dd t i : Nat) {k : Nat} (h1 : k ≠ 12) (h2 : k ≠ 14) (h3 : k ≠ 18) : xAttS σ dd t i k = σ k := by
  unfold xAttS
  rw [xUpL_k _ _ h1 h2 h3, xAtt2_k _ _ _ h1 h2 h3, xDown_k _ _ _ h1 h2 h3, ttU_ne _ _ _ h3]
def xTry (dd t : Nat) : Nat → Nat → Int32 → ttS → Int32 × ttS
  | 0, _, r, σ => (r, σ)
  | f + 1, i, r, σ => if r = 2 then xTry dd t f (i + 1) (xAttS σ dd t i 18 0) (ttU (xAttS σ dd t i) 13 t (xAttS σ dd t i 13 t + 1)) else (r, σ)
theorem xTry_k (dd t f : Nat) : ∀ (i : Nat) (r : Int32) (σ : ttS) {k : Nat}, k ≠ 12 → k ≠ 13 → k ≠ 14 → k ≠ 18 → (xTry dd t f i r σ).2 k = σ k := by
  induction f with
  | zero => intro i r σ k _ _ _ _; rfl
  | succ f ih =>
    intro i r σ k h1 h2 h3 h4
    unfold xTry
    split
    · rw [ih _ _ _ h1 h2 h3 h4, ttU_ne _ _ _ h2, xAttS_k _ _ _ _ h1 h3 h4]
    · rfl
def xRunT (σ : ttS) (dd K t : Nat) : ttS := ttU (xTry dd t K 0 2 σ).2 11 t (xTry dd t K 0 2 σ).1
theorem xRunT_k (σ : ttS) (dd K t : Nat) {k : Nat} (h0 : k ≠ 11) (h1 : k ≠ 12) (h2 : k ≠ 13) (h3 : k ≠ 14) (h4 : k ≠ 18) : xRunT σ dd K t k = σ k := by
  unfold xRunT
  rw [ttU_ne _ _ _ h0, xTry_k _ _ _ _ _ _ h1 h2 h3 h4]
def xEntS (σ : ttS) (dd n : Nat) : ttS := ttU (ttU (ttU (xCar σ n 0) 11 n (xW 1 (σ 6 (n * 4 + 0)))) 17 dd (nI n)) 16 0 (nI dd + 1)
def xEntR (σ : ttS) (dd n : Nat) : Int32 := if xW 1 (σ 6 (n * 4 + 0)) = 1 then σ 3 n else -1
theorem xEntS_k (σ : ttS) (dd n : Nat) {k : Nat} (h0 : k ≠ 11) (h1 : k ≠ 12) (h2 : k ≠ 14) (h3 : k ≠ 16) (h4 : k ≠ 17) : xEntS σ dd n k = σ k := by
  unfold xEntS
  rw [ttU_ne _ _ _ h3, ttU_ne _ _ _ h4, ttU_ne _ _ _ h0, xCar_k _ _ _ h1 h2]
def xLvS (σ : ttS) (dd : Nat) : ttS := ttU (xCar (ttU σ 16 0 (nI dd)) (σ 17 dd).toNatClampNeg 1) 11 (σ 17 dd).toNatClampNeg (xW (σ 11 (σ 17 dd).toNatClampNeg) (σ 6 ((σ 17 dd).toNatClampNeg * 4 + 1)))
theorem xLvS_k (σ : ttS) (dd : Nat) {k : Nat} (h0 : k ≠ 11) (h1 : k ≠ 12) (h2 : k ≠ 14) (h3 : k ≠ 16) : xLvS σ dd k = σ k := by
  unfold xLvS
  rw [ttU_ne _ _ _ h0, xCar_k _ _ _ h1 h2, ttU_ne _ _ _ h3]
/-- one step of the walk, something being open -/
def xStep (σ : ttS) (nx : Int32) : Int32 × ttS :=
  if 0 ≤ nx then
    (if σ 15 nx.toNatClampNeg = 0 then (σ 5 nx.toNatClampNeg, σ)
    else if σ 1 nx.toNatClampNeg = 0 then (xEntR σ (σ 16 0).toNatClampNeg nx.toNatClampNeg, xEntS σ (σ 16 0).toNatClampNeg nx.toNatClampNeg)
    else (σ 5 nx.toNatClampNeg, xRunT σ (σ 16 0).toNatClampNeg (σ 7 nx.toNatClampNeg).toNatClampNeg nx.toNatClampNeg))
  else (σ 5 (σ 17 ((σ 16 0).toNatClampNeg - 1)).toNatClampNeg, xLvS σ ((σ 16 0).toNatClampNeg - 1))
theorem xStep_k (σ : ttS) (nx : Int32) {k : Nat} (h : k < 11) : (xStep σ nx).2 k = σ k := by
  unfold xStep
  split
  · split
    · rfl
    · split
      · exact xEntS_k _ _ _ (by omega) (by omega) (by omega) (by omega) (by omega)
      · exact xRunT_k _ _ _ _ (by omega) (by omega) (by omega) (by omega) (by omega)
  · exact xLvS_k _ _ (by omega) (by omega) (by omega) (by omega)
def xWalk : Nat → Int32 → ttS → ttS
  | 0, _, σ => σ
  | f + 1, nx, σ => if σ 16 0 ≤ 0 then σ else xWalk f (xStep σ nx).1 (xStep σ nx).2
theorem xWalk_k (f : Nat) : ∀ (nx : Int32) (σ : ttS) {k : Nat}, k < 11 → xWalk f nx σ k = σ k := by
  induction f with
  | zero => intro nx σ k _; rfl
  | succ f ih =>
    intro nx σ k h
    unfold xWalk
    split
    · rfl
    · rw [ih _ _ h, xStep_k _ _ h]
/-- a place of the walk that touches no cell out of its range -/
def xSafe (σ : ttS) (nx : Int32) : Prop := ∃ dd : Nat, σ 16 0 = nI dd ∧ dd ≤ 24 ∧ (∀ i, i < dd → vp_in (σ 17 i) 24) ∧ (0 ≤ nx → vp_in nx 24 ∧ (¬ σ 15 nx.toNatClampNeg = 0 → σ 1 nx.toNatClampNeg = 0 → dd < 24) ∧ ∃ K : Nat, K ≤ 4 ∧ σ 7 nx.toNatClampNeg = nI K)
def xOK : Nat → Int32 → ttS → Prop
  | 0, _, _ => True
  | f + 1, nx, σ => ¬ σ 16 0 ≤ 0 → xSafe σ nx ∧ xOK f (xStep σ nx).1 (xStep σ nx).2
def xWalkS (σ : ttS) : ttS := xWalk 64 (xEntR (ttU σ 16 0 0) 0 0) (xEntS (ttU σ 16 0 0) 0 0)
def xWalkOK (σ : ttS) : Prop := xOK 64 (xEntR (ttU σ 16 0 0) 0 0) (xEntS (ttU σ 16 0 0) 0 0)
theorem xWalkS_k (σ : ttS) {k : Nat} (h : k < 11) : xWalkS σ k = σ k := by
  unfold xWalkS
  rw [xWalk_k _ _ _ h, xEntS_k _ _ _ (by omega) (by omega) (by omega) (by omega) (by omega), ttU_ne _ _ _ (by omega)]
/-- who takes part: down, then up -/
def xOpen (σ : ttS) (n : Nat) : Int32 := if σ 10 n = 0 then (if nI n ≤ 0 then 1 else if σ 15 (σ 2 n).toNatClampNeg = 0 then 0 else 1) else 0
def xCh1 (σ : ttS) : Nat → ttS
  | 0 => σ
  | n + 1 => ttU (xCh1 σ n) 15 n (xOpen (xCh1 σ n) n)
theorem xCh1_k (σ : ttS) (n : Nat) {k : Nat} (h : k ≠ 15) : xCh1 σ n k = σ k := by
  induction n with
  | zero => rfl
  | succ n ih => rw [xCh1, ttU_ne _ _ _ h, ih]
def xSib (σ : ttS) : Nat → Int32 → Int32
  | 0, _ => 0
  | f + 1, x => if x < 0 then 0 else if σ 15 x.toNatClampNeg = 0 then xSib σ f (σ 5 x.toNatClampNeg) else 1
def xChild (σ : ttS) (n : Nat) : Int32 := xSib σ 24 (σ 3 n)
def xChN (tg : Int32) (σ : ttS) (n : Nat) : ttS := ttU σ 15 n (if σ 1 n = 0 then (if σ 15 n = 0 then 0 else if xChild σ n = 0 then 0 else 1) else (if σ 15 n = 0 then 0 else if σ 9 n &&& tg = 0 then 0 else 1))
def xCh2 (tg : Int32) : Nat → ttS → ttS
  | 0, σ => σ
  | n + 1, σ => xCh2 tg n (xChN tg σ n)
theorem xCh2_k (tg : Int32) (n : Nat) : ∀ (σ : ttS) {k : Nat}, k ≠ 15 → xCh2 tg n σ k = σ k := by
  induction n with
  | zero => intro σ k _; rfl
  | succ n ih =>
    intro σ k h
    rw [xCh2, ih _ h, xChN, ttU_ne _ _ _ h]
def xChoose (σ : ttS) (N : Nat) (tg : Int32) : ttS := xCh2 tg N (xCh1 σ N)
theorem xChoose_k (σ : ttS) (N : Nat) (tg : Int32) {k : Nat} (h : k ≠ 15) : xChoose σ N tg k = σ k := by
  unfold xChoose
  rw [xCh2_k _ _ _ h, xCh1_k _ _ h]
def xR1 (σ : ttS) : Nat → ttS
  | 0 => σ
  | n + 1 => ttU (ttU (xR1 σ n) 11 n 0) 13 n 0
def xR2 (σ : ttS) : Nat → ttS
  | 0 => σ
  | n + 1 => ttU (xR2 σ n) 12 n 0
theorem xR1_k (σ : ttS) (n : Nat) {k : Nat} (h1 : k ≠ 11) (h2 : k ≠ 13) : xR1 σ n k = σ k := by
  induction n with
  | zero => rfl
  | succ n ih => rw [xR1, ttU_ne _ _ _ h2, ttU_ne _ _ _ h1, ih]
theorem xR2_k (σ : ttS) (n : Nat) {k : Nat} (h1 : k ≠ 12) : xR2 σ n k = σ k := by
  induction n with
  | zero => rfl
  | succ n ih => rw [xR2, ttU_ne _ _ _ h1, ih]
def xReset (σ : ttS) : ttS := ttU (xR2 (xR1 σ 24) 96) 14 0 0
theorem xReset_k (σ : ttS) {k : Nat} (h1 : k ≠ 11) (h2 : k ≠ 12) (h3 : k ≠ 13) (h4 : k ≠ 14) : xReset σ k = σ k := by
  unfold xReset
  rw [ttU_ne _ _ _ h4, xR2_k _ _ h2, xR1_k _ _ h1 h3]
def xPick (σ : ttS) (N : Nat) (tg : Int32) : ttS := xChoose (xReset σ) N tg
theorem xPick_k (σ : ttS) (N : Nat) (tg : Int32) {k : Nat} (h : k < 11) : xPick σ N tg k = σ k := by
  unfold xPick
  rw [xChoose_k _ _ _ (by omega), xReset_k _ (by omega) (by omega) (by omega) (by omega)]
def xRunS (σ : ttS) (N : Nat) (tg : Int32) : ttS := if xPick σ N tg 15 0 = 0 then xPick σ N tg else xWalkS (xPick σ N tg)
theorem xRunS_k (σ : ttS) (N : Nat) (tg : Int32) {k : Nat} (h : k < 11) : xRunS σ N tg k = σ k := by
  unfold xRunS
  split
  · exact xPick_k _ _ _ h
  · rw [xWalkS_k _ h, xPick_k _ _ _ h]
def xRunR (σ : ttS) (N : Nat) (tg : Int32) : Int32 := xCntR (xRunS σ N tg) N 2
theorem tt_decm (x : Int32) : x + Int32.ofInt (-1) = x - 1 := (Int32.sub_eq_add_neg x 1).symm
theorem tt_pos {x : Int32} {dd : Nat} (h : ¬ x ≤ 0) (e : x = nI dd) : 0 < dd := by
  rcases Nat.eq_zero_or_pos dd with q | q
  · subst q; subst e; exact absurd (by decide) h
  · exact q
end
section
set_option maxRecDepth 100000
set_option maxHeartbeats 4000000 in
set_option maxRecDepth 100000 in
theorem metX_carryOut (l : Launch) (σ : ttS) (n w : Nat) (hn : n < 24) (hw : w < 4) : MX l yX0_carryOut cX0_carryOut 4 (some .int) (rmL 0) [.int (nI n), .int (nI w)] σ (σ 6 (n * 4 + w)) (xCar σ n w) := by
  refine x_starti rfl rfl (fun h => Nat.le_of_ble_eq_true rfl) ?_
  intro p e s m args below meth c D h d A S hr hk hA hI ls hl
  have hx := S.1
  have hb := S.2.1
  have hl : lv_has ls 4 [(0, .ref (h 0)), (1, .int (nI n)), (2, .int (nI w))] := hl
  refine lv_aload_n hx hb dX0_carryOut_0 rfl (lv_at hl 0 rfl) ?_
  refine x_get_6 S hI dX0_carryOut_1 ?_
  refine lv_iload_n hx hb dX0_carryOut_4 rfl (lv_at hl 1 rfl) ?_
  refine lv_iconst (v := 4) hx hb dX0_carryOut_5 (by decide) ?_
  refine lv_imul hx hb dX0_carryOut_6 ?_
  refine tt_top (nI (n * 4)) (tt_mul4 _) ?_
  refine lv_iload_n hx hb dX0_carryOut_7 rfl (lv_at hl 2 rfl) ?_
  refine lv_iadd hx hb dX0_carryOut_8 ?_
  refine tt_top (nI (n * 4 + w)) (nI_add _ _) ?_
  refine x_aln_6 S hI (by omega) dX0_carryOut_9 ?_
  refine lv_istore_n (lv' := [(3, .int (σ 6 (n * 4 + w))), (0, .ref (h 0)), (1, .int (nI n)), (2, .int (nI w))]) hx hb dX0_carryOut_10 rfl hl (by decide) rfl (fun ls hl => ?_)
  refine lv_iload_n hx hb dX0_carryOut_11 rfl (lv_at hl 0 rfl) ?_
  refine lv_if_eq (tgt := 39) hx hb dX0_carryOut_12 (by decide) (fun c_12 => ?_) (fun c_12 => ?_)
  · refine lv_iload_n hx hb dX0_carryOut_39 rfl (lv_at hl 0 rfl) ?_
    exact x_iret S hI hr hk rfl (by simp [xCar, c_12]; try rfl) dX0_carryOut_40
  · refine lv_aload_n hx hb dX0_carryOut_15 rfl (lv_at hl 1 rfl) ?_
    refine x_get_12 S hI dX0_carryOut_16 ?_
    refine lv_iload_n hx hb dX0_carryOut_19 rfl (lv_at hl 2 rfl) ?_
    refine lv_iconst (v := 4) hx hb dX0_carryOut_20 (by decide) ?_
    refine lv_imul hx hb dX0_carryOut_21 ?_
    refine tt_top (nI (n * 4)) (tt_mul4 _) ?_
    refine lv_iload_n hx hb dX0_carryOut_22 rfl (lv_at hl 3 rfl) ?_
    refine lv_iadd hx hb dX0_carryOut_23 ?_
    refine tt_top (nI (n * 4 + w)) (nI_add _ _) ?_
    refine lv_dup2_11 hx hb dX0_carryOut_24 rfl rfl ?_
    refine x_aln_12 S hI (by omega) dX0_carryOut_25 ?_
    refine lv_iconst (v := 1) hx hb dX0_carryOut_26 (by decide) ?_
    refine lv_iadd hx hb dX0_carryOut_27 ?_
    refine x_asn_12 S hI (by omega) dX0_carryOut_28 (fun H locs hI => ?_)
    refine lv_aload_n hx hb dX0_carryOut_29 rfl (lv_at hl 1 rfl) ?_
    refine lv_dup hx hb dX0_carryOut_30 rfl ?_
    refine x_get_14 S hI dX0_carryOut_31 ?_
    refine lv_iconst (v := 1) hx hb dX0_carryOut_34 (by decide) ?_
    refine lv_iadd hx hb dX0_carryOut_35 ?_
    refine x_put_14 S hI dX0_carryOut_36 (fun H locs hI => ?_)
    refine lv_iload_n hx hb dX0_carryOut_39 rfl (lv_at hl 0 rfl) ?_
    exact x_iret S hI hr hk rfl (by simp [xCar, c_12]; try rfl) dX0_carryOut_40
set_option maxHeartbeats 4000000 in
set_option maxRecDepth 100000 in
theorem metX_worse (l : Launch) (a b : Int32) : MS l yX0_worse cX0_worse 2 (rmL 0) [.int a, .int b] (xW a b) := by
  refine s_start rfl (Nat.le_of_ble_eq_true rfl) ?_
  intro p e s m below meth c hx hb hr hk ls hl
  have hl : lv_has ls 2 [(0, .int a), (1, .int b)] := hl
  refine lv_iload_n hx hb dX0_worse_0 rfl (lv_at hl 0 rfl) ?_
  refine lv_iconst (v := 2) hx hb dX0_worse_1 (by decide) ?_
  refine lv_icmp_eq (tgt := 10) hx hb dX0_worse_2 (by decide) (fun c_2 => ?_) (fun c_2 => ?_)
  · refine lv_iconst (v := 2) hx hb dX0_worse_10 (by decide) ?_
    exact s_iret hx hb hr hk (by simp [xW, c_2]) dX0_worse_11
  · refine lv_iload_n hx hb dX0_worse_5 rfl (lv_at hl 1 rfl) ?_
    refine lv_iconst (v := 2) hx hb dX0_worse_6 (by decide) ?_
    refine lv_icmp_ne (tgt := 12) hx hb dX0_worse_7 (by decide) (fun c_7 => ?_) (fun c_7 => ?_)
    · refine lv_iload_n hx hb dX0_worse_12 rfl (lv_at hl 0 rfl) ?_
      refine lv_iconst (v := 3) hx hb dX0_worse_13 (by decide) ?_
      refine lv_icmp_eq (tgt := 22) hx hb dX0_worse_14 (by decide) (fun c_14 => ?_) (fun c_14 => ?_)
      · refine lv_iconst (v := 3) hx hb dX0_worse_22 (by decide) ?_
        exact s_iret hx hb hr hk (by simp [xW, c_2, c_7, c_14]) dX0_worse_23
      · refine lv_iload_n hx hb dX0_worse_17 rfl (lv_at hl 1 rfl) ?_
        refine lv_iconst (v := 3) hx hb dX0_worse_18 (by decide) ?_
        refine lv_icmp_ne (tgt := 24) hx hb dX0_worse_19 (by decide) (fun c_19 => ?_) (fun c_19 => ?_)
        · refine lv_iconst (v := 1) hx hb dX0_worse_24 (by decide) ?_
          exact s_iret hx hb hr hk (by simp [xW, c_2, c_7, c_14, c_19]) dX0_worse_25
        · refine lv_iconst (v := 3) hx hb dX0_worse_22 (by decide) ?_
          exact s_iret hx hb hr hk (by simp [xW, c_2, c_7, c_14, c_19]) dX0_worse_23
    · refine lv_iconst (v := 2) hx hb dX0_worse_10 (by decide) ?_
      exact s_iret hx hb hr hk (by simp [xW, c_2, c_7]) dX0_worse_11
set_option maxHeartbeats 4000000 in
set_option maxRecDepth 100000 in
theorem metX_note (l : Launch) (σ : ttS) (o : Int32) : MXv l yX0_note cX0_note 2 (rmL 1) [.int o] σ (xNote σ o) := by
  refine x_startv rfl rfl (fun h => Nat.le_of_ble_eq_true rfl) ?_
  intro p e s m args below meth c D h d A S hr hk hA hI ls hl
  have hx := S.1
  have hb := S.2.1
  have hl : lv_has ls 2 [(0, .ref (h 0)), (1, .int o)] := hl
  refine lv_aload_n hx hb dX0_note_0 rfl (lv_at hl 0 rfl) ?_
  refine lv_aload_n hx hb dX0_note_1 rfl (lv_at hl 0 rfl) ?_
  refine x_get_18 S hI dX0_note_2 ?_
  refine lv_iload_n hx hb dX0_note_5 rfl (lv_at hl 1 rfl) ?_
  refine x_calls (n := 2) S hI [.int (σ 18 0), .int o] (metX_worse l (σ 18 0) o) (lw_S q165 q166 q27 q167) rfl rfl (by decide +kernel) ⟨by decide, by decide⟩ rfl hl.1 rfl (Nat.le_of_ble_eq_true rfl) dX0_note_6 ⟨by decide, by decide⟩ (fun H locs hI => ?_)
  refine x_put_18 S hI dX0_note_9 (fun H locs hI => ?_)
  exact x_vret S hI hr hk rfl dX0_note_12
set_option maxHeartbeats 4000000 in
set_option maxRecDepth 100000 in
theorem metX_goDown (l : Launch) (σ : ttS) (dd : Nat) (ho : σ 16 0 = nI dd) (hdd : dd ≤ 24) (hw : ∀ i, i < dd → vp_in (σ 17 i) 24) : MX l yX0_goDown cX0_goDown 3 (some .int) (rmL 2) [] σ (nI (xDown dd 0 σ).1) ((xDown dd 0 σ).2) := by
  refine x_starti rfl rfl (fun h => Nat.le_of_ble_eq_true rfl) ?_
  intro p e s m args below meth c D h d A S hr hk hA hI ls hl
  have hx := S.1
  have hb := S.2.1
  have hl : lv_has ls 3 [(0, .ref (h 0))] := hl
  obtain ⟨rv, hrv⟩ : ∃ z, z = nI (xDown dd 0 σ).1 := ⟨_, rfl⟩
  rw [← hrv]
  obtain ⟨sf, hsf⟩ : ∃ z, z = (xDown dd 0 σ).2 := ⟨_, rfl⟩
  rw [← hsf]
  refine lv_iconst (v := 0) hx hb dX0_goDown_0 (by decide) ?_
  refine lv_istore_n (lv' := [(1, .int 0), (0, .ref (h 0))]) hx hb dX0_goDown_1 rfl hl (by decide) rfl (fun ls hl => ?_)
  have key2 : ∀ (f : Nat) (k : Nat) (τ : ttS) (H : Heap) (locs : List Loc) (ls : Array Slot), (k + f = dd) → (τ 16 0 = nI dd) → (∀ i, i < dd → vp_in (τ 17 i) 24) → (nI (xDown f k τ).1 = rv) → ((xDown f k τ).2 = sf) → bX D A h d τ s H locs → lv_has ls 3 [(1, .int (nI k)), (0, .ref (h 0))] → W p l e (rmL 2) s m args below meth c H locs 0 0 (xQi below D h d A args s rv sf) (F0 m 2 ls []) := by
    intro f
    induction f with
    | zero =>
      intro k τ H locs ls hk2 ho hw hr2 hs2 hI hl
      obtain rfl : k = dd := by omega
      refine lv_iload_n hx hb dX0_goDown_2 rfl (lv_at hl 0 rfl) ?_
      refine lv_aload_n hx hb dX0_goDown_3 rfl (lv_at hl 1 rfl) ?_
      refine x_get_16 S hI dX0_goDown_4 ?_
      refine lv_icmp_ge (tgt := 41) hx hb dX0_goDown_7 (by decide) (fun c_7 => ?_) (fun c_7 => ?_)
      · refine lv_iload_n hx hb dX0_goDown_41 rfl (lv_at hl 0 rfl) ?_
        exact x_iret S hI hr hk hr2 hs2 dX0_goDown_42
      · exact absurd (by rw [ho]; exact nI_le (Nat.le_refl k) (by omega)) c_7
    | succ f ih =>
      intro k τ H locs ls hk2 ho hw hr2 hs2 hI hl
      refine lv_iload_n hx hb dX0_goDown_2 rfl (lv_at hl 0 rfl) ?_
      refine lv_aload_n hx hb dX0_goDown_3 rfl (lv_at hl 1 rfl) ?_
      refine x_get_16 S hI dX0_goDown_4 ?_
      refine lv_icmp_ge (tgt := 41) hx hb dX0_goDown_7 (by decide) (fun c_7 => ?_) (fun c_7 => ?_)
      · exact absurd c_7 (by rw [ho]; exact nI_ge (by omega) (by omega))
      · refine lv_aload_n hx hb dX0_goDown_10 rfl (lv_at hl 1 rfl) ?_
        refine x_get_18 S hI dX0_goDown_11 ?_
        refine lv_iconst (v := 1) hx hb dX0_goDown_14 (by decide) ?_
        refine lv_icmp_ne (tgt := 41) hx hb dX0_goDown_15 (by decide) (fun c_15 => ?_) (fun c_15 => ?_)
        · refine lv_iload_n hx hb dX0_goDown_41 rfl (lv_at hl 0 rfl) ?_
          exact x_iret S hI hr hk (by rw [← hr2]; simp [xDown, c_15]) (by rw [← hs2]; simp [xDown, c_15]) dX0_goDown_42
        · refine lv_aload_n hx hb dX0_goDown_18 rfl (lv_at hl 1 rfl) ?_
          refine lv_aload_n hx hb dX0_goDown_19 rfl (lv_at hl 1 rfl) ?_
          refine x_get_17 S hI dX0_goDown_20 ?_
          refine lv_iload_n hx hb dX0_goDown_23 rfl (lv_at hl 0 rfl) ?_
          refine x_aln_17 S hI (by omega) dX0_goDown_24 ?_
          refine tt_top (nI ((τ 17 k).toNatClampNeg)) (tt_ofin (hw k (by omega)) (by decide)).1 ?_
          refine lv_iconst (v := 2) hx hb dX0_goDown_25 (by decide) ?_
          refine x_calli (n := 2) S hI hA [.int (nI ((τ 17 k).toNatClampNeg)), .int 2] (metX_carryOut l _ (τ 17 k).toNatClampNeg 2 (tt_ofin (hw k (by omega)) (by decide)).2 (by decide)) (lw_V q161 q163 qs9 q27 q164) rfl rfl (by decide +kernel) ⟨by decide, by decide⟩ rfl hl.1 rfl (Nat.le_of_ble_eq_true rfl) dX0_goDown_26 ⟨by decide, by decide⟩ (fun H locs hI => ?_)
          refine lv_istore_n (lv' := [(2, .int (τ 6 (((τ 17 k).toNatClampNeg) * 4 + 2))), (1, .int (nI k)), (0, .ref (h 0))]) hx hb dX0_goDown_29 rfl hl (by decide) rfl (fun ls hl => ?_)
          refine lv_aload_n hx hb dX0_goDown_30 rfl (lv_at hl 2 rfl) ?_
          refine lv_iload_n hx hb dX0_goDown_31 rfl (lv_at hl 0 rfl) ?_
          refine x_callv (n := 1) S hI hA [.int (τ 6 (((τ 17 k).toNatClampNeg) * 4 + 2))] (metX_note l _ (τ 6 (((τ 17 k).toNatClampNeg) * 4 + 2))) (lw_V q184 q186 qs14 q27 q187) rfl rfl (by decide +kernel) ⟨by decide, by decide⟩ rfl hl.1 rfl (Nat.le_of_ble_eq_true rfl) dX0_goDown_32 ⟨by decide, by decide⟩ (fun H locs hI => ?_)
          refine lv_iinc (v := nI (k + 1)) (lv' := [(1, .int (nI (k + 1))), (2, .int (τ 6 (((τ 17 k).toNatClampNeg) * 4 + 2))), (0, .ref (h 0))]) hx hb dX0_goDown_35 hl (k := 1) rfl (tt_inc _) (by decide) rfl (fun ls hl => ?_)
          refine lv_goto (tgt := 2) hx hb dX0_goDown_38 (by decide) ?_
          exact ih (k + 1) (xHk τ k 2) H locs ls (by omega) (by rw [xHk_k _ _ _ (by decide) (by decide) (by decide)]; exact ho) (fun i hi => by rw [xHk_k _ _ _ (by decide) (by decide) (by decide)]; exact hw i hi) (by rw [← hr2]; simp [xDown, c_15]) (by rw [← hs2]; simp [xDown, c_15]) hI (lv_sub hl [0, 2] rfl)
  exact key2 dd 0 σ _ _ _ (by omega) ho hw hrv.symm hsf.symm hI (lv_sub hl [0, 1] rfl)
set_option maxHeartbeats 4000000 in
set_option maxRecDepth 100000 in
theorem metX_bodyOutcome (l : Launch) (σ : ttS) (t i : Nat) (ht : t < 24) : MX l yX0_bodyOutcome cX0_bodyOutcome 4 (some .int) (rmL 0) [.int (nI t), .int (nI i)] σ (xBod σ t i) σ := by
  refine x_starti rfl rfl (fun h => Nat.le_of_ble_eq_true rfl) ?_
  intro p e s m args below meth c D h d A S hr hk hA hI ls hl
  have hx := S.1
  have hb := S.2.1
  have hl : lv_has ls 4 [(0, .ref (h 0)), (1, .int (nI t)), (2, .int (nI i))] := hl
  refine lv_aload_n hx hb dX0_bodyOutcome_0 rfl (lv_at hl 0 rfl) ?_
  refine x_get_8 S hI dX0_bodyOutcome_1 ?_
  refine lv_iload_n hx hb dX0_bodyOutcome_4 rfl (lv_at hl 1 rfl) ?_
  refine x_aln_8 S hI (by omega) dX0_bodyOutcome_5 ?_
  refine lv_iconst (v := 2) hx hb dX0_bodyOutcome_6 (by decide) ?_
  refine lv_iload_n hx hb dX0_bodyOutcome_7 rfl (lv_at hl 2 rfl) ?_
  refine lv_imul hx hb dX0_bodyOutcome_8 ?_
  refine lv_ishr hx hb dX0_bodyOutcome_9 ?_
  refine lv_iconst (v := 3) hx hb dX0_bodyOutcome_10 (by decide) ?_
  refine lv_iand hx hb dX0_bodyOutcome_11 ?_
  refine lv_istore_n (lv' := [(3, .int (((σ 8 t) >>> ((2 * (nI i)) &&& 31)) &&& 3)), (0, .ref (h 0)), (1, .int (nI t)), (2, .int (nI i))]) hx hb dX0_bodyOutcome_12 rfl hl (by decide) rfl (fun ls hl => ?_)
  refine lv_iload_n hx hb dX0_bodyOutcome_13 rfl (lv_at hl 0 rfl) ?_
  refine lv_if_ne (tgt := 21) hx hb dX0_bodyOutcome_14 (by decide) (fun c_14 => ?_) (fun c_14 => ?_)
  · refine lv_iload_n hx hb dX0_bodyOutcome_21 rfl (lv_at hl 0 rfl) ?_
    exact x_iret S hI hr hk (by simp [xBod, c_14]) rfl dX0_bodyOutcome_22
  · refine lv_iconst (v := 1) hx hb dX0_bodyOutcome_17 (by decide) ?_
    refine lv_goto (tgt := 22) hx hb dX0_bodyOutcome_18 (by decide) ?_
    exact x_iret S hI hr hk (by simp [xBod, c_14]) rfl dX0_bodyOutcome_22
set_option maxHeartbeats 4000000 in
set_option maxRecDepth 100000 in
theorem metX_attempt (l : Launch) (σ : ttS) (t i : Nat) (ht : t < 24) (dd : Nat) (ho : σ 16 0 = nI dd) (hdd : dd ≤ 24) (hw : ∀ i, i < dd → vp_in (σ 17 i) 24) : MX l yX0_attempt cX0_attempt 6 (some .int) (rmL 3) [.int (nI t), .int (nI i)] σ (xAttS σ dd t i 18 0) (xAttS σ dd t i) := by
  refine x_starti rfl rfl (fun h => Nat.le_of_ble_eq_true rfl) ?_
  intro p e s m args below meth c D h d A S hr hk hA hI ls hl
  have hx := S.1
  have hb := S.2.1
  have hl : lv_has ls 6 [(0, .ref (h 0)), (1, .int (nI t)), (2, .int (nI i))] := hl
  obtain ⟨rv, hrv⟩ : ∃ z, z = xAttS σ dd t i 18 0 := ⟨_, rfl⟩
  rw [← hrv]
  obtain ⟨sf, hsf⟩ : ∃ z, z = xAttS σ dd t i := ⟨_, rfl⟩
  rw [← hsf]
  refine lv_aload_n hx hb dX0_attempt_0 rfl (lv_at hl 0 rfl) ?_
  refine lv_iconst (v := 1) hx hb dX0_attempt_1 (by decide) ?_
  refine x_put_18 S hI dX0_attempt_2 (fun H locs hI => ?_)
  refine lv_aload_n hx hb dX0_attempt_5 rfl (lv_at hl 0 rfl) ?_
  refine x_calli (n := 0) S hI hA [] (metX_goDown l _ dd ho hdd hw) (lw_V q180 q182 qs13 q27 q183) rfl rfl (by decide +kernel) ⟨by decide, by decide⟩ rfl hl.1 rfl (Nat.le_of_ble_eq_true rfl) dX0_attempt_6 ⟨by decide, by decide⟩ (fun H locs hI => ?_)
  refine lv_istore_n (lv' := [(3, .int (nI ((xDown dd 0 (ttU σ 18 0 1)).1))), (0, .ref (h 0)), (1, .int (nI t)), (2, .int (nI i))]) hx hb dX0_attempt_9 rfl hl (by decide) rfl (fun ls hl => ?_)
  refine lv_aload_n hx hb dX0_attempt_10 rfl (lv_at hl 1 rfl) ?_
  refine x_get_18 S hI dX0_attempt_11 ?_
  refine lv_iconst (v := 1) hx hb dX0_attempt_14 (by decide) ?_
  refine lv_icmp_ne (tgt := 54) hx hb dX0_attempt_15 (by decide) (fun c_15 => ?_) (fun c_15 => ?_)
  · refine lv_iload_n hx hb dX0_attempt_54 rfl (lv_at hl 0 rfl) ?_
    refine lv_iconst (v := 1) hx hb dX0_attempt_55 (by decide) ?_
    refine lv_isub hx hb dX0_attempt_56 ?_
    refine lv_istore (lv' := [(4, .int ((nI ((xDown dd 0 (ttU σ 18 0 1)).1)) - 1)), (3, .int (nI ((xDown dd 0 (ttU σ 18 0 1)).1))), (0, .ref (h 0)), (1, .int (nI t)), (2, .int (nI i))]) hx hb dX0_attempt_57 hl (by decide) rfl (fun ls hl => ?_)
    have key59 : ∀ (f : Nat) (τ : ttS) (H : Heap) (locs : List Loc) (ls : Array Slot), (f ≤ dd) → (∀ i, i < dd → vp_in (τ 17 i) 24) → (xUpL f τ = sf) → (xUpL f τ 18 0 = rv) → bX D A h d τ s H locs → lv_has ls 6 [(4, .int (nI f - 1)), (3, .int (nI ((xDown dd 0 (ttU σ 18 0 1)).1))), (0, .ref (h 0)), (1, .int (nI t)), (2, .int (nI i))] → W p l e (rmL 3) s m args below meth c H locs 0 0 (xQi below D h d A args s rv sf) (F0 m 59 ls []) := by
      intro f
      induction f with
      | zero =>
        intro τ H locs ls hf hw hs2 hr2 hI hl
        refine lv_iload hx hb dX0_attempt_59 (lv_at hl 0 rfl) ?_
        refine lv_if_lt (tgt := 90) hx hb dX0_attempt_61 (by decide) (fun c_61 => ?_) (fun c_61 => ?_)
        · refine lv_aload_n hx hb dX0_attempt_90 rfl (lv_at hl 2 rfl) ?_
          refine x_get_18 S hI dX0_attempt_91 ?_
          exact x_iret S hI hr hk hr2 hs2 dX0_attempt_94
        · exact absurd (by decide) c_61
      | succ f ih =>
        intro τ H locs ls hf hw hs2 hr2 hI hl
        rw [tt_sub1] at hl
        refine lv_iload hx hb dX0_attempt_59 (lv_at hl 0 rfl) ?_
        refine lv_if_lt (tgt := 90) hx hb dX0_attempt_61 (by decide) (fun c_61 => ?_) (fun c_61 => ?_)
        · exact absurd c_61 (nI_pos (by omega))
        · refine lv_aload_n hx hb dX0_attempt_64 rfl (lv_at hl 2 rfl) ?_
          refine lv_aload_n hx hb dX0_attempt_65 rfl (lv_at hl 2 rfl) ?_
          refine x_get_17 S hI dX0_attempt_66 ?_
          refine lv_iload hx hb dX0_attempt_69 (lv_at hl 0 rfl) ?_
          refine x_aln_17 S hI (by omega) dX0_attempt_71 ?_
          refine tt_top (nI ((τ 17 f).toNatClampNeg)) (tt_ofin (hw f (by omega)) (by decide)).1 ?_
          refine lv_iconst (v := 3) hx hb dX0_attempt_72 (by decide) ?_
          refine x_calli (n := 2) S hI hA [.int (nI ((τ 17 f).toNatClampNeg)), .int 3] (metX_carryOut l _ (τ 17 f).toNatClampNeg 3 (tt_ofin (hw f (by omega)) (by decide)).2 (by decide)) (lw_V q161 q163 qs9 q27 q164) rfl rfl (by decide +kernel) ⟨by decide, by decide⟩ rfl hl.1 rfl (Nat.le_of_ble_eq_true rfl) dX0_attempt_73 ⟨by decide, by decide⟩ (fun H locs hI => ?_)
          refine lv_istore (lv' := [(5, .int (τ 6 (((τ 17 f).toNatClampNeg) * 4 + 3))), (4, .int (nI f)), (3, .int (nI ((xDown dd 0 (ttU σ 18 0 1)).1))), (0, .ref (h 0)), (1, .int (nI t)), (2, .int (nI i))]) hx hb dX0_attempt_76 hl (by decide) rfl (fun ls hl => ?_)
          refine lv_aload_n hx hb dX0_attempt_78 rfl (lv_at hl 3 rfl) ?_
          refine lv_iload hx hb dX0_attempt_79 (lv_at hl 0 rfl) ?_
          refine x_callv (n := 1) S hI hA [.int (τ 6 (((τ 17 f).toNatClampNeg) * 4 + 3))] (metX_note l _ (τ 6 (((τ 17 f).toNatClampNeg) * 4 + 3))) (lw_V q184 q186 qs14 q27 q187) rfl rfl (by decide +kernel) ⟨by decide, by decide⟩ rfl hl.1 rfl (Nat.le_of_ble_eq_true rfl) dX0_attempt_81 ⟨by decide, by decide⟩ (fun H locs hI => ?_)
          refine lv_iinc (v := nI f - 1) (lv' := [(4, .int (nI f - 1)), (5, .int (τ 6 (((τ 17 f).toNatClampNeg) * 4 + 3))), (3, .int (nI ((xDown dd 0 (ttU σ 18 0 1)).1))), (0, .ref (h 0)), (1, .int (nI t)), (2, .int (nI i))]) hx hb dX0_attempt_84 hl (k := 1) rfl (tt_decm _) (by decide) rfl (fun ls hl => ?_)
          refine lv_goto (tgt := 59) hx hb dX0_attempt_87 (by decide) ?_
          exact ih (xHk τ f 3) H locs ls (by omega) (fun j hj => by rw [xHk_k _ _ _ (by decide) (by decide) (by decide)]; exact hw j hj) hs2 hr2 hI (lv_sub hl [0, 2, 3, 4, 5] rfl)
    exact key59 (xDown dd 0 (ttU σ 18 0 1)).1 (xAtt2 (xDown dd 0 (ttU σ 18 0 1)).2 t i) _ _ _ (by have := xDown_le dd 0 (ttU σ 18 0 1); omega) (fun j hj => by rw [xAtt2_k _ _ _ (by decide) (by decide) (by decide), xDown_k _ _ _ (by decide) (by decide) (by decide)]; exact hw j hj) (by rw [hsf]; rfl) (by rw [hrv]; rfl) (by rw [show xAtt2 (xDown dd 0 (ttU σ 18 0 1)).2 t i = (xDown dd 0 (ttU σ 18 0 1)).2 from by simp [xAtt2, c_15]; try rfl]; exact hI) (lv_sub hl [0, 1, 2, 3, 4] rfl)
  · refine lv_aload_n hx hb dX0_attempt_18 rfl (lv_at hl 1 rfl) ?_
    refine x_get_12 S hI dX0_attempt_19 ?_
    refine lv_iload_n hx hb dX0_attempt_22 rfl (lv_at hl 2 rfl) ?_
    refine lv_iconst (v := 4) hx hb dX0_attempt_23 (by decide) ?_
    refine lv_imul hx hb dX0_attempt_24 ?_
    refine tt_top (nI (t * 4)) (tt_mul4 _) ?_
    refine lv_dup2_11 hx hb dX0_attempt_25 rfl rfl ?_
    refine x_aln_12 S hI (by omega) dX0_attempt_26 ?_
    refine lv_iconst (v := 1) hx hb dX0_attempt_27 (by decide) ?_
    refine lv_iadd hx hb dX0_attempt_28 ?_
    refine x_asn_12 S hI (by omega) dX0_attempt_29 (fun H locs hI => ?_)
    refine lv_aload_n hx hb dX0_attempt_30 rfl (lv_at hl 1 rfl) ?_
    refine lv_dup hx hb dX0_attempt_31 rfl ?_
    refine x_get_14 S hI dX0_attempt_32 ?_
    refine lv_iconst (v := 1) hx hb dX0_attempt_35 (by decide) ?_
    refine lv_iadd hx hb dX0_attempt_36 ?_
    refine x_put_14 S hI dX0_attempt_37 (fun H locs hI => ?_)
    refine lv_aload_n hx hb dX0_attempt_40 rfl (lv_at hl 1 rfl) ?_
    refine lv_iload_n hx hb dX0_attempt_41 rfl (lv_at hl 2 rfl) ?_
    refine lv_iload_n hx hb dX0_attempt_42 rfl (lv_at hl 3 rfl) ?_
    refine x_calli (n := 2) S hI hA [.int (nI t), .int (nI i)] (metX_bodyOutcome l _ t i ht) (lw_V q188 q190 qs15 q27 q191) rfl rfl (by decide +kernel) ⟨by decide, by decide⟩ rfl hl.1 rfl (Nat.le_of_ble_eq_true rfl) dX0_attempt_43 ⟨by decide, by decide⟩ (fun H locs hI => ?_)
    refine lv_istore (lv' := [(4, .int (xBod (ttU (ttU ((xDown dd 0 (ttU σ 18 0 1)).2) 12 (t * 4) ((((xDown dd 0 (ttU σ 18 0 1)).2) 12 (t * 4)) + 1)) 14 0 (((ttU ((xDown dd 0 (ttU σ 18 0 1)).2) 12 (t * 4) ((((xDown dd 0 (ttU σ 18 0 1)).2) 12 (t * 4)) + 1)) 14 0) + 1)) t i)), (3, .int (nI ((xDown dd 0 (ttU σ 18 0 1)).1))), (0, .ref (h 0)), (1, .int (nI t)), (2, .int (nI i))]) hx hb dX0_attempt_46 hl (by decide) rfl (fun ls hl => ?_)
    refine lv_aload_n hx hb dX0_attempt_48 rfl (lv_at hl 2 rfl) ?_
    refine lv_iload hx hb dX0_attempt_49 (lv_at hl 0 rfl) ?_
    refine x_callv (n := 1) S hI hA [.int (xBod (ttU (ttU ((xDown dd 0 (ttU σ 18 0 1)).2) 12 (t * 4) ((((xDown dd 0 (ttU σ 18 0 1)).2) 12 (t * 4)) + 1)) 14 0 (((ttU ((xDown dd 0 (ttU σ 18 0 1)).2) 12 (t * 4) ((((xDown dd 0 (ttU σ 18 0 1)).2) 12 (t * 4)) + 1)) 14 0) + 1)) t i)] (metX_note l _ (xBod (ttU (ttU ((xDown dd 0 (ttU σ 18 0 1)).2) 12 (t * 4) ((((xDown dd 0 (ttU σ 18 0 1)).2) 12 (t * 4)) + 1)) 14 0 (((ttU ((xDown dd 0 (ttU σ 18 0 1)).2) 12 (t * 4) ((((xDown dd 0 (ttU σ 18 0 1)).2) 12 (t * 4)) + 1)) 14 0) + 1)) t i)) (lw_V q184 q186 qs14 q27 q187) rfl rfl (by decide +kernel) ⟨by decide, by decide⟩ rfl hl.1 rfl (Nat.le_of_ble_eq_true rfl) dX0_attempt_51 ⟨by decide, by decide⟩ (fun H locs hI => ?_)
    refine lv_iload_n hx hb dX0_attempt_54 rfl (lv_at hl 1 rfl) ?_
    refine lv_iconst (v := 1) hx hb dX0_attempt_55 (by decide) ?_
    refine lv_isub hx hb dX0_attempt_56 ?_
    refine lv_istore (lv' := [(4, .int ((nI ((xDown dd 0 (ttU σ 18 0 1)).1)) - 1)), (3, .int (nI ((xDown dd 0 (ttU σ 18 0 1)).1))), (0, .ref (h 0)), (1, .int (nI t)), (2, .int (nI i))]) hx hb dX0_attempt_57 hl (by decide) rfl (fun ls hl => ?_)
    have key59 : ∀ (f : Nat) (τ : ttS) (H : Heap) (locs : List Loc) (ls : Array Slot), (f ≤ dd) → (∀ i, i < dd → vp_in (τ 17 i) 24) → (xUpL f τ = sf) → (xUpL f τ 18 0 = rv) → bX D A h d τ s H locs → lv_has ls 6 [(4, .int (nI f - 1)), (3, .int (nI ((xDown dd 0 (ttU σ 18 0 1)).1))), (0, .ref (h 0)), (1, .int (nI t)), (2, .int (nI i))] → W p l e (rmL 3) s m args below meth c H locs 0 0 (xQi below D h d A args s rv sf) (F0 m 59 ls []) := by
      intro f
      induction f with
      | zero =>
        intro τ H locs ls hf hw hs2 hr2 hI hl
        refine lv_iload hx hb dX0_attempt_59 (lv_at hl 0 rfl) ?_
        refine lv_if_lt (tgt := 90) hx hb dX0_attempt_61 (by decide) (fun c_61 => ?_) (fun c_61 => ?_)
        · refine lv_aload_n hx hb dX0_attempt_90 rfl (lv_at hl 2 rfl) ?_
          refine x_get_18 S hI dX0_attempt_91 ?_
          exact x_iret S hI hr hk hr2 hs2 dX0_attempt_94
        · exact absurd (by decide) c_61
      | succ f ih =>
        intro τ H locs ls hf hw hs2 hr2 hI hl
        rw [tt_sub1] at hl
        refine lv_iload hx hb dX0_attempt_59 (lv_at hl 0 rfl) ?_
        refine lv_if_lt (tgt := 90) hx hb dX0_attempt_61 (by decide) (fun c_61 => ?_) (fun c_61 => ?_)
        · exact absurd c_61 (nI_pos (by omega))
        · refine lv_aload_n hx hb dX0_attempt_64 rfl (lv_at hl 2 rfl) ?_
          refine lv_aload_n hx hb dX0_attempt_65 rfl (lv_at hl 2 rfl) ?_
          refine x_get_17 S hI dX0_attempt_66 ?_
          refine lv_iload hx hb dX0_attempt_69 (lv_at hl 0 rfl) ?_
          refine x_aln_17 S hI (by omega) dX0_attempt_71 ?_
          refine tt_top (nI ((τ 17 f).toNatClampNeg)) (tt_ofin (hw f (by omega)) (by decide)).1 ?_
          refine lv_iconst (v := 3) hx hb dX0_attempt_72 (by decide) ?_
          refine x_calli (n := 2) S hI hA [.int (nI ((τ 17 f).toNatClampNeg)), .int 3] (metX_carryOut l _ (τ 17 f).toNatClampNeg 3 (tt_ofin (hw f (by omega)) (by decide)).2 (by decide)) (lw_V q161 q163 qs9 q27 q164) rfl rfl (by decide +kernel) ⟨by decide, by decide⟩ rfl hl.1 rfl (Nat.le_of_ble_eq_true rfl) dX0_attempt_73 ⟨by decide, by decide⟩ (fun H locs hI => ?_)
          refine lv_istore (lv' := [(5, .int (τ 6 (((τ 17 f).toNatClampNeg) * 4 + 3))), (4, .int (nI f)), (3, .int (nI ((xDown dd 0 (ttU σ 18 0 1)).1))), (0, .ref (h 0)), (1, .int (nI t)), (2, .int (nI i))]) hx hb dX0_attempt_76 hl (by decide) rfl (fun ls hl => ?_)
          refine lv_aload_n hx hb dX0_attempt_78 rfl (lv_at hl 3 rfl) ?_
          refine lv_iload hx hb dX0_attempt_79 (lv_at hl 0 rfl) ?_
          refine x_callv (n := 1) S hI hA [.int (τ 6 (((τ 17 f).toNatClampNeg) * 4 + 3))] (metX_note l _ (τ 6 (((τ 17 f).toNatClampNeg) * 4 + 3))) (lw_V q184 q186 qs14 q27 q187) rfl rfl (by decide +kernel) ⟨by decide, by decide⟩ rfl hl.1 rfl (Nat.le_of_ble_eq_true rfl) dX0_attempt_81 ⟨by decide, by decide⟩ (fun H locs hI => ?_)
          refine lv_iinc (v := nI f - 1) (lv' := [(4, .int (nI f - 1)), (5, .int (τ 6 (((τ 17 f).toNatClampNeg) * 4 + 3))), (3, .int (nI ((xDown dd 0 (ttU σ 18 0 1)).1))), (0, .ref (h 0)), (1, .int (nI t)), (2, .int (nI i))]) hx hb dX0_attempt_84 hl (k := 1) rfl (tt_decm _) (by decide) rfl (fun ls hl => ?_)
          refine lv_goto (tgt := 59) hx hb dX0_attempt_87 (by decide) ?_
          exact ih (xHk τ f 3) H locs ls (by omega) (fun j hj => by rw [xHk_k _ _ _ (by decide) (by decide) (by decide)]; exact hw j hj) hs2 hr2 hI (lv_sub hl [0, 2, 3, 4, 5] rfl)
    exact key59 (xDown dd 0 (ttU σ 18 0 1)).1 (xAtt2 (xDown dd 0 (ttU σ 18 0 1)).2 t i) _ _ _ (by have := xDown_le dd 0 (ttU σ 18 0 1); omega) (fun j hj => by rw [xAtt2_k _ _ _ (by decide) (by decide) (by decide), xDown_k _ _ _ (by decide) (by decide) (by decide)]; exact hw j hj) (by rw [hsf]; rfl) (by rw [hrv]; rfl) (by rw [show xAtt2 (xDown dd 0 (ttU σ 18 0 1)).2 t i = xNote (ttU (ttU ((xDown dd 0 (ttU σ 18 0 1)).2) 12 (t * 4) ((((xDown dd 0 (ttU σ 18 0 1)).2) 12 (t * 4)) + 1)) 14 0 (((ttU ((xDown dd 0 (ttU σ 18 0 1)).2) 12 (t * 4) ((((xDown dd 0 (ttU σ 18 0 1)).2) 12 (t * 4)) + 1)) 14 0) + 1)) (xBod (ttU (ttU ((xDown dd 0 (ttU σ 18 0 1)).2) 12 (t * 4) ((((xDown dd 0 (ttU σ 18 0 1)).2) 12 (t * 4)) + 1)) 14 0 (((ttU ((xDown dd 0 (ttU σ 18 0 1)).2) 12 (t * 4) ((((xDown dd 0 (ttU σ 18 0 1)).2) 12 (t * 4)) + 1)) 14 0) + 1)) t i) from by simp [xAtt2, c_15]; try rfl]; exact hI) (lv_sub hl [0, 1, 2, 3, 4] rfl)
set_option maxHeartbeats 4000000 in
set_option maxRecDepth 100000 in
theorem metX_runTest (l : Launch) (σ : ttS) (t : Nat) (ht : t < 24) (dd : Nat) (ho : σ 16 0 = nI dd) (hdd : dd ≤ 24) (hw : ∀ i, i < dd → vp_in (σ 17 i) 24) (K : Nat) (hK : σ 7 t = nI K) (hK4 : K ≤ 4) : MXv l yX0_runTest cX0_runTest 4 (rmL 4) [.int (nI t)] σ (xRunT σ dd K t) := by
  refine x_startv rfl rfl (fun h => Nat.le_of_ble_eq_true rfl) ?_
  intro p e s m args below meth c D h d A S hr hk hA hI ls hl
  have hx := S.1
  have hb := S.2.1
  have hl : lv_has ls 4 [(0, .ref (h 0)), (1, .int (nI t))] := hl
  obtain ⟨sf, hsf⟩ : ∃ z, z = xRunT σ dd K t := ⟨_, rfl⟩
  rw [← hsf]
  refine lv_iconst (v := 2) hx hb dX0_runTest_0 (by decide) ?_
  refine lv_istore_n (lv' := [(2, .int 2), (0, .ref (h 0)), (1, .int (nI t))]) hx hb dX0_runTest_1 rfl hl (by decide) rfl (fun ls hl => ?_)
  refine lv_iconst (v := 0) hx hb dX0_runTest_2 (by decide) ?_
  refine lv_istore_n (lv' := [(3, .int 0), (2, .int 2), (0, .ref (h 0)), (1, .int (nI t))]) hx hb dX0_runTest_3 rfl hl (by decide) rfl (fun ls hl => ?_)
  have key4 : ∀ (f : Nat) (i : Nat) (r : Int32) (τ : ttS) (H : Heap) (locs : List Loc) (ls : Array Slot), (i + f = K) → (τ 7 t = nI K) → (τ 16 0 = nI dd) → (∀ i, i < dd → vp_in (τ 17 i) 24) → (ttU (xTry dd t f i r τ).2 11 t (xTry dd t f i r τ).1 = sf) → bX D A h d τ s H locs → lv_has ls 4 [(3, .int (nI i)), (2, .int r), (0, .ref (h 0)), (1, .int (nI t))] → W p l e (rmL 4) s m args below meth c H locs 0 0 (xQv below D h d A args s sf) (F0 m 4 ls []) := by
    intro f
    induction f with
    | zero =>
      intro i r τ H locs ls hk2 hK ho hw hs2 hI hl
      obtain rfl : i = K := by omega
      refine lv_iload_n hx hb dX0_runTest_4 rfl (lv_at hl 0 rfl) ?_
      refine lv_aload_n hx hb dX0_runTest_5 rfl (lv_at hl 2 rfl) ?_
      refine x_get_7 S hI dX0_runTest_6 ?_
      refine lv_iload_n hx hb dX0_runTest_9 rfl (lv_at hl 3 rfl) ?_
      refine x_aln_7 S hI (by omega) dX0_runTest_10 ?_
      refine lv_icmp_ge (tgt := 42) hx hb dX0_runTest_11 (by decide) (fun c_11 => ?_) (fun c_11 => ?_)
      · refine lv_aload_n hx hb dX0_runTest_42 rfl (lv_at hl 2 rfl) ?_
        refine x_get_11 S hI dX0_runTest_43 ?_
        refine lv_iload_n hx hb dX0_runTest_46 rfl (lv_at hl 3 rfl) ?_
        refine lv_iload_n hx hb dX0_runTest_47 rfl (lv_at hl 1 rfl) ?_
        refine x_asn_11 S hI (by omega) dX0_runTest_48 (fun H locs hI => ?_)
        exact x_vret S hI hr hk hs2 dX0_runTest_49
      · exact absurd (by rw [hK]; exact nI_le (Nat.le_refl i) (by omega)) c_11
    | succ f ih =>
      intro i r τ H locs ls hk2 hK ho hw hs2 hI hl
      refine lv_iload_n hx hb dX0_runTest_4 rfl (lv_at hl 0 rfl) ?_
      refine lv_aload_n hx hb dX0_runTest_5 rfl (lv_at hl 2 rfl) ?_
      refine x_get_7 S hI dX0_runTest_6 ?_
      refine lv_iload_n hx hb dX0_runTest_9 rfl (lv_at hl 3 rfl) ?_
      refine x_aln_7 S hI (by omega) dX0_runTest_10 ?_
      refine lv_icmp_ge (tgt := 42) hx hb dX0_runTest_11 (by decide) (fun c_11 => ?_) (fun c_11 => ?_)
      · exact absurd c_11 (by rw [hK]; exact nI_ge (by omega) (by omega))
      · refine lv_iload_n hx hb dX0_runTest_14 rfl (lv_at hl 1 rfl) ?_
        refine lv_iconst (v := 2) hx hb dX0_runTest_15 (by decide) ?_
        refine lv_icmp_ne (tgt := 42) hx hb dX0_runTest_16 (by decide) (fun c_16 => ?_) (fun c_16 => ?_)
        · refine lv_aload_n hx hb dX0_runTest_42 rfl (lv_at hl 2 rfl) ?_
          refine x_get_11 S hI dX0_runTest_43 ?_
          refine lv_iload_n hx hb dX0_runTest_46 rfl (lv_at hl 3 rfl) ?_
          refine lv_iload_n hx hb dX0_runTest_47 rfl (lv_at hl 1 rfl) ?_
          refine x_asn_11 S hI (by omega) dX0_runTest_48 (fun H locs hI => ?_)
          exact x_vret S hI hr hk (by rw [← hs2]; simp [xTry, c_16]) dX0_runTest_49
        · refine lv_aload_n hx hb dX0_runTest_19 rfl (lv_at hl 2 rfl) ?_
          refine lv_iload_n hx hb dX0_runTest_20 rfl (lv_at hl 3 rfl) ?_
          refine lv_iload_n hx hb dX0_runTest_21 rfl (lv_at hl 0 rfl) ?_
          refine x_calli (n := 2) S hI hA [.int (nI t), .int (nI i)] (metX_attempt l _ t i ht dd ho hdd hw) (lw_V q176 q178 qs12 q27 q179) rfl rfl (by decide +kernel) ⟨by decide, by decide⟩ rfl hl.1 rfl (Nat.le_of_ble_eq_true rfl) dX0_runTest_22 ⟨by decide, by decide⟩ (fun H locs hI => ?_)
          refine lv_istore_n (lv' := [(2, .int (xAttS τ dd t i 18 0)), (3, .int (nI i)), (0, .ref (h 0)), (1, .int (nI t))]) hx hb dX0_runTest_25 rfl hl (by decide) rfl (fun ls hl => ?_)
          refine lv_aload_n hx hb dX0_runTest_26 rfl (lv_at hl 2 rfl) ?_
          refine x_get_13 S hI dX0_runTest_27 ?_
          refine lv_iload_n hx hb dX0_runTest_30 rfl (lv_at hl 3 rfl) ?_
          refine lv_dup2_11 hx hb dX0_runTest_31 rfl rfl ?_
          refine x_aln_13 S hI (by omega) dX0_runTest_32 ?_
          refine lv_iconst (v := 1) hx hb dX0_runTest_33 (by decide) ?_
          refine lv_iadd hx hb dX0_runTest_34 ?_
          refine x_asn_13 S hI (by omega) dX0_runTest_35 (fun H locs hI => ?_)
          refine lv_iinc (v := nI (i + 1)) (lv' := [(3, .int (nI (i + 1))), (2, .int (xAttS τ dd t i 18 0)), (0, .ref (h 0)), (1, .int (nI t))]) hx hb dX0_runTest_36 hl (k := 1) rfl (tt_inc _) (by decide) rfl (fun ls hl => ?_)
          refine lv_goto (tgt := 4) hx hb dX0_runTest_39 (by decide) ?_
          exact ih (i + 1) (xAttS τ dd t i 18 0) _ H locs ls (by omega) (by rw [ttU_ne _ _ _ (by decide), xAttS_k _ _ _ _ (by decide) (by decide) (by decide)]; exact hK) (by rw [ttU_ne _ _ _ (by decide), xAttS_k _ _ _ _ (by decide) (by decide) (by decide)]; exact ho) (fun j hj => by rw [ttU_ne _ _ _ (by decide), xAttS_k _ _ _ _ (by decide) (by decide) (by decide)]; exact hw j hj) (by rw [← hs2]; simp [xTry, c_16]) hI (lv_sub hl [0, 1, 2, 3] rfl)
  exact key4 K 0 2 σ _ _ _ (by omega) hK ho hw hsf.symm hI (lv_sub hl [0, 1, 2, 3] rfl)
set_option maxHeartbeats 4000000 in
set_option maxRecDepth 100000 in
theorem metX_enter (l : Launch) (σ : ttS) (n : Nat) (hn : n < 24) (dd : Nat) (ho : σ 16 0 = nI dd) (hdd : dd < 24) : MX l yX0_enter cX0_enter 3 (some .int) (rmL 1) [.int (nI n)] σ (xEntR σ dd n) (xEntS σ dd n) := by
  refine x_starti rfl rfl (fun h => Nat.le_of_ble_eq_true rfl) ?_
  intro p e s m args below meth c D h d A S hr hk hA hI ls hl
  have hx := S.1
  have hb := S.2.1
  have hl : lv_has ls 3 [(0, .ref (h 0)), (1, .int (nI n))] := hl
  obtain ⟨rv, hrv⟩ : ∃ z, z = xEntR σ dd n := ⟨_, rfl⟩
  rw [← hrv]
  obtain ⟨sf, hsf⟩ : ∃ z, z = xEntS σ dd n := ⟨_, rfl⟩
  rw [← hsf]
  refine lv_aload_n hx hb dX0_enter_0 rfl (lv_at hl 0 rfl) ?_
  refine lv_iload_n hx hb dX0_enter_1 rfl (lv_at hl 1 rfl) ?_
  refine lv_iconst (v := 0) hx hb dX0_enter_2 (by decide) ?_
  refine x_calli (n := 2) S hI hA [.int (nI n), .int 0] (metX_carryOut l _ n 0 hn (by decide)) (lw_V q161 q163 qs9 q27 q164) rfl rfl (by decide +kernel) ⟨by decide, by decide⟩ rfl hl.1 rfl (Nat.le_of_ble_eq_true rfl) dX0_enter_3 ⟨by decide, by decide⟩ (fun H locs hI => ?_)
  refine lv_istore_n (lv' := [(2, .int (σ 6 (n * 4 + 0))), (0, .ref (h 0)), (1, .int (nI n))]) hx hb dX0_enter_6 rfl hl (by decide) rfl (fun ls hl => ?_)
  refine lv_aload_n hx hb dX0_enter_7 rfl (lv_at hl 1 rfl) ?_
  refine x_get_11 S hI dX0_enter_8 ?_
  refine lv_iload_n hx hb dX0_enter_11 rfl (lv_at hl 2 rfl) ?_
  refine lv_iconst (v := 1) hx hb dX0_enter_12 (by decide) ?_
  refine lv_iload_n hx hb dX0_enter_13 rfl (lv_at hl 0 rfl) ?_
  refine x_calls (n := 2) S hI [.int 1, .int (σ 6 (n * 4 + 0))] (metX_worse l 1 (σ 6 (n * 4 + 0))) (lw_S q165 q166 q27 q167) rfl rfl (by decide +kernel) ⟨by decide, by decide⟩ rfl hl.1 rfl (Nat.le_of_ble_eq_true rfl) dX0_enter_14 ⟨by decide, by decide⟩ (fun H locs hI => ?_)
  refine x_asn_11 S hI (by omega) dX0_enter_17 (fun H locs hI => ?_)
  refine lv_aload_n hx hb dX0_enter_18 rfl (lv_at hl 1 rfl) ?_
  refine x_get_17 S hI dX0_enter_19 ?_
  refine lv_aload_n hx hb dX0_enter_22 rfl (lv_at hl 1 rfl) ?_
  refine x_get_16 S hI dX0_enter_23 ?_
  refine tt_top (nI dd) (show xCar σ n 0 16 0 = nI dd by rw [xCar_k _ _ _ (by decide) (by decide)]; exact ho) ?_
  refine lv_iload_n hx hb dX0_enter_26 rfl (lv_at hl 2 rfl) ?_
  refine x_asn_17 S hI (by omega) dX0_enter_27 (fun H locs hI => ?_)
  refine lv_aload_n hx hb dX0_enter_28 rfl (lv_at hl 1 rfl) ?_
  refine lv_dup hx hb dX0_enter_29 rfl ?_
  refine x_get_16 S hI dX0_enter_30 ?_
  refine tt_top (nI dd) (show xCar σ n 0 16 0 = nI dd by rw [xCar_k _ _ _ (by decide) (by decide)]; exact ho) ?_
  refine lv_iconst (v := 1) hx hb dX0_enter_33 (by decide) ?_
  refine lv_iadd hx hb dX0_enter_34 ?_
  refine x_put_16 S hI dX0_enter_35 (fun H locs hI => ?_)
  refine lv_aload_n hx hb dX0_enter_38 rfl (lv_at hl 1 rfl) ?_
  refine x_get_11 S hI dX0_enter_39 ?_
  refine lv_iload_n hx hb dX0_enter_42 rfl (lv_at hl 2 rfl) ?_
  refine x_aln_11 S hI (by omega) dX0_enter_43 ?_
  refine tt_top (xW 1 (σ 6 (n * 4 + 0))) (by show upd _ n _ n = _; simp [upd]) ?_
  refine lv_iconst (v := 1) hx hb dX0_enter_44 (by decide) ?_
  refine lv_icmp_ne (tgt := 57) hx hb dX0_enter_45 (by decide) (fun c_45 => ?_) (fun c_45 => ?_)
  · refine lv_iconst (v := -1) hx hb dX0_enter_57 (by decide) ?_
    exact x_iret S hI hr hk (by rw [hrv, xEntR, if_neg c_45]) (by rw [hsf]; rfl) dX0_enter_58
  · refine lv_aload_n hx hb dX0_enter_48 rfl (lv_at hl 1 rfl) ?_
    refine x_get_3 S hI dX0_enter_49 ?_
    refine lv_iload_n hx hb dX0_enter_52 rfl (lv_at hl 2 rfl) ?_
    refine x_aln_3 S hI (by omega) dX0_enter_53 ?_
    refine tt_top (σ 3 n) (by show xCar σ n 0 3 n = _; rw [xCar_k _ _ _ (by decide) (by decide)]) ?_
    refine lv_goto (tgt := 58) hx hb dX0_enter_54 (by decide) ?_
    exact x_iret S hI hr hk (by rw [hrv, xEntR, if_pos c_45]) (by rw [hsf]; rfl) dX0_enter_58
set_option maxHeartbeats 4000000 in
set_option maxRecDepth 100000 in
theorem metX_leave (l : Launch) (σ : ttS) (dd : Nat) (ho : σ 16 0 = nI (dd + 1)) (hdd : dd < 24) (hw : vp_in (σ 17 dd) 24) : MXv l yX0_leave cX0_leave 3 (rmL 1) [] σ (xLvS σ dd) := by
  refine x_startv rfl rfl (fun h => Nat.le_of_ble_eq_true rfl) ?_
  intro p e s m args below meth c D h d A S hr hk hA hI ls hl
  have hx := S.1
  have hb := S.2.1
  have hl : lv_has ls 3 [(0, .ref (h 0))] := hl
  obtain ⟨sf, hsf⟩ : ∃ z, z = xLvS σ dd := ⟨_, rfl⟩
  rw [← hsf]
  have hw24 := (tt_ofin hw (by decide)).2
  refine lv_aload_n hx hb dX0_leave_0 rfl (lv_at hl 0 rfl) ?_
  refine lv_dup hx hb dX0_leave_1 rfl ?_
  refine x_get_16 S hI dX0_leave_2 ?_
  refine tt_top (nI (dd + 1)) ho ?_
  refine lv_iconst (v := 1) hx hb dX0_leave_5 (by decide) ?_
  refine lv_isub hx hb dX0_leave_6 ?_
  refine tt_top (nI dd) (tt_sub1 _) ?_
  refine x_put_16 S hI dX0_leave_7 (fun H locs hI => ?_)
  refine lv_aload_n hx hb dX0_leave_10 rfl (lv_at hl 0 rfl) ?_
  refine x_get_17 S hI dX0_leave_11 ?_
  refine lv_aload_n hx hb dX0_leave_14 rfl (lv_at hl 0 rfl) ?_
  refine x_get_16 S hI dX0_leave_15 ?_
  refine tt_top (nI dd) rfl ?_
  refine x_aln_17 S hI (by omega) dX0_leave_18 ?_
  refine tt_top (nI ((σ 17 dd).toNatClampNeg)) (tt_ofin hw (by decide)).1 ?_
  refine lv_istore_n (lv' := [(1, .int (nI ((σ 17 dd).toNatClampNeg))), (0, .ref (h 0))]) hx hb dX0_leave_19 rfl hl (by decide) rfl (fun ls hl => ?_)
  refine lv_aload_n hx hb dX0_leave_20 rfl (lv_at hl 1 rfl) ?_
  refine lv_iload_n hx hb dX0_leave_21 rfl (lv_at hl 0 rfl) ?_
  refine lv_iconst (v := 1) hx hb dX0_leave_22 (by decide) ?_
  refine x_calli (n := 2) S hI hA [.int (nI ((σ 17 dd).toNatClampNeg)), .int 1] (metX_carryOut l _ (σ 17 dd).toNatClampNeg 1 hw24 (by decide)) (lw_V q161 q163 qs9 q27 q164) rfl rfl (by decide +kernel) ⟨by decide, by decide⟩ rfl hl.1 rfl (Nat.le_of_ble_eq_true rfl) dX0_leave_23 ⟨by decide, by decide⟩ (fun H locs hI => ?_)
  refine lv_istore_n (lv' := [(2, .int ((ttU σ 16 0 (nI dd)) 6 (((σ 17 dd).toNatClampNeg) * 4 + 1))), (1, .int (nI ((σ 17 dd).toNatClampNeg))), (0, .ref (h 0))]) hx hb dX0_leave_26 rfl hl (by decide) rfl (fun ls hl => ?_)
  refine lv_aload_n hx hb dX0_leave_27 rfl (lv_at hl 2 rfl) ?_
  refine x_get_11 S hI dX0_leave_28 ?_
  refine lv_iload_n hx hb dX0_leave_31 rfl (lv_at hl 1 rfl) ?_
  refine lv_aload_n hx hb dX0_leave_32 rfl (lv_at hl 2 rfl) ?_
  refine x_get_11 S hI dX0_leave_33 ?_
  refine lv_iload_n hx hb dX0_leave_36 rfl (lv_at hl 1 rfl) ?_
  refine x_aln_11 S hI (by omega) dX0_leave_37 ?_
  refine tt_top (σ 11 (σ 17 dd).toNatClampNeg) (by rw [xCar_k _ _ _ (by decide) (by decide)]; rfl) ?_
  refine lv_iload_n hx hb dX0_leave_38 rfl (lv_at hl 0 rfl) ?_
  refine x_calls (n := 2) S hI [.int (σ 11 (σ 17 dd).toNatClampNeg), .int ((ttU σ 16 0 (nI dd)) 6 (((σ 17 dd).toNatClampNeg) * 4 + 1))] (metX_worse l (σ 11 (σ 17 dd).toNatClampNeg) ((ttU σ 16 0 (nI dd)) 6 (((σ 17 dd).toNatClampNeg) * 4 + 1))) (lw_S q165 q166 q27 q167) rfl rfl (by decide +kernel) ⟨by decide, by decide⟩ rfl hl.1 rfl (Nat.le_of_ble_eq_true rfl) dX0_leave_39 ⟨by decide, by decide⟩ (fun H locs hI => ?_)
  refine x_asn_11 S hI (by omega) dX0_leave_42 (fun H locs hI => ?_)
  exact x_vret S hI hr hk (by rw [hsf]; rfl) dX0_leave_43
set_option maxHeartbeats 4000000 in
set_option maxRecDepth 100000 in
theorem metX_walk (l : Launch) (σ : ttS) (hok : xWalkOK σ) : MXv l yX0_walk cX0_walk 4 (rmL 5) [] σ (xWalkS σ) := by
  refine x_startv rfl rfl (fun h => Nat.le_of_ble_eq_true rfl) ?_
  intro p e s m args below meth c D h d A S hr hk hA hI ls hl
  have hx := S.1
  have hb := S.2.1
  have hl : lv_has ls 4 [(0, .ref (h 0))] := hl
  obtain ⟨sf, hsf⟩ : ∃ z, z = xWalkS σ := ⟨_, rfl⟩
  rw [← hsf]
  refine lv_aload_n hx hb dX0_walk_0 rfl (lv_at hl 0 rfl) ?_
  refine lv_iconst (v := 0) hx hb dX0_walk_1 (by decide) ?_
  refine x_put_16 S hI dX0_walk_2 (fun H locs hI => ?_)
  refine lv_aload_n hx hb dX0_walk_5 rfl (lv_at hl 0 rfl) ?_
  refine lv_iconst (v := 0) hx hb dX0_walk_6 (by decide) ?_
  refine tt_top (nI 0) rfl ?_
  refine x_calli (n := 1) S hI hA [.int (nI 0)] (metX_enter l _ 0 (by decide) 0 rfl (by decide)) (lw_V q157 q159 qs8 q27 q160) rfl rfl (by decide +kernel) ⟨by decide, by decide⟩ rfl hl.1 rfl (Nat.le_of_ble_eq_true rfl) dX0_walk_7 ⟨by decide, by decide⟩ (fun H locs hI => ?_)
  refine lv_istore_n (lv' := [(1, .int (xEntR (ttU σ 16 0 0) 0 0)), (0, .ref (h 0))]) hx hb dX0_walk_10 rfl hl (by decide) rfl (fun ls hl => ?_)
  refine lv_iconst (v := 0) hx hb dX0_walk_11 (by decide) ?_
  refine lv_istore_n (lv' := [(2, .int 0), (1, .int (xEntR (ttU σ 16 0 0) 0 0)), (0, .ref (h 0))]) hx hb dX0_walk_12 rfl hl (by decide) rfl (fun ls hl => ?_)
  have key13 : ∀ (f : Nat) (i : Nat) (nx : Int32) (τ : ttS) (H : Heap) (locs : List Loc) (ls : Array Slot), (i + f = 64) → (xOK f nx τ) → (xWalk f nx τ = sf) → bX D A h d τ s H locs → lv_has ls 4 [(2, .int (nI i)), (1, .int nx), (0, .ref (h 0))] → W p l e (rmL 5) s m args below meth c H locs 0 0 (xQv below D h d A args s sf) (F0 m 13 ls []) := by
    intro f
    induction f with
    | zero =>
      intro i nx τ H locs ls hk2 hok hs2 hI hl
      obtain rfl : i = 64 := by omega
      refine lv_iload_n hx hb dX0_walk_13 rfl (lv_at hl 0 rfl) ?_
      refine lv_bipush (v := 64) hx hb dX0_walk_14 (by decide) ?_
      refine lv_icmp_ge (tgt := 111) hx hb dX0_walk_16 (by decide) (fun c_16 => ?_) (fun c_16 => ?_)
      · exact x_vret S hI hr hk hs2 dX0_walk_111
      · exact absurd (by decide) c_16
    | succ f ih =>
      intro i nx τ H locs ls hk2 hok hs2 hI hl
      refine lv_iload_n hx hb dX0_walk_13 rfl (lv_at hl 0 rfl) ?_
      refine lv_bipush (v := 64) hx hb dX0_walk_14 (by decide) ?_
      refine lv_icmp_ge (tgt := 111) hx hb dX0_walk_16 (by decide) (fun c_16 => ?_) (fun c_16 => ?_)
      · exact absurd c_16 (nI_ge (b := 64) (by omega) (by decide))
      · refine lv_aload_n hx hb dX0_walk_19 rfl (lv_at hl 2 rfl) ?_
        refine x_get_16 S hI dX0_walk_20 ?_
        refine lv_if_le (tgt := 111) hx hb dX0_walk_23 (by decide) (fun c_23 => ?_) (fun c_23 => ?_)
        · exact x_vret S hI hr hk (by rw [← hs2]; simp [xWalk, c_23]) dX0_walk_111
        · obtain ⟨⟨dd, ho, hdd, hw, hnx⟩, hok2⟩ := hok c_23
          have hd0 := tt_pos c_23 ho
          obtain ⟨dd, rfl⟩ : ∃ q, dd = q + 1 := ⟨dd - 1, by omega⟩
          have hdc : (τ 16 0).toNatClampNeg = dd + 1 := by rw [ho]; exact nI_clamp (by omega)
          refine lv_iload_n hx hb dX0_walk_26 rfl (lv_at hl 1 rfl) ?_
          refine lv_if_ge (tgt := 56) hx hb dX0_walk_27 (by decide) (fun c_27 => ?_) (fun c_27 => ?_)
          · obtain ⟨hn24, hde, K, hK4, hK⟩ := hnx c_27
            have hn := tt_ofin hn24 (by decide)
            refine lv_aload_n hx hb dX0_walk_56 rfl (lv_at hl 2 rfl) ?_
            refine x_get_15 S hI dX0_walk_57 ?_
            refine lv_iload_n hx hb dX0_walk_60 rfl (lv_at hl 1 rfl) ?_
            refine x_ald_15 S hI hn24 dX0_walk_61 ?_
            refine lv_if_ne (tgt := 75) hx hb dX0_walk_62 (by decide) (fun c_62 => ?_) (fun c_62 => ?_)
            · refine lv_aload_n hx hb dX0_walk_75 rfl (lv_at hl 2 rfl) ?_
              refine x_get_1 S hI dX0_walk_76 ?_
              refine lv_iload_n hx hb dX0_walk_79 rfl (lv_at hl 1 rfl) ?_
              refine x_ald_1 S hI hn24 dX0_walk_80 ?_
              refine lv_if_eq (tgt := 99) hx hb dX0_walk_81 (by decide) (fun c_81 => ?_) (fun c_81 => ?_)
              · have hst : xStep τ nx = (xEntR τ (dd + 1) nx.toNatClampNeg, xEntS τ (dd + 1) nx.toNatClampNeg) := by simp [xStep, c_27, c_62, c_81, hdc]
                refine lv_aload_n hx hb dX0_walk_99 rfl (lv_at hl 2 rfl) ?_
                refine lv_iload_n hx hb dX0_walk_100 rfl (lv_at hl 1 rfl) ?_
                refine tt_top (nI nx.toNatClampNeg) hn.1 ?_
                refine x_calli (n := 1) S hI hA [.int (nI nx.toNatClampNeg)] (metX_enter l _ nx.toNatClampNeg hn.2 (dd + 1) ho (hde c_62 c_81)) (lw_V q157 q159 qs8 q27 q160) rfl rfl (by decide +kernel) ⟨by decide, by decide⟩ rfl hl.1 rfl (Nat.le_of_ble_eq_true rfl) dX0_walk_101 ⟨by decide, by decide⟩ (fun H locs hI => ?_)
                refine lv_istore_n (lv' := [(1, .int (xEntR τ (dd + 1) nx.toNatClampNeg)), (2, .int (nI i)), (0, .ref (h 0))]) hx hb dX0_walk_104 rfl hl (by decide) rfl (fun ls hl => ?_)
                refine lv_iinc (v := nI (i + 1)) (lv' := [(2, .int (nI (i + 1))), (1, .int (xEntR τ (dd + 1) nx.toNatClampNeg)), (0, .ref (h 0))]) hx hb dX0_walk_105 hl (k := 1) rfl (tt_inc _) (by decide) rfl (fun ls hl => ?_)
                refine lv_goto (tgt := 13) hx hb dX0_walk_108 (by decide) ?_
                exact ih (i + 1) (xStep τ nx).1 (xStep τ nx).2 H locs ls (by omega) hok2 (by rw [← hs2]; simp [xWalk, c_23]) (by rw [hst]; exact hI) (by rw [hst]; exact lv_sub hl [0, 1, 2] rfl)
              · have hst : xStep τ nx = (τ 5 nx.toNatClampNeg, xRunT τ (dd + 1) K nx.toNatClampNeg) := by simp [xStep, c_27, c_62, c_81, hdc, hK, nI_clamp (show K < 2 ^ 31 by omega)]
                refine lv_aload_n hx hb dX0_walk_84 rfl (lv_at hl 2 rfl) ?_
                refine lv_iload_n hx hb dX0_walk_85 rfl (lv_at hl 1 rfl) ?_
                refine tt_top (nI nx.toNatClampNeg) hn.1 ?_
                refine x_callv (n := 1) S hI hA [.int (nI nx.toNatClampNeg)] (metX_runTest l _ nx.toNatClampNeg hn.2 (dd + 1) ho hdd hw K hK hK4) (lw_V q172 q174 qs11 q27 q175) rfl rfl (by decide +kernel) ⟨by decide, by decide⟩ rfl hl.1 rfl (Nat.le_of_ble_eq_true rfl) dX0_walk_86 ⟨by decide, by decide⟩ (fun H locs hI => ?_)
                refine lv_aload_n hx hb dX0_walk_89 rfl (lv_at hl 2 rfl) ?_
                refine x_get_5 S hI dX0_walk_90 ?_
                refine lv_iload_n hx hb dX0_walk_93 rfl (lv_at hl 1 rfl) ?_
                refine x_ald_5 S hI hn24 dX0_walk_94 ?_
                refine tt_top (τ 5 nx.toNatClampNeg) (by rw [xRunT_k _ _ _ _ (by decide) (by decide) (by decide) (by decide) (by decide)]) ?_
                refine lv_istore_n (lv' := [(1, .int (τ 5 nx.toNatClampNeg)), (2, .int (nI i)), (0, .ref (h 0))]) hx hb dX0_walk_95 rfl hl (by decide) rfl (fun ls hl => ?_)
                refine lv_goto (tgt := 105) hx hb dX0_walk_96 (by decide) ?_
                refine lv_iinc (v := nI (i + 1)) (lv' := [(2, .int (nI (i + 1))), (1, .int (τ 5 nx.toNatClampNeg)), (0, .ref (h 0))]) hx hb dX0_walk_105 hl (k := 1) rfl (tt_inc _) (by decide) rfl (fun ls hl => ?_)
                refine lv_goto (tgt := 13) hx hb dX0_walk_108 (by decide) ?_
                exact ih (i + 1) (xStep τ nx).1 (xStep τ nx).2 H locs ls (by omega) hok2 (by rw [← hs2]; simp [xWalk, c_23]) (by rw [hst]; exact hI) (by rw [hst]; exact lv_sub hl [0, 1, 2] rfl)
            · have hst : xStep τ nx = (τ 5 nx.toNatClampNeg, τ) := by simp [xStep, c_27, c_62]
              refine lv_aload_n hx hb dX0_walk_65 rfl (lv_at hl 2 rfl) ?_
              refine x_get_5 S hI dX0_walk_66 ?_
              refine lv_iload_n hx hb dX0_walk_69 rfl (lv_at hl 1 rfl) ?_
              refine x_ald_5 S hI hn24 dX0_walk_70 ?_
              refine lv_istore_n (lv' := [(1, .int (τ 5 nx.toNatClampNeg)), (2, .int (nI i)), (0, .ref (h 0))]) hx hb dX0_walk_71 rfl hl (by decide) rfl (fun ls hl => ?_)
              refine lv_goto (tgt := 105) hx hb dX0_walk_72 (by decide) ?_
              refine lv_iinc (v := nI (i + 1)) (lv' := [(2, .int (nI (i + 1))), (1, .int (τ 5 nx.toNatClampNeg)), (0, .ref (h 0))]) hx hb dX0_walk_105 hl (k := 1) rfl (tt_inc _) (by decide) rfl (fun ls hl => ?_)
              refine lv_goto (tgt := 13) hx hb dX0_walk_108 (by decide) ?_
              exact ih (i + 1) (xStep τ nx).1 (xStep τ nx).2 H locs ls (by omega) hok2 (by rw [← hs2]; simp [xWalk, c_23]) (by rw [hst]; exact hI) (by rw [hst]; exact lv_sub hl [0, 1, 2] rfl)
          · have hw1 := hw dd (by omega)
            have hw2 := tt_ofin hw1 (by decide)
            have hst : xStep τ nx = (τ 5 (τ 17 dd).toNatClampNeg, xLvS τ dd) := by simp [xStep, c_27, hdc]
            refine lv_aload_n hx hb dX0_walk_30 rfl (lv_at hl 2 rfl) ?_
            refine x_get_17 S hI dX0_walk_31 ?_
            refine lv_aload_n hx hb dX0_walk_34 rfl (lv_at hl 2 rfl) ?_
            refine x_get_16 S hI dX0_walk_35 ?_
            refine tt_top (nI (dd + 1)) ho ?_
            refine lv_iconst (v := 1) hx hb dX0_walk_38 (by decide) ?_
            refine lv_isub hx hb dX0_walk_39 ?_
            refine tt_top (nI dd) (tt_sub1 _) ?_
            refine x_aln_17 S hI (by omega) dX0_walk_40 ?_
            refine tt_top (nI ((τ 17 dd).toNatClampNeg)) hw2.1 ?_
            refine lv_istore_n (lv' := [(3, .int (nI ((τ 17 dd).toNatClampNeg))), (2, .int (nI i)), (1, .int nx), (0, .ref (h 0))]) hx hb dX0_walk_41 rfl hl (by decide) rfl (fun ls hl => ?_)
            refine lv_aload_n hx hb dX0_walk_42 rfl (lv_at hl 3 rfl) ?_
            refine x_callv (n := 0) S hI hA [] (metX_leave l _ dd ho (by omega) hw1) (lw_V q168 q170 qs10 q27 q171) rfl rfl (by decide +kernel) ⟨by decide, by decide⟩ rfl hl.1 rfl (Nat.le_of_ble_eq_true rfl) dX0_walk_43 ⟨by decide, by decide⟩ (fun H locs hI => ?_)
            refine lv_aload_n hx hb dX0_walk_46 rfl (lv_at hl 3 rfl) ?_
            refine x_get_5 S hI dX0_walk_47 ?_
            refine lv_iload_n hx hb dX0_walk_50 rfl (lv_at hl 0 rfl) ?_
            refine x_aln_5 S hI hw2.2 dX0_walk_51 ?_
            refine tt_top (τ 5 (τ 17 dd).toNatClampNeg) (by rw [xLvS_k _ _ (by decide) (by decide) (by decide) (by decide)]) ?_
            refine lv_istore_n (lv' := [(1, .int (τ 5 (τ 17 dd).toNatClampNeg)), (3, .int (nI ((τ 17 dd).toNatClampNeg))), (2, .int (nI i)), (0, .ref (h 0))]) hx hb dX0_walk_52 rfl hl (by decide) rfl (fun ls hl => ?_)
            refine lv_goto (tgt := 105) hx hb dX0_walk_53 (by decide) ?_
            refine lv_iinc (v := nI (i + 1)) (lv' := [(2, .int (nI (i + 1))), (1, .int (τ 5 (τ 17 dd).toNatClampNeg)), (3, .int (nI ((τ 17 dd).toNatClampNeg))), (0, .ref (h 0))]) hx hb dX0_walk_105 hl (k := 2) rfl (tt_inc _) (by decide) rfl (fun ls hl => ?_)
            refine lv_goto (tgt := 13) hx hb dX0_walk_108 (by decide) ?_
            exact ih (i + 1) (xStep τ nx).1 (xStep τ nx).2 H locs ls (by omega) hok2 (by rw [← hs2]; simp [xWalk, c_23]) (by rw [hst]; exact hI) (by rw [hst]; exact lv_sub hl [0, 1, 3] rfl)
  exact key13 64 0 _ _ _ _ _ (by omega) hok hsf.symm hI (lv_sub hl [0, 1, 2] rfl)
set_option maxHeartbeats 4000000 in
set_option maxRecDepth 100000 in
theorem metX_childTakesPart (l : Launch) (σ : ttS) (n : Nat) (hn : n < 24) (hfc : ∀ j, j < 24 → 0 ≤ σ 3 j → vp_in (σ 3 j) 24) (hsb : ∀ j, j < 24 → 0 ≤ σ 5 j → vp_in (σ 5 j) 24) : MX l yX0_childTakesPart cX0_childTakesPart 4 (some .boolean) (rmL 0) [.int (nI n)] σ (xChild σ n) σ := by
  refine x_starti rfl rfl (fun h => Nat.le_of_ble_eq_true rfl) ?_
  intro p e s m args below meth c D h d A S hr hk hA hI ls hl
  have hx := S.1
  have hb := S.2.1
  have hl : lv_has ls 4 [(0, .ref (h 0)), (1, .int (nI n))] := hl
  obtain ⟨rv, hrv⟩ : ∃ z, z = xChild σ n := ⟨_, rfl⟩
  rw [← hrv]
  obtain ⟨sf, hsf⟩ : ∃ z, z = σ := ⟨_, rfl⟩
  rw [← hsf]
  refine lv_aload_n hx hb dX0_childTakesPart_0 rfl (lv_at hl 0 rfl) ?_
  refine x_get_3 S hI dX0_childTakesPart_1 ?_
  refine lv_iload_n hx hb dX0_childTakesPart_4 rfl (lv_at hl 1 rfl) ?_
  refine x_aln_3 S hI (by omega) dX0_childTakesPart_5 ?_
  refine lv_istore_n (lv' := [(2, .int (σ 3 n)), (0, .ref (h 0)), (1, .int (nI n))]) hx hb dX0_childTakesPart_6 rfl hl (by decide) rfl (fun ls hl => ?_)
  refine lv_iconst (v := 0) hx hb dX0_childTakesPart_7 (by decide) ?_
  refine lv_istore_n (lv' := [(3, .int 0), (2, .int (σ 3 n)), (0, .ref (h 0)), (1, .int (nI n))]) hx hb dX0_childTakesPart_8 rfl hl (by decide) rfl (fun ls hl => ?_)
  have key9 : ∀ (f : Nat) (i : Nat) (y : Int32) (H : Heap) (locs : List Loc) (ls : Array Slot), (i + f = 24) → (0 ≤ y → vp_in y 24) → (xSib σ f y = rv) → bX D A h d σ s H locs → lv_has ls 4 [(3, .int (nI i)), (2, .int y), (0, .ref (h 0)), (1, .int (nI n))] → W p l e (rmL 0) s m args below meth c H locs 0 0 (xQi below D h d A args s rv sf) (F0 m 9 ls []) := by
    intro f
    induction f with
    | zero =>
      intro i y H locs ls hk2 hy hr2 hI hl
      obtain rfl : i = 24 := by omega
      refine lv_iload_n hx hb dX0_childTakesPart_9 rfl (lv_at hl 0 rfl) ?_
      refine lv_bipush (v := 24) hx hb dX0_childTakesPart_10 (by decide) ?_
      refine lv_icmp_ge (tgt := 43) hx hb dX0_childTakesPart_12 (by decide) (fun c_12 => ?_) (fun c_12 => ?_)
      · refine lv_iconst (v := 0) hx hb dX0_childTakesPart_43 (by decide) ?_
        exact x_zret S hI hr hk rfl hr2 hsf.symm dX0_childTakesPart_44
      · exact absurd (by decide) c_12
    | succ f ih =>
      intro i y H locs ls hk2 hy hr2 hI hl
      refine lv_iload_n hx hb dX0_childTakesPart_9 rfl (lv_at hl 0 rfl) ?_
      refine lv_bipush (v := 24) hx hb dX0_childTakesPart_10 (by decide) ?_
      refine lv_icmp_ge (tgt := 43) hx hb dX0_childTakesPart_12 (by decide) (fun c_12 => ?_) (fun c_12 => ?_)
      · exact absurd c_12 (nI_ge (b := 24) (by omega) (by decide))
      · refine lv_iload_n hx hb dX0_childTakesPart_15 rfl (lv_at hl 1 rfl) ?_
        refine lv_if_lt (tgt := 43) hx hb dX0_childTakesPart_16 (by decide) (fun c_16 => ?_) (fun c_16 => ?_)
        · refine lv_iconst (v := 0) hx hb dX0_childTakesPart_43 (by decide) ?_
          exact x_zret S hI hr hk rfl (by rw [← hr2]; simp [xSib, c_16]) hsf.symm dX0_childTakesPart_44
        · refine lv_aload_n hx hb dX0_childTakesPart_19 rfl (lv_at hl 2 rfl) ?_
          refine x_get_15 S hI dX0_childTakesPart_20 ?_
          refine lv_iload_n hx hb dX0_childTakesPart_23 rfl (lv_at hl 1 rfl) ?_
          refine x_ald_15 S hI (hy (Int32.not_lt.mp c_16)) dX0_childTakesPart_24 ?_
          refine lv_if_eq (tgt := 30) hx hb dX0_childTakesPart_25 (by decide) (fun c_25 => ?_) (fun c_25 => ?_)
          · refine lv_aload_n hx hb dX0_childTakesPart_30 rfl (lv_at hl 2 rfl) ?_
            refine x_get_5 S hI dX0_childTakesPart_31 ?_
            refine lv_iload_n hx hb dX0_childTakesPart_34 rfl (lv_at hl 1 rfl) ?_
            refine x_ald_5 S hI (hy (Int32.not_lt.mp c_16)) dX0_childTakesPart_35 ?_
            refine lv_istore_n (lv' := [(2, .int (σ 5 y.toNatClampNeg)), (3, .int (nI i)), (0, .ref (h 0)), (1, .int (nI n))]) hx hb dX0_childTakesPart_36 rfl hl (by decide) rfl (fun ls hl => ?_)
            refine lv_iinc (v := nI (i + 1)) (lv' := [(3, .int (nI (i + 1))), (2, .int (σ 5 y.toNatClampNeg)), (0, .ref (h 0)), (1, .int (nI n))]) hx hb dX0_childTakesPart_37 hl (k := 1) rfl (tt_inc _) (by decide) rfl (fun ls hl => ?_)
            refine lv_goto (tgt := 9) hx hb dX0_childTakesPart_40 (by decide) ?_
            exact ih (i + 1) (σ 5 y.toNatClampNeg) H locs ls (by omega) (hsb _ (tt_ofin (hy (Int32.not_lt.mp c_16)) (by decide)).2) (by rw [← hr2]; simp [xSib, c_16, c_25]) hI (lv_sub hl [0, 1, 2, 3] rfl)
          · refine lv_iconst (v := 1) hx hb dX0_childTakesPart_28 (by decide) ?_
            exact x_zret S hI hr hk rfl (by rw [← hr2]; simp [xSib, c_16, c_25]) hsf.symm dX0_childTakesPart_29
  exact key9 24 0 _ _ _ _ (by omega) (hfc n hn) hrv.symm hI (lv_sub hl [0, 1, 2, 3] rfl)
set_option maxHeartbeats 4000000 in
set_option maxRecDepth 100000 in
theorem metX_choose (l : Launch) (σ : ttS) (tg : Int32) {N : Nat} (hN : σ 0 0 = nI N) (h24 : N ≤ 24) (hfc : ∀ j, j < 24 → 0 ≤ σ 3 j → vp_in (σ 3 j) 24) (hsb : ∀ j, j < 24 → 0 ≤ σ 5 j → vp_in (σ 5 j) 24) (hpa : ∀ j, 0 < j → j < 24 → vp_in (σ 2 j) 24) : MXv l yX0_choose cX0_choose 4 (rmL 1) [.int tg] σ (xChoose σ N tg) := by
  refine x_startv rfl rfl (fun h => Nat.le_of_ble_eq_true rfl) ?_
  intro p e s m args below meth c D h d A S hr hk hA hI ls hl
  have hx := S.1
  have hb := S.2.1
  have hl : lv_has ls 4 [(0, .ref (h 0)), (1, .int tg)] := hl
  obtain ⟨sf, hsf⟩ : ∃ z, z = xChoose σ N tg := ⟨_, rfl⟩
  rw [← hsf]
  refine lv_iconst (v := 0) hx hb dX0_choose_0 (by decide) ?_
  refine lv_istore_n (lv' := [(2, .int 0), (0, .ref (h 0)), (1, .int tg)]) hx hb dX0_choose_1 rfl hl (by decide) rfl (fun ls hl => ?_)
  have key2 : ∀ (f : Nat) (k : Nat) (H : Heap) (locs : List Loc) (ls : Array Slot), (k + f = N) → bX D A h d (xCh1 σ k) s H locs → lv_has ls 4 [(2, .int (nI k)), (0, .ref (h 0)), (1, .int tg)] → W p l e (rmL 1) s m args below meth c H locs 0 0 (xQv below D h d A args s sf) (F0 m 2 ls []) := by
    intro f
    induction f with
    | zero =>
      intro k H locs ls hk2 hI hl
      obtain rfl : k = N := by omega
      have hN := (congrFun (xCh1_k σ k (k := 0) (by decide)) 0).trans hN
      refine lv_iload_n hx hb dX0_choose_2 rfl (lv_at hl 0 rfl) ?_
      refine lv_aload_n hx hb dX0_choose_3 rfl (lv_at hl 1 rfl) ?_
      refine x_get_0 S hI dX0_choose_4 ?_
      refine lv_icmp_ge (tgt := 64) hx hb dX0_choose_7 (by decide) (fun c_7 => ?_) (fun c_7 => ?_)
      · refine lv_aload_n hx hb dX0_choose_64 rfl (lv_at hl 1 rfl) ?_
        refine x_get_0 S hI dX0_choose_65 ?_
        refine tt_top (nI k) hN ?_
        refine lv_iconst (v := 1) hx hb dX0_choose_68 (by decide) ?_
        refine lv_isub hx hb dX0_choose_69 ?_
        refine lv_istore_n (lv' := [(2, .int ((nI k) - 1)), (0, .ref (h 0)), (1, .int tg)]) hx hb dX0_choose_70 rfl hl (by decide) rfl (fun ls hl => ?_)
        have key71 : ∀ (f : Nat) (τ : ttS) (H : Heap) (locs : List Loc) (ls : Array Slot), (f ≤ 24) → (∀ q, q ≠ 15 → τ q = σ q) → (xCh2 tg f τ = sf) → bX D A h d τ s H locs → lv_has ls 4 [(2, .int (nI f - 1)), (0, .ref (h 0)), (1, .int tg)] → W p l e (rmL 1) s m args below meth c H locs 0 0 (xQv below D h d A args s sf) (F0 m 71 ls []) := by
          intro f
          induction f with
          | zero =>
            intro τ H locs ls hf hτ hs2 hI hl
            refine lv_iload_n hx hb dX0_choose_71 rfl (lv_at hl 0 rfl) ?_
            refine lv_if_lt (tgt := 152) hx hb dX0_choose_72 (by decide) (fun c_72 => ?_) (fun c_72 => ?_)
            · exact x_vret S hI hr hk hs2 dX0_choose_152
            · exact absurd (by decide) c_72
          | succ f ih =>
            intro τ H locs ls hf hτ hs2 hI hl
            rw [tt_sub1] at hl
            refine lv_iload_n hx hb dX0_choose_71 rfl (lv_at hl 0 rfl) ?_
            refine lv_if_lt (tgt := 152) hx hb dX0_choose_72 (by decide) (fun c_72 => ?_) (fun c_72 => ?_)
            · exact absurd c_72 (nI_pos (by omega))
            · refine lv_aload_n hx hb dX0_choose_75 rfl (lv_at hl 1 rfl) ?_
              refine x_get_1 S hI dX0_choose_76 ?_
              refine lv_iload_n hx hb dX0_choose_79 rfl (lv_at hl 0 rfl) ?_
              refine x_aln_1 S hI (by omega) dX0_choose_80 ?_
              refine lv_if_eq (tgt := 118) hx hb dX0_choose_81 (by decide) (fun c_81 => ?_) (fun c_81 => ?_)
              · refine lv_aload_n hx hb dX0_choose_118 rfl (lv_at hl 1 rfl) ?_
                refine x_get_15 S hI dX0_choose_119 ?_
                refine lv_iload_n hx hb dX0_choose_122 rfl (lv_at hl 0 rfl) ?_
                refine lv_aload_n hx hb dX0_choose_123 rfl (lv_at hl 1 rfl) ?_
                refine x_get_15 S hI dX0_choose_124 ?_
                refine lv_iload_n hx hb dX0_choose_127 rfl (lv_at hl 0 rfl) ?_
                refine x_aln_15 S hI (by omega) dX0_choose_128 ?_
                refine lv_if_eq (tgt := 144) hx hb dX0_choose_129 (by decide) (fun c_129 => ?_) (fun c_129 => ?_)
                · refine lv_iconst (v := 0) hx hb dX0_choose_144 (by decide) ?_
                  refine x_asn_15 S hI (by omega) rfl dX0_choose_145 (fun H locs hI => ?_)
                  refine lv_iinc (v := nI f - 1) (lv' := [(2, .int (nI f - 1)), (0, .ref (h 0)), (1, .int tg)]) hx hb dX0_choose_146 hl (k := 0) rfl (tt_decm _) (by decide) rfl (fun ls hl => ?_)
                  refine lv_goto (tgt := 71) hx hb dX0_choose_149 (by decide) ?_
                  exact ih _ H locs ls (by omega) (fun q hq => (ttU_ne _ _ _ hq).trans (hτ q hq)) (by rw [← hs2]; simp [xCh2, xChN, c_72, c_81, c_129]) hI (lv_sub hl [0, 1, 2] rfl)
                · refine lv_aload_n hx hb dX0_choose_132 rfl (lv_at hl 1 rfl) ?_
                  refine lv_iload_n hx hb dX0_choose_133 rfl (lv_at hl 0 rfl) ?_
                  refine x_calli (n := 1) S hI hA [.int (nI f)] (metX_childTakesPart l _ f (by omega) (by rw [hτ 3 (by decide)]; exact hfc) (by rw [hτ 5 (by decide)]; exact hsb)) (lw_V q149 q151 qs6 q27 q152) rfl rfl (by decide +kernel) ⟨by decide, by decide⟩ rfl hl.1 rfl (Nat.le_of_ble_eq_true rfl) dX0_choose_134 ⟨by decide, by decide⟩ (fun H locs hI => ?_)
                  refine lv_if_eq (tgt := 144) hx hb dX0_choose_137 (by decide) (fun c_137 => ?_) (fun c_137 => ?_)
                  · refine lv_iconst (v := 0) hx hb dX0_choose_144 (by decide) ?_
                    refine x_asn_15 S hI (by omega) rfl dX0_choose_145 (fun H locs hI => ?_)
                    refine lv_iinc (v := nI f - 1) (lv' := [(2, .int (nI f - 1)), (0, .ref (h 0)), (1, .int tg)]) hx hb dX0_choose_146 hl (k := 0) rfl (tt_decm _) (by decide) rfl (fun ls hl => ?_)
                    refine lv_goto (tgt := 71) hx hb dX0_choose_149 (by decide) ?_
                    exact ih _ H locs ls (by omega) (fun q hq => (ttU_ne _ _ _ hq).trans (hτ q hq)) (by rw [← hs2]; simp [xCh2, xChN, c_72, c_81, c_129, c_137]) hI (lv_sub hl [0, 1, 2] rfl)
                  · refine lv_iconst (v := 1) hx hb dX0_choose_140 (by decide) ?_
                    refine lv_goto (tgt := 145) hx hb dX0_choose_141 (by decide) ?_
                    refine x_asn_15 S hI (by omega) rfl dX0_choose_145 (fun H locs hI => ?_)
                    refine lv_iinc (v := nI f - 1) (lv' := [(2, .int (nI f - 1)), (0, .ref (h 0)), (1, .int tg)]) hx hb dX0_choose_146 hl (k := 0) rfl (tt_decm _) (by decide) rfl (fun ls hl => ?_)
                    refine lv_goto (tgt := 71) hx hb dX0_choose_149 (by decide) ?_
                    exact ih _ H locs ls (by omega) (fun q hq => (ttU_ne _ _ _ hq).trans (hτ q hq)) (by rw [← hs2]; simp [xCh2, xChN, c_72, c_81, c_129, c_137]) hI (lv_sub hl [0, 1, 2] rfl)
              · refine lv_aload_n hx hb dX0_choose_84 rfl (lv_at hl 1 rfl) ?_
                refine x_get_15 S hI dX0_choose_85 ?_
                refine lv_iload_n hx hb dX0_choose_88 rfl (lv_at hl 0 rfl) ?_
                refine lv_aload_n hx hb dX0_choose_89 rfl (lv_at hl 1 rfl) ?_
                refine x_get_15 S hI dX0_choose_90 ?_
                refine lv_iload_n hx hb dX0_choose_93 rfl (lv_at hl 0 rfl) ?_
                refine x_aln_15 S hI (by omega) dX0_choose_94 ?_
                refine lv_if_eq (tgt := 113) hx hb dX0_choose_95 (by decide) (fun c_95 => ?_) (fun c_95 => ?_)
                · refine lv_iconst (v := 0) hx hb dX0_choose_113 (by decide) ?_
                  refine x_asn_15 S hI (by omega) rfl dX0_choose_114 (fun H locs hI => ?_)
                  refine lv_goto (tgt := 146) hx hb dX0_choose_115 (by decide) ?_
                  refine lv_iinc (v := nI f - 1) (lv' := [(2, .int (nI f - 1)), (0, .ref (h 0)), (1, .int tg)]) hx hb dX0_choose_146 hl (k := 0) rfl (tt_decm _) (by decide) rfl (fun ls hl => ?_)
                  refine lv_goto (tgt := 71) hx hb dX0_choose_149 (by decide) ?_
                  exact ih _ H locs ls (by omega) (fun q hq => (ttU_ne _ _ _ hq).trans (hτ q hq)) (by rw [← hs2]; simp [xCh2, xChN, c_72, c_81, c_95]) hI (lv_sub hl [0, 1, 2] rfl)
                · refine lv_aload_n hx hb dX0_choose_98 rfl (lv_at hl 1 rfl) ?_
                  refine x_get_9 S hI dX0_choose_99 ?_
                  refine lv_iload_n hx hb dX0_choose_102 rfl (lv_at hl 0 rfl) ?_
                  refine x_aln_9 S hI (by omega) dX0_choose_103 ?_
                  refine lv_iload_n hx hb dX0_choose_104 rfl (lv_at hl 2 rfl) ?_
                  refine lv_iand hx hb dX0_choose_105 ?_
                  refine lv_if_eq (tgt := 113) hx hb dX0_choose_106 (by decide) (fun c_106 => ?_) (fun c_106 => ?_)
                  · refine lv_iconst (v := 0) hx hb dX0_choose_113 (by decide) ?_
                    refine x_asn_15 S hI (by omega) rfl dX0_choose_114 (fun H locs hI => ?_)
                    refine lv_goto (tgt := 146) hx hb dX0_choose_115 (by decide) ?_
                    refine lv_iinc (v := nI f - 1) (lv' := [(2, .int (nI f - 1)), (0, .ref (h 0)), (1, .int tg)]) hx hb dX0_choose_146 hl (k := 0) rfl (tt_decm _) (by decide) rfl (fun ls hl => ?_)
                    refine lv_goto (tgt := 71) hx hb dX0_choose_149 (by decide) ?_
                    exact ih _ H locs ls (by omega) (fun q hq => (ttU_ne _ _ _ hq).trans (hτ q hq)) (by rw [← hs2]; simp [xCh2, xChN, c_72, c_81, c_95, c_106]) hI (lv_sub hl [0, 1, 2] rfl)
                  · refine lv_iconst (v := 1) hx hb dX0_choose_109 (by decide) ?_
                    refine lv_goto (tgt := 114) hx hb dX0_choose_110 (by decide) ?_
                    refine x_asn_15 S hI (by omega) rfl dX0_choose_114 (fun H locs hI => ?_)
                    refine lv_goto (tgt := 146) hx hb dX0_choose_115 (by decide) ?_
                    refine lv_iinc (v := nI f - 1) (lv' := [(2, .int (nI f - 1)), (0, .ref (h 0)), (1, .int tg)]) hx hb dX0_choose_146 hl (k := 0) rfl (tt_decm _) (by decide) rfl (fun ls hl => ?_)
                    refine lv_goto (tgt := 71) hx hb dX0_choose_149 (by decide) ?_
                    exact ih _ H locs ls (by omega) (fun q hq => (ttU_ne _ _ _ hq).trans (hτ q hq)) (by rw [← hs2]; simp [xCh2, xChN, c_72, c_81, c_95, c_106]) hI (lv_sub hl [0, 1, 2] rfl)
        exact key71 k (xCh1 σ k) _ _ _ (by omega) (fun q hq => xCh1_k σ k hq) (by rw [hsf]; rfl) hI (lv_sub hl [0, 1, 2] rfl)
      · exact absurd (by rw [hN]; exact nI_le (Nat.le_refl k) (by omega)) c_7
    | succ f ih =>
      intro k H locs ls hk2 hI hl
      have hN2 := (congrFun (xCh1_k σ k (k := 0) (by decide)) 0).trans hN
      refine lv_iload_n hx hb dX0_choose_2 rfl (lv_at hl 0 rfl) ?_
      refine lv_aload_n hx hb dX0_choose_3 rfl (lv_at hl 1 rfl) ?_
      refine x_get_0 S hI dX0_choose_4 ?_
      refine lv_icmp_ge (tgt := 64) hx hb dX0_choose_7 (by decide) (fun c_7 => ?_) (fun c_7 => ?_)
      · exact absurd c_7 (by rw [hN2]; exact nI_ge (by omega) (by omega))
      · refine lv_aload_n hx hb dX0_choose_10 rfl (lv_at hl 1 rfl) ?_
        refine x_get_10 S hI dX0_choose_11 ?_
        refine lv_iload_n hx hb dX0_choose_14 rfl (lv_at hl 0 rfl) ?_
        refine x_aln_10 S hI (by omega) dX0_choose_15 ?_
        refine lv_if_ne (tgt := 37) hx hb dX0_choose_16 (by decide) (fun c_16 => ?_) (fun c_16 => ?_)
        · refine lv_iconst (v := 1) hx hb dX0_choose_37 (by decide) ?_
          refine lv_goto (tgt := 42) hx hb dX0_choose_38 (by decide) ?_
          refine lv_istore_n (lv' := [(3, .int 1), (2, .int (nI k)), (0, .ref (h 0)), (1, .int tg)]) hx hb dX0_choose_42 rfl hl (by decide) rfl (fun ls hl => ?_)
          refine lv_aload_n hx hb dX0_choose_43 rfl (lv_at hl 2 rfl) ?_
          refine x_get_15 S hI dX0_choose_44 ?_
          refine lv_iload_n hx hb dX0_choose_47 rfl (lv_at hl 1 rfl) ?_
          refine lv_iload_n hx hb dX0_choose_48 rfl (lv_at hl 0 rfl) ?_
          refine lv_if_ne (tgt := 56) hx hb dX0_choose_49 (by decide) (fun c_49 => ?_) (fun c_49 => ?_)
          · refine lv_iconst (v := 0) hx hb dX0_choose_56 (by decide) ?_
            refine x_asn_15 S hI (by omega) rfl dX0_choose_57 (fun H locs hI => ?_)
            refine lv_iinc (v := nI (k + 1)) (lv' := [(2, .int (nI (k + 1))), (3, .int 1), (0, .ref (h 0)), (1, .int tg)]) hx hb dX0_choose_58 hl (k := 1) rfl (tt_inc _) (by decide) rfl (fun ls hl => ?_)
            refine lv_goto (tgt := 2) hx hb dX0_choose_61 (by decide) ?_
            exact ih (k + 1) H locs ls (by omega) (by rw [show xCh1 σ (k + 1) = ttU (xCh1 σ k) 15 k 0 from by simp [xCh1, xOpen, c_7, c_16]]; exact hI) (lv_sub hl [0, 2, 3] rfl)
          · exact absurd c_49 (by decide)
        · refine lv_iload_n hx hb dX0_choose_19 rfl (lv_at hl 0 rfl) ?_
          refine lv_if_le (tgt := 41) hx hb dX0_choose_20 (by decide) (fun c_20 => ?_) (fun c_20 => ?_)
          · refine lv_iconst (v := 0) hx hb dX0_choose_41 (by decide) ?_
            refine lv_istore_n (lv' := [(3, .int 0), (2, .int (nI k)), (0, .ref (h 0)), (1, .int tg)]) hx hb dX0_choose_42 rfl hl (by decide) rfl (fun ls hl => ?_)
            refine lv_aload_n hx hb dX0_choose_43 rfl (lv_at hl 2 rfl) ?_
            refine x_get_15 S hI dX0_choose_44 ?_
            refine lv_iload_n hx hb dX0_choose_47 rfl (lv_at hl 1 rfl) ?_
            refine lv_iload_n hx hb dX0_choose_48 rfl (lv_at hl 0 rfl) ?_
            refine lv_if_ne (tgt := 56) hx hb dX0_choose_49 (by decide) (fun c_49 => ?_) (fun c_49 => ?_)
            · exact absurd c_49 (by decide)
            · refine lv_iconst (v := 1) hx hb dX0_choose_52 (by decide) ?_
              refine lv_goto (tgt := 57) hx hb dX0_choose_53 (by decide) ?_
              refine x_asn_15 S hI (by omega) rfl dX0_choose_57 (fun H locs hI => ?_)
              refine lv_iinc (v := nI (k + 1)) (lv' := [(2, .int (nI (k + 1))), (3, .int 0), (0, .ref (h 0)), (1, .int tg)]) hx hb dX0_choose_58 hl (k := 1) rfl (tt_inc _) (by decide) rfl (fun ls hl => ?_)
              refine lv_goto (tgt := 2) hx hb dX0_choose_61 (by decide) ?_
              exact ih (k + 1) H locs ls (by omega) (by rw [show xCh1 σ (k + 1) = ttU (xCh1 σ k) 15 k 1 from by simp [xCh1, xOpen, c_7, c_16, c_20]]; exact hI) (lv_sub hl [0, 2, 3] rfl)
          · refine lv_aload_n hx hb dX0_choose_23 rfl (lv_at hl 1 rfl) ?_
            refine x_get_15 S hI dX0_choose_24 ?_
            refine lv_aload_n hx hb dX0_choose_27 rfl (lv_at hl 1 rfl) ?_
            refine x_get_2 S hI dX0_choose_28 ?_
            refine lv_iload_n hx hb dX0_choose_31 rfl (lv_at hl 0 rfl) ?_
            refine x_aln_2 S hI (by omega) dX0_choose_32 ?_
            refine x_ald_15 S hI (by rw [xCh1_k σ k (by decide)]; exact hpa k (Nat.pos_of_ne_zero (fun z => c_20 (by rw [z]; decide))) (by omega)) dX0_choose_33 ?_
            refine lv_if_ne (tgt := 41) hx hb dX0_choose_34 (by decide) (fun c_34 => ?_) (fun c_34 => ?_)
            · refine lv_iconst (v := 0) hx hb dX0_choose_41 (by decide) ?_
              refine lv_istore_n (lv' := [(3, .int 0), (2, .int (nI k)), (0, .ref (h 0)), (1, .int tg)]) hx hb dX0_choose_42 rfl hl (by decide) rfl (fun ls hl => ?_)
              refine lv_aload_n hx hb dX0_choose_43 rfl (lv_at hl 2 rfl) ?_
              refine x_get_15 S hI dX0_choose_44 ?_
              refine lv_iload_n hx hb dX0_choose_47 rfl (lv_at hl 1 rfl) ?_
              refine lv_iload_n hx hb dX0_choose_48 rfl (lv_at hl 0 rfl) ?_
              refine lv_if_ne (tgt := 56) hx hb dX0_choose_49 (by decide) (fun c_49 => ?_) (fun c_49 => ?_)
              · exact absurd c_49 (by decide)
              · refine lv_iconst (v := 1) hx hb dX0_choose_52 (by decide) ?_
                refine lv_goto (tgt := 57) hx hb dX0_choose_53 (by decide) ?_
                refine x_asn_15 S hI (by omega) rfl dX0_choose_57 (fun H locs hI => ?_)
                refine lv_iinc (v := nI (k + 1)) (lv' := [(2, .int (nI (k + 1))), (3, .int 0), (0, .ref (h 0)), (1, .int tg)]) hx hb dX0_choose_58 hl (k := 1) rfl (tt_inc _) (by decide) rfl (fun ls hl => ?_)
                refine lv_goto (tgt := 2) hx hb dX0_choose_61 (by decide) ?_
                exact ih (k + 1) H locs ls (by omega) (by rw [show xCh1 σ (k + 1) = ttU (xCh1 σ k) 15 k 1 from by simp [xCh1, xOpen, c_7, c_16, c_20, c_34]]; exact hI) (lv_sub hl [0, 2, 3] rfl)
            · refine lv_iconst (v := 1) hx hb dX0_choose_37 (by decide) ?_
              refine lv_goto (tgt := 42) hx hb dX0_choose_38 (by decide) ?_
              refine lv_istore_n (lv' := [(3, .int 1), (2, .int (nI k)), (0, .ref (h 0)), (1, .int tg)]) hx hb dX0_choose_42 rfl hl (by decide) rfl (fun ls hl => ?_)
              refine lv_aload_n hx hb dX0_choose_43 rfl (lv_at hl 2 rfl) ?_
              refine x_get_15 S hI dX0_choose_44 ?_
              refine lv_iload_n hx hb dX0_choose_47 rfl (lv_at hl 1 rfl) ?_
              refine lv_iload_n hx hb dX0_choose_48 rfl (lv_at hl 0 rfl) ?_
              refine lv_if_ne (tgt := 56) hx hb dX0_choose_49 (by decide) (fun c_49 => ?_) (fun c_49 => ?_)
              · refine lv_iconst (v := 0) hx hb dX0_choose_56 (by decide) ?_
                refine x_asn_15 S hI (by omega) rfl dX0_choose_57 (fun H locs hI => ?_)
                refine lv_iinc (v := nI (k + 1)) (lv' := [(2, .int (nI (k + 1))), (3, .int 1), (0, .ref (h 0)), (1, .int tg)]) hx hb dX0_choose_58 hl (k := 1) rfl (tt_inc _) (by decide) rfl (fun ls hl => ?_)
                refine lv_goto (tgt := 2) hx hb dX0_choose_61 (by decide) ?_
                exact ih (k + 1) H locs ls (by omega) (by rw [show xCh1 σ (k + 1) = ttU (xCh1 σ k) 15 k 0 from by simp [xCh1, xOpen, c_7, c_16, c_20, c_34]]; exact hI) (lv_sub hl [0, 2, 3] rfl)
              · exact absurd c_49 (by decide)
  exact key2 N 0 _ _ _ (by omega) hI (lv_sub hl [0, 1, 2] rfl)
set_option maxHeartbeats 4000000 in
set_option maxRecDepth 100000 in
theorem metX_run (l : Launch) (σ : ttS) (tg : Int32) {N : Nat} (hN : σ 0 0 = nI N) (h24 : N ≤ 24) (hfc : ∀ j, j < 24 → 0 ≤ σ 3 j → vp_in (σ 3 j) 24) (hsb : ∀ j, j < 24 → 0 ≤ σ 5 j → vp_in (σ 5 j) 24) (hpa : ∀ j, 0 < j → j < 24 → vp_in (σ 2 j) 24) (hok : ¬ xPick σ N tg 15 0 = 0 → xWalkOK (xPick σ N tg)) : MX l yX0_run cX0_run 3 (some .int) (rmL 6) [.int tg] σ (xRunR σ N tg) (xRunS σ N tg) := by
  refine x_starti rfl rfl (fun h => Nat.le_of_ble_eq_true rfl) ?_
  intro p e s m args below meth c D h d A S hr hk hA hI ls hl
  have hx := S.1
  have hb := S.2.1
  have hl : lv_has ls 3 [(0, .ref (h 0)), (1, .int tg)] := hl
  obtain ⟨rv, hrv⟩ : ∃ z, z = xRunR σ N tg := ⟨_, rfl⟩
  rw [← hrv]
  obtain ⟨sf, hsf⟩ : ∃ z, z = xRunS σ N tg := ⟨_, rfl⟩
  rw [← hsf]
  refine lv_iconst (v := 0) hx hb dX0_run_0 (by decide) ?_
  refine lv_istore_n (lv' := [(2, .int 0), (0, .ref (h 0)), (1, .int tg)]) hx hb dX0_run_1 rfl hl (by decide) rfl (fun ls hl => ?_)
  have key2 : ∀ (f : Nat) (k : Nat) (H : Heap) (locs : List Loc) (ls : Array Slot), (k + f = 24) → bX D A h d (xR1 σ k) s H locs → lv_has ls 3 [(2, .int (nI k)), (0, .ref (h 0)), (1, .int tg)] → W p l e (rmL 6) s m args below meth c H locs 0 0 (xQi below D h d A args s rv sf) (F0 m 2 ls []) := by
    intro f
    induction f with
    | zero =>
      intro k H locs ls hk2 hI hl
      obtain rfl : k = 24 := by omega
      refine lv_iload_n hx hb dX0_run_2 rfl (lv_at hl 0 rfl) ?_
      refine lv_bipush (v := 24) hx hb dX0_run_3 (by decide) ?_
      refine lv_icmp_ge (tgt := 28) hx hb dX0_run_5 (by decide) (fun c_5 => ?_) (fun c_5 => ?_)
      · refine lv_iconst (v := 0) hx hb dX0_run_28 (by decide) ?_
        refine lv_istore_n (lv' := [(2, .int 0), (0, .ref (h 0)), (1, .int tg)]) hx hb dX0_run_29 rfl hl (by decide) rfl (fun ls hl => ?_)
        have key30 : ∀ (f : Nat) (k : Nat) (H : Heap) (locs : List Loc) (ls : Array Slot), (k + f = 96) → bX D A h d (xR2 (xR1 σ 24) k) s H locs → lv_has ls 3 [(2, .int (nI k)), (0, .ref (h 0)), (1, .int tg)] → W p l e (rmL 6) s m args below meth c H locs 0 0 (xQi below D h d A args s rv sf) (F0 m 30 ls []) := by
          intro f
          induction f with
          | zero =>
            intro k H locs ls hk2 hI hl
            obtain rfl : k = 96 := by omega
            refine lv_iload_n hx hb dX0_run_30 rfl (lv_at hl 0 rfl) ?_
            refine lv_bipush (v := 96) hx hb dX0_run_31 (by decide) ?_
            refine lv_icmp_ge (tgt := 49) hx hb dX0_run_33 (by decide) (fun c_33 => ?_) (fun c_33 => ?_)
            · refine lv_aload_n hx hb dX0_run_49 rfl (lv_at hl 1 rfl) ?_
              refine lv_iconst (v := 0) hx hb dX0_run_50 (by decide) ?_
              refine x_put_14 S hI dX0_run_51 (fun H locs hI => ?_)
              have hN2 : xReset σ 0 0 = nI N := (congrFun (xReset_k σ (by decide) (by decide) (by decide) (by decide)) 0).trans hN
              have e3 := xReset_k σ (k := 3) (by decide) (by decide) (by decide) (by decide)
              have e5 := xReset_k σ (k := 5) (by decide) (by decide) (by decide) (by decide)
              have e2 := xReset_k σ (k := 2) (by decide) (by decide) (by decide) (by decide)
              refine lv_aload_n hx hb dX0_run_54 rfl (lv_at hl 1 rfl) ?_
              refine lv_iload_n hx hb dX0_run_55 rfl (lv_at hl 2 rfl) ?_
              refine x_callv (n := 1) S hI hA [.int tg] (metX_choose l (xReset σ) tg hN2 h24 (by rw [e3]; exact hfc) (by rw [e5]; exact hsb) (by rw [e2]; exact hpa)) (lw_V q145 q147 qs5 q27 q148) rfl rfl (by decide +kernel) ⟨by decide, by decide⟩ rfl hl.1 rfl (Nat.le_of_ble_eq_true rfl) dX0_run_56 ⟨by decide, by decide⟩ (fun H locs hI => ?_)
              refine lv_aload_n hx hb dX0_run_59 rfl (lv_at hl 1 rfl) ?_
              refine x_get_15 S hI dX0_run_60 ?_
              refine lv_iconst (v := 0) hx hb dX0_run_63 (by decide) ?_
              refine tt_top (nI 0) rfl ?_
              refine x_aln_15 S hI (by omega) dX0_run_64 ?_
              refine lv_if_eq (tgt := 72) hx hb dX0_run_65 (by decide) (fun c_65 => ?_) (fun c_65 => ?_)
              · have hI : bX D A h d (xPick σ N tg) s H locs := hI
                have c_65 : xPick σ N tg 15 0 = 0 := c_65
                refine lv_aload_n hx hb dX0_run_72 rfl (lv_at hl 1 rfl) ?_
                refine lv_iconst (v := 2) hx hb dX0_run_73 (by decide) ?_
                refine x_calli (n := 1) S hI hA [.int 2] (metX_count l _ 2 (N := N) (by rw [xPick_k _ _ _ (by decide)]; exact hN) h24) (lw_V q192 q193 q194 q27 q195) rfl rfl (by decide +kernel) ⟨by decide, by decide⟩ rfl hl.1 rfl (Nat.le_of_ble_eq_true rfl) dX0_run_74 ⟨by decide, by decide⟩ (fun H locs hI => ?_)
                exact x_iret S hI hr hk (by rw [hrv, xRunR, xRunS, if_pos c_65]) (by rw [hsf, xRunS, if_pos c_65]) dX0_run_77
              · have hI : bX D A h d (xPick σ N tg) s H locs := hI
                have c_65 : ¬ xPick σ N tg 15 0 = 0 := c_65
                refine lv_aload_n hx hb dX0_run_68 rfl (lv_at hl 1 rfl) ?_
                refine x_callv (n := 0) S hI hA [] (metX_walk l _ (hok c_65)) (lw_V q153 q155 qs7 q27 q156) rfl rfl (by decide +kernel) ⟨by decide, by decide⟩ rfl hl.1 rfl (Nat.le_of_ble_eq_true rfl) dX0_run_69 ⟨by decide, by decide⟩ (fun H locs hI => ?_)
                refine lv_aload_n hx hb dX0_run_72 rfl (lv_at hl 1 rfl) ?_
                refine lv_iconst (v := 2) hx hb dX0_run_73 (by decide) ?_
                refine x_calli (n := 1) S hI hA [.int 2] (metX_count l _ 2 (N := N) (by rw [xWalkS_k _ (by decide), xPick_k _ _ _ (by decide)]; exact hN) h24) (lw_V q192 q193 q194 q27 q195) rfl rfl (by decide +kernel) ⟨by decide, by decide⟩ rfl hl.1 rfl (Nat.le_of_ble_eq_true rfl) dX0_run_74 ⟨by decide, by decide⟩ (fun H locs hI => ?_)
                exact x_iret S hI hr hk (by rw [hrv, xRunR, xRunS, if_neg c_65]) (by rw [hsf, xRunS, if_neg c_65]) dX0_run_77
            · exact absurd (by decide) c_33
          | succ f ih =>
            intro k H locs ls hk2 hI hl
            refine lv_iload_n hx hb dX0_run_30 rfl (lv_at hl 0 rfl) ?_
            refine lv_bipush (v := 96) hx hb dX0_run_31 (by decide) ?_
            refine lv_icmp_ge (tgt := 49) hx hb dX0_run_33 (by decide) (fun c_33 => ?_) (fun c_33 => ?_)
            · exact absurd c_33 (nI_ge (b := 96) (by omega) (by decide))
            · refine lv_aload_n hx hb dX0_run_36 rfl (lv_at hl 1 rfl) ?_
              refine x_get_12 S hI dX0_run_37 ?_
              refine lv_iload_n hx hb dX0_run_40 rfl (lv_at hl 0 rfl) ?_
              refine lv_iconst (v := 0) hx hb dX0_run_41 (by decide) ?_
              refine x_asn_12 S hI (by omega) dX0_run_42 (fun H locs hI => ?_)
              refine lv_iinc (v := nI (k + 1)) (lv' := [(2, .int (nI (k + 1))), (0, .ref (h 0)), (1, .int tg)]) hx hb dX0_run_43 hl (k := 0) rfl (tt_inc _) (by decide) rfl (fun ls hl => ?_)
              refine lv_goto (tgt := 30) hx hb dX0_run_46 (by decide) ?_
              exact ih (k + 1) H locs ls (by omega) hI (lv_sub hl [0, 1, 2] rfl)
        exact key30 96 0 _ _ _ (by omega) hI (lv_sub hl [0, 1, 2] rfl)
      · exact absurd (by decide) c_5
    | succ f ih =>
      intro k H locs ls hk2 hI hl
      refine lv_iload_n hx hb dX0_run_2 rfl (lv_at hl 0 rfl) ?_
      refine lv_bipush (v := 24) hx hb dX0_run_3 (by decide) ?_
      refine lv_icmp_ge (tgt := 28) hx hb dX0_run_5 (by decide) (fun c_5 => ?_) (fun c_5 => ?_)
      · exact absurd c_5 (nI_ge (b := 24) (by omega) (by decide))
      · refine lv_aload_n hx hb dX0_run_8 rfl (lv_at hl 1 rfl) ?_
        refine x_get_11 S hI dX0_run_9 ?_
        refine lv_iload_n hx hb dX0_run_12 rfl (lv_at hl 0 rfl) ?_
        refine lv_iconst (v := 0) hx hb dX0_run_13 (by decide) ?_
        refine x_asn_11 S hI (by omega) dX0_run_14 (fun H locs hI => ?_)
        refine lv_aload_n hx hb dX0_run_15 rfl (lv_at hl 1 rfl) ?_
        refine x_get_13 S hI dX0_run_16 ?_
        refine lv_iload_n hx hb dX0_run_19 rfl (lv_at hl 0 rfl) ?_
        refine lv_iconst (v := 0) hx hb dX0_run_20 (by decide) ?_
        refine x_asn_13 S hI (by omega) dX0_run_21 (fun H locs hI => ?_)
        refine lv_iinc (v := nI (k + 1)) (lv' := [(2, .int (nI (k + 1))), (0, .ref (h 0)), (1, .int tg)]) hx hb dX0_run_22 hl (k := 0) rfl (tt_inc _) (by decide) rfl (fun ls hl => ?_)
        refine lv_goto (tgt := 2) hx hb dX0_run_25 (by decide) ?_
        exact ih (k + 1) H locs ls (by omega) hI (lv_sub hl [0, 1, 2] rfl)
  exact key2 24 0 _ _ _ (by omega) hI (lv_sub hl [0, 1, 2] rfl)
end
section
/-! the reference's methods as plain functions of its cells -/
def yAdd2 (σ : ttS) (N : Nat) (x t : Int32) : ttS := ttU (ttU (ttU (ttU (ttU σ 1 N t) 2 N x) 5 N 1) 7 N 1) 0 0 (nI (N + 1))
def yAddR (σ : ttS) (N : Nat) (x : Int32) : Int32 := if xNoNode σ x = 0 then (if σ 1 x.toNatClampNeg = 0 then (if σ 0 0 = 24 then -2 else nI N) else -1) else -1
def yAddS (σ : ttS) (N : Nat) (x t : Int32) : ttS := if xNoNode σ x = 0 then (if σ 1 x.toNatClampNeg = 0 then (if σ 0 0 = 24 then σ else yAdd2 σ N x t) else σ) else σ
theorem tt_ne24 {n0 : Int32} {N : Nat} (h : ¬ n0 = 24) (hN : n0 = nI N) (h24 : N ≤ 24) : N < 24 := by
  subst hN
  rcases Nat.lt_or_ge N 24 with q | q
  · exact q
  · exact absurd (by rw [show N = 24 by omega]; rfl) h
def yHookR (σ : ttS) (x w o : Int32) : Int32 := if xNoNode σ x = 0 then (if σ 1 x.toNatClampNeg = 0 then (if w < 0 then -3 else if 3 < w then -3 else if o < 0 then -3 else if o ≤ 3 then σ 4 (x * 4 + w).toNatClampNeg else -3) else -1) else -1
def yHookS (σ : ttS) (x w o : Int32) : ttS := if xNoNode σ x = 0 then (if σ 1 x.toNatClampNeg = 0 then (if w < 0 then σ else if 3 < w then σ else if o < 0 then σ else if o ≤ 3 then ttU σ 4 (x * 4 + w).toNatClampNeg o else σ) else σ) else σ
def yBodyR (σ : ttS) (x a : Int32) : Int32 := if xNoNode σ x = 0 then (if σ 1 x.toNatClampNeg = 0 then -1 else (if a < 1 then -3 else if a ≤ 4 then 0 else -3)) else -1
def yBodyS (σ : ttS) (x a o : Int32) : ttS := if xNoNode σ x = 0 then (if σ 1 x.toNatClampNeg = 0 then σ else (if a < 1 then σ else if a ≤ 4 then ttU (ttU σ 5 x.toNatClampNeg a) 6 x.toNatClampNeg o else σ)) else σ
def yTagsR (σ : ttS) (x : Int32) : Int32 := if xNoNode σ x = 0 then (if σ 1 x.toNatClampNeg = 0 then -1 else 0) else -1
def yTagsS (σ : ttS) (x g : Int32) : ttS := if xNoNode σ x = 0 then (if σ 1 x.toNatClampNeg = 0 then σ else ttU σ 7 x.toNatClampNeg g) else σ
def yDisR (σ : ttS) (x : Int32) : Int32 := if xNoNode σ x = 0 then (if σ 3 x.toNatClampNeg = 0 then 0 else 1) else -1
def yDisS (σ : ttS) (x b : Int32) : ttS := if xNoNode σ x = 0 then ttU σ 3 x.toNatClampNeg b else σ
def yResR (σ : ttS) (x : Int32) : Int32 := if xNoNode σ x = 0 then σ 8 x.toNatClampNeg else -1
def yAttR (σ : ttS) (x : Int32) : Int32 := if xNoNode σ x = 0 then σ 10 x.toNatClampNeg else -1
def yTimR (σ : ttS) (x w : Int32) : Int32 := if xNoNode σ x = 0 then (if w < 0 then -1 else if w ≤ 3 then σ 9 (x * 4 + w).toNatClampNeg else -1) else -1
def yCnt (σ : ttS) (r : Int32) : Nat → Int32
  | 0 => 0
  | i + 1 => if σ 1 i = 0 then yCnt σ r i else if σ 8 i = r then (if r = 0 then yCnt σ r i else yCnt σ r i + 1) else yCnt σ r i
def ySum (σ : ttS) : Nat → Int32
  | 0 => 0
  | i + 1 => ySum σ i + σ 9 i
/-- whether c is above, going up from the node x -/
def yUpP (σ : ttS) (c : Nat) : Nat → Int32 → Int32
  | 0, _ => 0
  | f + 1, x => if x < 0 then 0 else if x = nI c then 1 else yUpP σ c f (σ 2 x.toNatClampNeg)
def yAb (σ : ttS) (c n : Nat) : Int32 := yUpP σ c 24 (σ 2 n)
def ySelL (σ : ttS) (t : Nat) : Nat → Nat → Int32
  | 0, _ => 1
  | f + 1, c => if σ 3 c = 0 then ySelL σ t f (c + 1) else if yAb σ c t = 0 then ySelL σ t f (c + 1) else 0
def ySel (σ : ttS) (N t : Nat) (tg : Int32) : Int32 := if σ 1 t = 0 then 0 else if σ 7 t &&& tg = 0 then 0 else if σ 3 t = 0 then ySelL σ t N 0 else 0
def yPasL (σ : ttS) (n w : Nat) : Nat → Nat → Int32
  | 0, _ => 1
  | f + 1, c => if yAb σ c n = 0 then yPasL σ n w f (c + 1) else if σ 4 (c * 4 + w) ≤ 1 then yPasL σ n w f (c + 1) else 0
def yPas (σ : ttS) (N n w : Nat) : Int32 := yPasL σ n w N 0
def yUseL (σ : ttS) (N c : Nat) (tg : Int32) : Nat → Nat → Int32
  | 0, _ => 0
  | f + 1, t => if yAb σ c t = 0 then yUseL σ N c tg f (t + 1) else if ySel σ N t tg = 0 then yUseL σ N c tg f (t + 1) else 1
def yUse (σ : ttS) (N c : Nat) (tg : Int32) : Int32 := yUseL σ N c tg N 0
def yHasL (σ : ttS) (N t : Nat) (own out : Int32) : Nat → Nat → Int32
  | 0, _ => if own = out then (if yPas σ N t 2 = 0 then 0 else 1) else 0
  | f + 1, c => if yAb σ c t = 0 then yHasL σ N t own out f (c + 1) else if yPas σ N c 2 = 0 then yHasL σ N t own out f (c + 1) else if σ 4 (c * 4 + 2) = out then 1 else if σ 4 (c * 4 + 3) = out then 1 else yHasL σ N t own out f (c + 1)
def yHas (σ : ttS) (N t : Nat) (own out : Int32) : Int32 := yHasL σ N t own out N 0
def yOwn (σ : ttS) (t i : Nat) : Int32 := ((σ 6 t) >>> ((2 * nI i) &&& 31)) &&& 3
def yOut (σ : ttS) (N t i : Nat) : Int32 := if yHas σ N t (yOwn σ t i) 2 = 0 then (if yHas σ N t (yOwn σ t i) 3 = 0 then 1 else 3) else 2
def yTry (σ : ttS) (N t : Nat) : Nat → Nat → Nat → Int32 → Nat × Int32
  | 0, _, n, r => (n, r)
  | f + 1, i, n, r => if r = 2 then yTry σ N t f (i + 1) (n + 1) (yOut σ N t i) else yTry σ N t f (i + 1) n r
def yRT1 (σ : ttS) (t n : Nat) (r : Int32) : ttS := ttU (ttU σ 8 t r) 10 t (nI n)
def yRT2 (σ : ttS) (N t n : Nat) (r : Int32) : ttS := ttU (yRT1 σ t n r) 9 (t * 4) (if yPas (yRT1 σ t n r) N t 2 = 0 then 0 else nI n)
def yRT (σ : ttS) (N K t : Nat) : ttS := yRT2 σ N t (yTry σ N t K 0 0 2).1 (yTry σ N t K 0 0 2).2
theorem yRT_k (σ : ttS) (N K t : Nat) {k : Nat} (h : k < 8) : yRT σ N K t k = σ k := by
  unfold yRT yRT2 yRT1
  rw [ttU_ne _ _ _ (by omega), ttU_ne _ _ _ (by omega), ttU_ne _ _ _ (by omega)]
def yRC1 (σ : ttS) (c : Nat) : ttS := ttU (ttU (ttU σ 9 (c * 4) (if σ 4 (c * 4) = 0 then 0 else 1)) 9 (c * 4 + 1) (if σ 4 (c * 4 + 1) = 0 then 0 else 1)) 8 c 1
def yRC2 (σ τ : ttS) (c : Nat) : ttS := if σ 4 (c * 4) = 3 then ttU τ 8 c 3 else if σ 4 (c * 4 + 1) = 3 then ttU τ 8 c 3 else τ
def yRC3 (σ τ : ttS) (c : Nat) : ttS := if σ 4 (c * 4) = 2 then ttU τ 8 c 2 else if σ 4 (c * 4 + 1) = 2 then ttU τ 8 c 2 else τ
def yRC (σ : ttS) (c : Nat) : ttS := yRC3 σ (yRC2 σ (yRC1 σ c) c) c
theorem yRC_k (σ : ttS) (c : Nat) {k : Nat} (h : k < 8) : yRC σ c k = σ k := by
  have h1 : yRC1 σ c k = σ k := by
    unfold yRC1
    rw [ttU_ne _ _ _ (by omega), ttU_ne _ _ _ (by omega), ttU_ne _ _ _ (by omega)]
  have h2 : yRC2 σ (yRC1 σ c) c k = σ k := by
    unfold yRC2
    split
    · rw [ttU_ne _ _ _ (by omega), h1]
    · split
      · rw [ttU_ne _ _ _ (by omega), h1]
      · exact h1
  unfold yRC yRC3
  split
  · rw [ttU_ne _ _ _ (by omega), h2]
  · split
    · rw [ttU_ne _ _ _ (by omega), h2]
    · exact h2
def ySumM (σ : ttS) (c : Nat) : Nat → Int32
  | 0 => 0
  | i + 1 => if yAb σ c i = 0 then ySumM σ c i else ySumM σ c i + σ 10 i
def yEv (σ : ttS) (N c w : Nat) : Int32 := if yPas σ N c 2 = 0 then 0 else if σ 4 (c * 4 + w) = 0 then 0 else ySumM σ c N
def yEach (σ : ttS) (N c : Nat) : ttS := ttU (ttU σ 9 (c * 4 + 2) (yEv σ N c 2)) 9 (c * 4 + 3) (yEv σ N c 3)
theorem yEach_k (σ : ttS) (N c : Nat) {k : Nat} (h : k ≠ 9) : yEach σ N c k = σ k := by
  unfold yEach
  rw [ttU_ne _ _ _ h, ttU_ne _ _ _ h]
def yNode (tg : Int32) (N : Nat) (σ : ttS) (i : Nat) : ttS := if σ 1 i = 0 then (if yPas σ N i 0 = 0 then σ else if yUse σ N i tg = 0 then σ else yRC σ i) else (if yPas σ N i 0 = 0 then σ else if ySel σ N i tg = 0 then σ else yRT σ N (σ 5 i).toNatClampNeg i)
theorem yNode_k (tg : Int32) (N : Nat) (σ : ttS) (i : Nat) {k : Nat} (h : k < 8) : yNode tg N σ i k = σ k := by
  unfold yNode
  split
  · split
    · rfl
    · split
      · rfl
      · exact yRC_k _ _ h
  · split
    · rfl
    · split
      · rfl
      · exact yRT_k _ _ _ _ h
def yM1 (tg : Int32) (N : Nat) (σ : ttS) : Nat → ttS
  | 0 => σ
  | i + 1 => yNode tg N (yM1 tg N σ i) i
theorem yM1_k (tg : Int32) (N : Nat) (σ : ttS) (i : Nat) {k : Nat} (h : k < 8) : yM1 tg N σ i k = σ k := by
  induction i with
  | zero => rfl
  | succ i ih => rw [yM1, yNode_k _ _ _ _ h, ih]
def yE (N : Nat) (σ : ttS) : Nat → ttS
  | 0 => σ
  | i + 1 => if yE N σ i 1 i = 0 then yEach (yE N σ i) N i else yE N σ i
theorem yE_k (N : Nat) (σ : ttS) (i : Nat) {k : Nat} (h : k ≠ 9) : yE N σ i k = σ k := by
  induction i with
  | zero => rfl
  | succ i ih =>
    rw [yE]
    split
    · rw [yEach_k _ _ _ h, ih]
    · exact ih
def yR1 (σ : ttS) : Nat → ttS
  | 0 => σ
  | n + 1 => ttU (yR1 σ n) 9 n 0
def yR2 (σ : ttS) : Nat → ttS
  | 0 => σ
  | n + 1 => ttU (ttU (yR2 σ n) 8 n 0) 10 n 0
theorem yR1_k (σ : ttS) (n : Nat) {k : Nat} (h1 : k ≠ 9) : yR1 σ n k = σ k := by
  induction n with
  | zero => rfl
  | succ n ih => rw [yR1, ttU_ne _ _ _ h1, ih]
theorem yR2_k (σ : ttS) (n : Nat) {k : Nat} (h1 : k ≠ 8) (h2 : k ≠ 10) : yR2 σ n k = σ k := by
  induction n with
  | zero => rfl
  | succ n ih => rw [yR2, ttU_ne _ _ _ h2, ttU_ne _ _ _ h1, ih]
def yReset (σ : ttS) : ttS := yR2 (yR1 σ 96) 24
theorem yReset_k (σ : ttS) {k : Nat} (h : k < 8) : yReset σ k = σ k := by
  unfold yReset
  rw [yR2_k _ _ (by omega) (by omega), yR1_k _ _ (by omega)]
def yRunS (σ : ttS) (N : Nat) (tg : Int32) : ttS := yE N (yM1 tg N (yReset σ) N) N
theorem yRunS_k (σ : ttS) (N : Nat) (tg : Int32) {k : Nat} (h : k < 8) : yRunS σ N tg k = σ k := by
  unfold yRunS
  rw [yE_k _ _ _ (by omega), yM1_k _ _ _ _ h, yReset_k _ h]
def yRunR (σ : ttS) (N : Nat) (tg : Int32) : Int32 := yCnt (yRunS σ N tg) 2 N
end
section
set_option maxRecDepth 100000
set_option maxHeartbeats 4000000 in
set_option maxRecDepth 100000 in
theorem metY_noNode (l : Launch) (σ : ttS) (x : Int32) : MY l yX1_noNode cX1_noNode 2 (some .boolean) (rmL 0) [.int x] σ (xNoNode σ x) σ := by
  refine y_starti rfl rfl (fun h => Nat.le_of_ble_eq_true rfl) ?_
  intro p e s m args below meth c D h d A S hr hk hA hI ls hl
  have hx := S.1
  have hb := S.2.1
  have hl : lv_has ls 2 [(0, .ref (h 0)), (1, .int x)] := hl
  refine lv_iload_n hx hb dX1_noNode_0 rfl (lv_at hl 1 rfl) ?_
  refine lv_if_lt (tgt := 12) hx hb dX1_noNode_1 (by decide) (fun c_1 => ?_) (fun c_1 => ?_)
  · refine lv_iconst (v := 1) hx hb dX1_noNode_12 (by decide) ?_
    refine lv_goto (tgt := 17) hx hb dX1_noNode_13 (by decide) ?_
    exact y_zret S hI hr hk rfl (by simp [xNoNode, c_1]) rfl dX1_noNode_17
  · refine lv_iload_n hx hb dX1_noNode_4 rfl (lv_at hl 1 rfl) ?_
    refine lv_aload_n hx hb dX1_noNode_5 rfl (lv_at hl 0 rfl) ?_
    refine y_get_0 S hI dX1_noNode_6 ?_
    refine lv_icmp_lt (tgt := 16) hx hb dX1_noNode_9 (by decide) (fun c_9 => ?_) (fun c_9 => ?_)
    · refine lv_iconst (v := 0) hx hb dX1_noNode_16 (by decide) ?_
      exact y_zret S hI hr hk rfl (by simp [xNoNode, c_1, c_9]) rfl dX1_noNode_17
    · refine lv_iconst (v := 1) hx hb dX1_noNode_12 (by decide) ?_
      refine lv_goto (tgt := 17) hx hb dX1_noNode_13 (by decide) ?_
      exact y_zret S hI hr hk rfl (by simp [xNoNode, c_1, c_9]) rfl dX1_noNode_17
set_option maxHeartbeats 4000000 in
set_option maxRecDepth 100000 in
theorem metY_add (l : Launch) (σ : ttS) (x t : Int32) {N : Nat} (hN : σ 0 0 = nI N) (h24 : N ≤ 24) (ht : vp_nar .boolean t = t) : MY l yX1_add cX1_add 3 (some .int) (rmL 1) [.int x, .int t] σ (yAddR σ N x) (yAddS σ N x t) := by
  refine y_starti rfl rfl (fun h => Nat.le_of_ble_eq_true rfl) ?_
  intro p e s m args below meth c D h d A S hr hk hA hI ls hl
  have hx := S.1
  have hb := S.2.1
  have hl : lv_has ls 3 [(0, .ref (h 0)), (1, .int x), (2, .int t)] := hl
  obtain ⟨rv, hrv⟩ : ∃ z, z = yAddR σ N x := ⟨_, rfl⟩
  rw [← hrv]
  obtain ⟨sf, hsf⟩ : ∃ z, z = yAddS σ N x t := ⟨_, rfl⟩
  rw [← hsf]
  refine lv_aload_n hx hb dX1_add_0 rfl (lv_at hl 0 rfl) ?_
  refine lv_iload_n hx hb dX1_add_1 rfl (lv_at hl 1 rfl) ?_
  refine y_calli (n := 1) S hI hA [.int x] (metY_noNode l _ x) (lw_V q261 q263 qs17 q28 q264) rfl rfl (by decide +kernel) ⟨by decide, by decide⟩ rfl hl.1 rfl (Nat.le_of_ble_eq_true rfl) dX1_add_2 ⟨by decide, by decide⟩ (fun H locs hI => ?_)
  refine lv_if_ne (tgt := 17) hx hb dX1_add_5 (by decide) (fun c_5 => ?_) (fun c_5 => ?_)
  · refine lv_iconst (v := -1) hx hb dX1_add_17 (by decide) ?_
    exact y_iret S hI hr hk (by rw [hrv]; simp [yAddR, c_5]) (by rw [hsf]; simp [yAddS, c_5]; try rfl) dX1_add_18
  · refine lv_aload_n hx hb dX1_add_8 rfl (lv_at hl 0 rfl) ?_
    refine y_get_1 S hI dX1_add_9 ?_
    refine lv_iload_n hx hb dX1_add_12 rfl (lv_at hl 1 rfl) ?_
    refine y_ald_1 S hI (tt_inN c_5 hN h24) dX1_add_13 ?_
    refine lv_if_eq (tgt := 19) hx hb dX1_add_14 (by decide) (fun c_14 => ?_) (fun c_14 => ?_)
    · refine lv_aload_n hx hb dX1_add_19 rfl (lv_at hl 0 rfl) ?_
      refine y_get_0 S hI dX1_add_20 ?_
      refine lv_bipush (v := 24) hx hb dX1_add_23 (by decide) ?_
      refine lv_icmp_ne (tgt := 31) hx hb dX1_add_25 (by decide) (fun c_25 => ?_) (fun c_25 => ?_)
      · have hN24 := tt_ne24 c_25 hN h24
        refine lv_aload_n hx hb dX1_add_31 rfl (lv_at hl 0 rfl) ?_
        refine y_get_1 S hI dX1_add_32 ?_
        refine lv_aload_n hx hb dX1_add_35 rfl (lv_at hl 0 rfl) ?_
        refine y_get_0 S hI dX1_add_36 ?_
        refine tt_top (nI N) hN ?_
        refine lv_iload_n hx hb dX1_add_39 rfl (lv_at hl 2 rfl) ?_
        refine y_asn_1 S hI (by omega) ht dX1_add_40 (fun H locs hI => ?_)
        refine lv_aload_n hx hb dX1_add_41 rfl (lv_at hl 0 rfl) ?_
        refine y_get_2 S hI dX1_add_42 ?_
        refine lv_aload_n hx hb dX1_add_45 rfl (lv_at hl 0 rfl) ?_
        refine y_get_0 S hI dX1_add_46 ?_
        refine tt_top (nI N) hN ?_
        refine lv_iload_n hx hb dX1_add_49 rfl (lv_at hl 1 rfl) ?_
        refine y_asn_2 S hI (by omega) dX1_add_50 (fun H locs hI => ?_)
        refine lv_aload_n hx hb dX1_add_51 rfl (lv_at hl 0 rfl) ?_
        refine y_get_5 S hI dX1_add_52 ?_
        refine lv_aload_n hx hb dX1_add_55 rfl (lv_at hl 0 rfl) ?_
        refine y_get_0 S hI dX1_add_56 ?_
        refine tt_top (nI N) hN ?_
        refine lv_iconst (v := 1) hx hb dX1_add_59 (by decide) ?_
        refine y_asn_5 S hI (by omega) dX1_add_60 (fun H locs hI => ?_)
        refine lv_aload_n hx hb dX1_add_61 rfl (lv_at hl 0 rfl) ?_
        refine y_get_7 S hI dX1_add_62 ?_
        refine lv_aload_n hx hb dX1_add_65 rfl (lv_at hl 0 rfl) ?_
        refine y_get_0 S hI dX1_add_66 ?_
        refine tt_top (nI N) hN ?_
        refine lv_iconst (v := 1) hx hb dX1_add_69 (by decide) ?_
        refine y_asn_7 S hI (by omega) dX1_add_70 (fun H locs hI => ?_)
        refine lv_aload_n hx hb dX1_add_71 rfl (lv_at hl 0 rfl) ?_
        refine lv_aload_n hx hb dX1_add_72 rfl (lv_at hl 0 rfl) ?_
        refine y_get_0 S hI dX1_add_73 ?_
        refine tt_top (nI N) hN ?_
        refine lv_iconst (v := 1) hx hb dX1_add_76 (by decide) ?_
        refine lv_iadd hx hb dX1_add_77 ?_
        refine tt_top (nI (N + 1)) (tt_add1 _) ?_
        refine y_put_0 S hI dX1_add_78 (fun H locs hI => ?_)
        refine lv_aload_n hx hb dX1_add_81 rfl (lv_at hl 0 rfl) ?_
        refine y_get_0 S hI dX1_add_82 ?_
        refine tt_top (nI (N + 1)) rfl ?_
        refine lv_iconst (v := 1) hx hb dX1_add_85 (by decide) ?_
        refine lv_isub hx hb dX1_add_86 ?_
        refine tt_top (nI N) (tt_sub1 _) ?_
        exact y_iret S hI hr hk (by rw [hrv]; simp [yAddR, c_5, c_14, c_25]) (by rw [hsf]; simp [yAddS, c_5, c_14, c_25]; try rfl) dX1_add_87
      · refine lv_bipush (v := -2) hx hb dX1_add_28 (by decide) ?_
        exact y_iret S hI hr hk (by rw [hrv]; simp [yAddR, c_5, c_14, c_25]) (by rw [hsf]; simp [yAddS, c_5, c_14, c_25]; try rfl) dX1_add_30
    · refine lv_iconst (v := -1) hx hb dX1_add_17 (by decide) ?_
      exact y_iret S hI hr hk (by rw [hrv]; simp [yAddR, c_5, c_14]) (by rw [hsf]; simp [yAddS, c_5, c_14]; try rfl) dX1_add_18
set_option maxHeartbeats 4000000 in
set_option maxRecDepth 100000 in
theorem metY_container (l : Launch) (σ : ttS) (x : Int32) {N : Nat} (hN : σ 0 0 = nI N) (h24 : N ≤ 24) : MY l yX1_container cX1_container 2 (some .int) (rmL 2) [.int x] σ (yAddR σ N x) (yAddS σ N x 0) := by
  refine y_starti rfl rfl (fun h => Nat.le_of_ble_eq_true rfl) ?_
  intro p e s m args below meth c D h d A S hr hk hA hI ls hl
  have hx := S.1
  have hb := S.2.1
  have hl : lv_has ls 2 [(0, .ref (h 0)), (1, .int x)] := hl
  refine lv_aload_n hx hb dX1_container_0 rfl (lv_at hl 0 rfl) ?_
  refine lv_iload_n hx hb dX1_container_1 rfl (lv_at hl 1 rfl) ?_
  refine lv_iconst (v := 0) hx hb dX1_container_2 (by decide) ?_
  refine y_calli (n := 2) S hI hA [.int x, .int 0] (metY_add l _ x 0 hN h24 rfl) (lw_V q257 q259 qs16 q28 q260) rfl rfl (by decide +kernel) ⟨by decide, by decide⟩ rfl hl.1 rfl (Nat.le_of_ble_eq_true rfl) dX1_container_3 ⟨by decide, by decide⟩ (fun H locs hI => ?_)
  exact y_iret S hI hr hk rfl rfl dX1_container_6
set_option maxHeartbeats 4000000 in
set_option maxRecDepth 100000 in
theorem metY_test (l : Launch) (σ : ttS) (x : Int32) {N : Nat} (hN : σ 0 0 = nI N) (h24 : N ≤ 24) : MY l yX1_test cX1_test 2 (some .int) (rmL 2) [.int x] σ (yAddR σ N x) (yAddS σ N x 1) := by
  refine y_starti rfl rfl (fun h => Nat.le_of_ble_eq_true rfl) ?_
  intro p e s m args below meth c D h d A S hr hk hA hI ls hl
  have hx := S.1
  have hb := S.2.1
  have hl : lv_has ls 2 [(0, .ref (h 0)), (1, .int x)] := hl
  refine lv_aload_n hx hb dX1_test_0 rfl (lv_at hl 0 rfl) ?_
  refine lv_iload_n hx hb dX1_test_1 rfl (lv_at hl 1 rfl) ?_
  refine lv_iconst (v := 1) hx hb dX1_test_2 (by decide) ?_
  refine y_calli (n := 2) S hI hA [.int x, .int 1] (metY_add l _ x 1 hN h24 rfl) (lw_V q257 q259 qs16 q28 q260) rfl rfl (by decide +kernel) ⟨by decide, by decide⟩ rfl hl.1 rfl (Nat.le_of_ble_eq_true rfl) dX1_test_3 ⟨by decide, by decide⟩ (fun H locs hI => ?_)
  exact y_iret S hI hr hk rfl rfl dX1_test_6
set_option maxHeartbeats 4000000 in
set_option maxRecDepth 100000 in
theorem metY_hook (l : Launch) (σ : ttS) (x w o : Int32) {N : Nat} (hN : σ 0 0 = nI N) (h24 : N ≤ 24) : MY l yX1_hook cX1_hook 5 (some .int) (rmL 1) [.int x, .int w, .int o] σ (yHookR σ x w o) (yHookS σ x w o) := by
  refine y_starti rfl rfl (fun h => Nat.le_of_ble_eq_true rfl) ?_
  intro p e s m args below meth c D h d A S hr hk hA hI ls hl
  have hx := S.1
  have hb := S.2.1
  have hl : lv_has ls 5 [(0, .ref (h 0)), (1, .int x), (2, .int w), (3, .int o)] := hl
  refine lv_aload_n hx hb dX1_hook_0 rfl (lv_at hl 0 rfl) ?_
  refine lv_iload_n hx hb dX1_hook_1 rfl (lv_at hl 1 rfl) ?_
  refine y_calli (n := 1) S hI hA [.int x] (metY_noNode l _ x) (lw_V q261 q263 qs17 q28 q264) rfl rfl (by decide +kernel) ⟨by decide, by decide⟩ rfl hl.1 rfl (Nat.le_of_ble_eq_true rfl) dX1_hook_2 ⟨by decide, by decide⟩ (fun H locs hI => ?_)
  refine lv_if_ne (tgt := 17) hx hb dX1_hook_5 (by decide) (fun c_5 => ?_) (fun c_5 => ?_)
  · refine lv_iconst (v := -1) hx hb dX1_hook_17 (by decide) ?_
    exact y_iret S hI hr hk (by simp [yHookR, yHookS, c_5]) (by simp [yHookR, yHookS, c_5]) dX1_hook_18
  · refine lv_aload_n hx hb dX1_hook_8 rfl (lv_at hl 0 rfl) ?_
    refine y_get_1 S hI dX1_hook_9 ?_
    refine lv_iload_n hx hb dX1_hook_12 rfl (lv_at hl 1 rfl) ?_
    refine y_ald_1 S hI (tt_inN c_5 hN h24) dX1_hook_13 ?_
    refine lv_if_eq (tgt := 19) hx hb dX1_hook_14 (by decide) (fun c_14 => ?_) (fun c_14 => ?_)
    · refine lv_iload_n hx hb dX1_hook_19 rfl (lv_at hl 2 rfl) ?_
      refine lv_if_lt (tgt := 37) hx hb dX1_hook_20 (by decide) (fun c_20 => ?_) (fun c_20 => ?_)
      · refine lv_bipush (v := -3) hx hb dX1_hook_37 (by decide) ?_
        exact y_iret S hI hr hk (by simp [yHookR, yHookS, c_5, c_14, c_20]) (by simp [yHookR, yHookS, c_5, c_14, c_20]) dX1_hook_39
      · refine lv_iload_n hx hb dX1_hook_23 rfl (lv_at hl 2 rfl) ?_
        refine lv_iconst (v := 3) hx hb dX1_hook_24 (by decide) ?_
        refine lv_icmp_gt (tgt := 37) hx hb dX1_hook_25 (by decide) (fun c_25 => ?_) (fun c_25 => ?_)
        · refine lv_bipush (v := -3) hx hb dX1_hook_37 (by decide) ?_
          exact y_iret S hI hr hk (by simp [yHookR, yHookS, c_5, c_14, c_20, c_25]) (by simp [yHookR, yHookS, c_5, c_14, c_20, c_25]) dX1_hook_39
        · refine lv_iload_n hx hb dX1_hook_28 rfl (lv_at hl 3 rfl) ?_
          refine lv_if_lt (tgt := 37) hx hb dX1_hook_29 (by decide) (fun c_29 => ?_) (fun c_29 => ?_)
          · refine lv_bipush (v := -3) hx hb dX1_hook_37 (by decide) ?_
            exact y_iret S hI hr hk (by simp [yHookR, yHookS, c_5, c_14, c_20, c_25, c_29]) (by simp [yHookR, yHookS, c_5, c_14, c_20, c_25, c_29]) dX1_hook_39
          · refine lv_iload_n hx hb dX1_hook_32 rfl (lv_at hl 3 rfl) ?_
            refine lv_iconst (v := 3) hx hb dX1_hook_33 (by decide) ?_
            refine lv_icmp_le (tgt := 40) hx hb dX1_hook_34 (by decide) (fun c_34 => ?_) (fun c_34 => ?_)
            · refine lv_aload_n hx hb dX1_hook_40 rfl (lv_at hl 0 rfl) ?_
              refine y_get_4 S hI dX1_hook_41 ?_
              refine lv_iload_n hx hb dX1_hook_44 rfl (lv_at hl 1 rfl) ?_
              refine lv_iconst (v := 4) hx hb dX1_hook_45 (by decide) ?_
              refine lv_imul hx hb dX1_hook_46 ?_
              refine lv_iload_n hx hb dX1_hook_47 rfl (lv_at hl 2 rfl) ?_
              refine lv_iadd hx hb dX1_hook_48 ?_
              refine y_ald_4 S hI (tt_in4 (tt_inN c_5 hN h24) c_20 (Int32.not_lt.mp c_25)) dX1_hook_49 ?_
              refine lv_istore (lv' := [(4, .int (σ 4 ((x * 4) + w).toNatClampNeg)), (0, .ref (h 0)), (1, .int x), (2, .int w), (3, .int o)]) hx hb dX1_hook_50 hl (by decide) rfl (fun ls hl => ?_)
              refine lv_aload_n hx hb dX1_hook_52 rfl (lv_at hl 1 rfl) ?_
              refine y_get_4 S hI dX1_hook_53 ?_
              refine lv_iload_n hx hb dX1_hook_56 rfl (lv_at hl 2 rfl) ?_
              refine lv_iconst (v := 4) hx hb dX1_hook_57 (by decide) ?_
              refine lv_imul hx hb dX1_hook_58 ?_
              refine lv_iload_n hx hb dX1_hook_59 rfl (lv_at hl 3 rfl) ?_
              refine lv_iadd hx hb dX1_hook_60 ?_
              refine lv_iload_n hx hb dX1_hook_61 rfl (lv_at hl 4 rfl) ?_
              refine y_ast_4 S hI (tt_in4 (tt_inN c_5 hN h24) c_20 (Int32.not_lt.mp c_25)) dX1_hook_62 (fun H locs hI => ?_)
              refine lv_iload hx hb dX1_hook_63 (lv_at hl 0 rfl) ?_
              exact y_iret S hI hr hk (by simp [yHookR, yHookS, c_5, c_14, c_20, c_25, c_29, c_34]) (by simp [yHookR, yHookS, c_5, c_14, c_20, c_25, c_29, c_34]) dX1_hook_65
            · refine lv_bipush (v := -3) hx hb dX1_hook_37 (by decide) ?_
              exact y_iret S hI hr hk (by simp [yHookR, yHookS, c_5, c_14, c_20, c_25, c_29, c_34]) (by simp [yHookR, yHookS, c_5, c_14, c_20, c_25, c_29, c_34]) dX1_hook_39
    · refine lv_iconst (v := -1) hx hb dX1_hook_17 (by decide) ?_
      exact y_iret S hI hr hk (by simp [yHookR, yHookS, c_5, c_14]) (by simp [yHookR, yHookS, c_5, c_14]) dX1_hook_18
set_option maxHeartbeats 4000000 in
set_option maxRecDepth 100000 in
theorem metY_body (l : Launch) (σ : ttS) (x a o : Int32) {N : Nat} (hN : σ 0 0 = nI N) (h24 : N ≤ 24) : MY l yX1_body cX1_body 4 (some .int) (rmL 1) [.int x, .int a, .int o] σ (yBodyR σ x a) (yBodyS σ x a o) := by
  refine y_starti rfl rfl (fun h => Nat.le_of_ble_eq_true rfl) ?_
  intro p e s m args below meth c D h d A S hr hk hA hI ls hl
  have hx := S.1
  have hb := S.2.1
  have hl : lv_has ls 4 [(0, .ref (h 0)), (1, .int x), (2, .int a), (3, .int o)] := hl
  refine lv_aload_n hx hb dX1_body_0 rfl (lv_at hl 0 rfl) ?_
  refine lv_iload_n hx hb dX1_body_1 rfl (lv_at hl 1 rfl) ?_
  refine y_calli (n := 1) S hI hA [.int x] (metY_noNode l _ x) (lw_V q261 q263 qs17 q28 q264) rfl rfl (by decide +kernel) ⟨by decide, by decide⟩ rfl hl.1 rfl (Nat.le_of_ble_eq_true rfl) dX1_body_2 ⟨by decide, by decide⟩ (fun H locs hI => ?_)
  refine lv_if_ne (tgt := 17) hx hb dX1_body_5 (by decide) (fun c_5 => ?_) (fun c_5 => ?_)
  · refine lv_iconst (v := -1) hx hb dX1_body_17 (by decide) ?_
    exact y_iret S hI hr hk (by simp [yBodyR, yBodyS, c_5]) (by simp [yBodyR, yBodyS, c_5]) dX1_body_18
  · refine lv_aload_n hx hb dX1_body_8 rfl (lv_at hl 0 rfl) ?_
    refine y_get_1 S hI dX1_body_9 ?_
    refine lv_iload_n hx hb dX1_body_12 rfl (lv_at hl 1 rfl) ?_
    refine y_ald_1 S hI (tt_inN c_5 hN h24) dX1_body_13 ?_
    refine lv_if_ne (tgt := 19) hx hb dX1_body_14 (by decide) (fun c_14 => ?_) (fun c_14 => ?_)
    · refine lv_iload_n hx hb dX1_body_19 rfl (lv_at hl 2 rfl) ?_
      refine lv_iconst (v := 1) hx hb dX1_body_20 (by decide) ?_
      refine lv_icmp_lt (tgt := 29) hx hb dX1_body_21 (by decide) (fun c_21 => ?_) (fun c_21 => ?_)
      · refine lv_bipush (v := -3) hx hb dX1_body_29 (by decide) ?_
        exact y_iret S hI hr hk (by simp [yBodyR, yBodyS, c_5, c_14, c_21]) (by simp [yBodyR, yBodyS, c_5, c_14, c_21]) dX1_body_31
      · refine lv_iload_n hx hb dX1_body_24 rfl (lv_at hl 2 rfl) ?_
        refine lv_iconst (v := 4) hx hb dX1_body_25 (by decide) ?_
        refine lv_icmp_le (tgt := 32) hx hb dX1_body_26 (by decide) (fun c_26 => ?_) (fun c_26 => ?_)
        · refine lv_aload_n hx hb dX1_body_32 rfl (lv_at hl 0 rfl) ?_
          refine y_get_5 S hI dX1_body_33 ?_
          refine lv_iload_n hx hb dX1_body_36 rfl (lv_at hl 1 rfl) ?_
          refine lv_iload_n hx hb dX1_body_37 rfl (lv_at hl 2 rfl) ?_
          refine y_ast_5 S hI (tt_inN c_5 hN h24) dX1_body_38 (fun H locs hI => ?_)
          refine lv_aload_n hx hb dX1_body_39 rfl (lv_at hl 0 rfl) ?_
          refine y_get_6 S hI dX1_body_40 ?_
          refine lv_iload_n hx hb dX1_body_43 rfl (lv_at hl 1 rfl) ?_
          refine lv_iload_n hx hb dX1_body_44 rfl (lv_at hl 3 rfl) ?_
          refine y_ast_6 S hI (tt_inN c_5 hN h24) dX1_body_45 (fun H locs hI => ?_)
          refine lv_iconst (v := 0) hx hb dX1_body_46 (by decide) ?_
          exact y_iret S hI hr hk (by simp [yBodyR, yBodyS, c_5, c_14, c_21, c_26]) (by simp [yBodyR, yBodyS, c_5, c_14, c_21, c_26]) dX1_body_47
        · refine lv_bipush (v := -3) hx hb dX1_body_29 (by decide) ?_
          exact y_iret S hI hr hk (by simp [yBodyR, yBodyS, c_5, c_14, c_21, c_26]) (by simp [yBodyR, yBodyS, c_5, c_14, c_21, c_26]) dX1_body_31
    · refine lv_iconst (v := -1) hx hb dX1_body_17 (by decide) ?_
      exact y_iret S hI hr hk (by simp [yBodyR, yBodyS, c_5, c_14]) (by simp [yBodyR, yBodyS, c_5, c_14]) dX1_body_18
set_option maxHeartbeats 4000000 in
set_option maxRecDepth 100000 in
theorem metY_tags (l : Launch) (σ : ttS) (x g : Int32) {N : Nat} (hN : σ 0 0 = nI N) (h24 : N ≤ 24) : MY l yX1_tags cX1_tags 3 (some .int) (rmL 1) [.int x, .int g] σ (yTagsR σ x) (yTagsS σ x g) := by
  refine y_starti rfl rfl (fun h => Nat.le_of_ble_eq_true rfl) ?_
  intro p e s m args below meth c D h d A S hr hk hA hI ls hl
  have hx := S.1
  have hb := S.2.1
  have hl : lv_has ls 3 [(0, .ref (h 0)), (1, .int x), (2, .int g)] := hl
  refine lv_aload_n hx hb dX1_tags_0 rfl (lv_at hl 0 rfl) ?_
  refine lv_iload_n hx hb dX1_tags_1 rfl (lv_at hl 1 rfl) ?_
  refine y_calli (n := 1) S hI hA [.int x] (metY_noNode l _ x) (lw_V q261 q263 qs17 q28 q264) rfl rfl (by decide +kernel) ⟨by decide, by decide⟩ rfl hl.1 rfl (Nat.le_of_ble_eq_true rfl) dX1_tags_2 ⟨by decide, by decide⟩ (fun H locs hI => ?_)
  refine lv_if_ne (tgt := 17) hx hb dX1_tags_5 (by decide) (fun c_5 => ?_) (fun c_5 => ?_)
  · refine lv_iconst (v := -1) hx hb dX1_tags_17 (by decide) ?_
    exact y_iret S hI hr hk (by simp [yTagsR, yTagsS, c_5]) (by simp [yTagsR, yTagsS, c_5]) dX1_tags_18
  · refine lv_aload_n hx hb dX1_tags_8 rfl (lv_at hl 0 rfl) ?_
    refine y_get_1 S hI dX1_tags_9 ?_
    refine lv_iload_n hx hb dX1_tags_12 rfl (lv_at hl 1 rfl) ?_
    refine y_ald_1 S hI (tt_inN c_5 hN h24) dX1_tags_13 ?_
    refine lv_if_ne (tgt := 19) hx hb dX1_tags_14 (by decide) (fun c_14 => ?_) (fun c_14 => ?_)
    · refine lv_aload_n hx hb dX1_tags_19 rfl (lv_at hl 0 rfl) ?_
      refine y_get_7 S hI dX1_tags_20 ?_
      refine lv_iload_n hx hb dX1_tags_23 rfl (lv_at hl 1 rfl) ?_
      refine lv_iload_n hx hb dX1_tags_24 rfl (lv_at hl 2 rfl) ?_
      refine y_ast_7 S hI (tt_inN c_5 hN h24) dX1_tags_25 (fun H locs hI => ?_)
      refine lv_iconst (v := 0) hx hb dX1_tags_26 (by decide) ?_
      exact y_iret S hI hr hk (by simp [yTagsR, yTagsS, c_5, c_14]) (by simp [yTagsR, yTagsS, c_5, c_14]) dX1_tags_27
    · refine lv_iconst (v := -1) hx hb dX1_tags_17 (by decide) ?_
      exact y_iret S hI hr hk (by simp [yTagsR, yTagsS, c_5, c_14]) (by simp [yTagsR, yTagsS, c_5, c_14]) dX1_tags_18
set_option maxHeartbeats 4000000 in
set_option maxRecDepth 100000 in
theorem metY_disable (l : Launch) (σ : ttS) (x b : Int32) {N : Nat} (hN : σ 0 0 = nI N) (h24 : N ≤ 24) (ht : vp_nar .boolean b = b) : MY l yX1_disable cX1_disable 4 (some .int) (rmL 1) [.int x, .int b] σ (yDisR σ x) (yDisS σ x b) := by
  refine y_starti rfl rfl (fun h => Nat.le_of_ble_eq_true rfl) ?_
  intro p e s m args below meth c D h d A S hr hk hA hI ls hl
  have hx := S.1
  have hb := S.2.1
  have hl : lv_has ls 4 [(0, .ref (h 0)), (1, .int x), (2, .int b)] := hl
  refine lv_aload_n hx hb dX1_disable_0 rfl (lv_at hl 0 rfl) ?_
  refine lv_iload_n hx hb dX1_disable_1 rfl (lv_at hl 1 rfl) ?_
  refine y_calli (n := 1) S hI hA [.int x] (metY_noNode l _ x) (lw_V q261 q263 qs17 q28 q264) rfl rfl (by decide +kernel) ⟨by decide, by decide⟩ rfl hl.1 rfl (Nat.le_of_ble_eq_true rfl) dX1_disable_2 ⟨by decide, by decide⟩ (fun H locs hI => ?_)
  refine lv_if_eq (tgt := 10) hx hb dX1_disable_5 (by decide) (fun c_5 => ?_) (fun c_5 => ?_)
  · refine lv_aload_n hx hb dX1_disable_10 rfl (lv_at hl 0 rfl) ?_
    refine y_get_3 S hI dX1_disable_11 ?_
    refine lv_iload_n hx hb dX1_disable_14 rfl (lv_at hl 1 rfl) ?_
    refine y_ald_3 S hI (tt_inN c_5 hN h24) dX1_disable_15 ?_
    refine lv_if_eq (tgt := 23) hx hb dX1_disable_16 (by decide) (fun c_16 => ?_) (fun c_16 => ?_)
    · refine lv_iconst (v := 0) hx hb dX1_disable_23 (by decide) ?_
      refine lv_istore_n (lv' := [(3, .int 0), (0, .ref (h 0)), (1, .int x), (2, .int b)]) hx hb dX1_disable_24 rfl hl (by decide) rfl (fun ls hl => ?_)
      refine lv_aload_n hx hb dX1_disable_25 rfl (lv_at hl 1 rfl) ?_
      refine y_get_3 S hI dX1_disable_26 ?_
      refine lv_iload_n hx hb dX1_disable_29 rfl (lv_at hl 2 rfl) ?_
      refine lv_iload_n hx hb dX1_disable_30 rfl (lv_at hl 3 rfl) ?_
      refine y_ast_3 S hI (tt_inN c_5 hN h24) ht dX1_disable_31 (fun H locs hI => ?_)
      refine lv_iload_n hx hb dX1_disable_32 rfl (lv_at hl 0 rfl) ?_
      exact y_iret S hI hr hk (by simp [yDisR, yDisS, c_5, c_16]) (by simp [yDisR, yDisS, c_5, c_16]) dX1_disable_33
    · refine lv_iconst (v := 1) hx hb dX1_disable_19 (by decide) ?_
      refine lv_goto (tgt := 24) hx hb dX1_disable_20 (by decide) ?_
      refine lv_istore_n (lv' := [(3, .int 1), (0, .ref (h 0)), (1, .int x), (2, .int b)]) hx hb dX1_disable_24 rfl hl (by decide) rfl (fun ls hl => ?_)
      refine lv_aload_n hx hb dX1_disable_25 rfl (lv_at hl 1 rfl) ?_
      refine y_get_3 S hI dX1_disable_26 ?_
      refine lv_iload_n hx hb dX1_disable_29 rfl (lv_at hl 2 rfl) ?_
      refine lv_iload_n hx hb dX1_disable_30 rfl (lv_at hl 3 rfl) ?_
      refine y_ast_3 S hI (tt_inN c_5 hN h24) ht dX1_disable_31 (fun H locs hI => ?_)
      refine lv_iload_n hx hb dX1_disable_32 rfl (lv_at hl 0 rfl) ?_
      exact y_iret S hI hr hk (by simp [yDisR, yDisS, c_5, c_16]) (by simp [yDisR, yDisS, c_5, c_16]) dX1_disable_33
  · refine lv_iconst (v := -1) hx hb dX1_disable_8 (by decide) ?_
    exact y_iret S hI hr hk (by simp [yDisR, yDisS, c_5]) (by simp [yDisR, yDisS, c_5]) dX1_disable_9
set_option maxHeartbeats 4000000 in
set_option maxRecDepth 100000 in
theorem metY_result (l : Launch) (σ : ttS) (x : Int32) {N : Nat} (hN : σ 0 0 = nI N) (h24 : N ≤ 24) : MY l yX1_result cX1_result 2 (some .int) (rmL 1) [.int x] σ (yResR σ x) σ := by
  refine y_starti rfl rfl (fun h => Nat.le_of_ble_eq_true rfl) ?_
  intro p e s m args below meth c D h d A S hr hk hA hI ls hl
  have hx := S.1
  have hb := S.2.1
  have hl : lv_has ls 2 [(0, .ref (h 0)), (1, .int x)] := hl
  refine lv_aload_n hx hb dX1_result_0 rfl (lv_at hl 0 rfl) ?_
  refine lv_iload_n hx hb dX1_result_1 rfl (lv_at hl 1 rfl) ?_
  refine y_calli (n := 1) S hI hA [.int x] (metY_noNode l _ x) (lw_V q261 q263 qs17 q28 q264) rfl rfl (by decide +kernel) ⟨by decide, by decide⟩ rfl hl.1 rfl (Nat.le_of_ble_eq_true rfl) dX1_result_2 ⟨by decide, by decide⟩ (fun H locs hI => ?_)
  refine lv_if_eq (tgt := 12) hx hb dX1_result_5 (by decide) (fun c_5 => ?_) (fun c_5 => ?_)
  · refine lv_aload_n hx hb dX1_result_12 rfl (lv_at hl 0 rfl) ?_
    refine y_get_8 S hI dX1_result_13 ?_
    refine lv_iload_n hx hb dX1_result_16 rfl (lv_at hl 1 rfl) ?_
    refine y_ald_8 S hI (tt_inN c_5 hN h24) dX1_result_17 ?_
    exact y_iret S hI hr hk (by simp [yResR, c_5]) rfl dX1_result_18
  · refine lv_iconst (v := -1) hx hb dX1_result_8 (by decide) ?_
    refine lv_goto (tgt := 18) hx hb dX1_result_9 (by decide) ?_
    exact y_iret S hI hr hk (by simp [yResR, c_5]) rfl dX1_result_18
set_option maxHeartbeats 4000000 in
set_option maxRecDepth 100000 in
theorem metY_attempts (l : Launch) (σ : ttS) (x : Int32) {N : Nat} (hN : σ 0 0 = nI N) (h24 : N ≤ 24) : MY l yX1_attempts cX1_attempts 2 (some .int) (rmL 1) [.int x] σ (yAttR σ x) σ := by
  refine y_starti rfl rfl (fun h => Nat.le_of_ble_eq_true rfl) ?_
  intro p e s m args below meth c D h d A S hr hk hA hI ls hl
  have hx := S.1
  have hb := S.2.1
  have hl : lv_has ls 2 [(0, .ref (h 0)), (1, .int x)] := hl
  refine lv_aload_n hx hb dX1_attempts_0 rfl (lv_at hl 0 rfl) ?_
  refine lv_iload_n hx hb dX1_attempts_1 rfl (lv_at hl 1 rfl) ?_
  refine y_calli (n := 1) S hI hA [.int x] (metY_noNode l _ x) (lw_V q261 q263 qs17 q28 q264) rfl rfl (by decide +kernel) ⟨by decide, by decide⟩ rfl hl.1 rfl (Nat.le_of_ble_eq_true rfl) dX1_attempts_2 ⟨by decide, by decide⟩ (fun H locs hI => ?_)
  refine lv_if_eq (tgt := 12) hx hb dX1_attempts_5 (by decide) (fun c_5 => ?_) (fun c_5 => ?_)
  · refine lv_aload_n hx hb dX1_attempts_12 rfl (lv_at hl 0 rfl) ?_
    refine y_get_10 S hI dX1_attempts_13 ?_
    refine lv_iload_n hx hb dX1_attempts_16 rfl (lv_at hl 1 rfl) ?_
    refine y_ald_10 S hI (tt_inN c_5 hN h24) dX1_attempts_17 ?_
    exact y_iret S hI hr hk (by simp [yAttR, c_5]) rfl dX1_attempts_18
  · refine lv_iconst (v := -1) hx hb dX1_attempts_8 (by decide) ?_
    refine lv_goto (tgt := 18) hx hb dX1_attempts_9 (by decide) ?_
    exact y_iret S hI hr hk (by simp [yAttR, c_5]) rfl dX1_attempts_18
set_option maxHeartbeats 4000000 in
set_option maxRecDepth 100000 in
theorem metY_times (l : Launch) (σ : ttS) (x w : Int32) {N : Nat} (hN : σ 0 0 = nI N) (h24 : N ≤ 24) : MY l yX1_times cX1_times 3 (some .int) (rmL 1) [.int x, .int w] σ (yTimR σ x w) σ := by
  refine y_starti rfl rfl (fun h => Nat.le_of_ble_eq_true rfl) ?_
  intro p e s m args below meth c D h d A S hr hk hA hI ls hl
  have hx := S.1
  have hb := S.2.1
  have hl : lv_has ls 3 [(0, .ref (h 0)), (1, .int x), (2, .int w)] := hl
  refine lv_aload_n hx hb dX1_times_0 rfl (lv_at hl 0 rfl) ?_
  refine lv_iload_n hx hb dX1_times_1 rfl (lv_at hl 1 rfl) ?_
  refine y_calli (n := 1) S hI hA [.int x] (metY_noNode l _ x) (lw_V q261 q263 qs17 q28 q264) rfl rfl (by decide +kernel) ⟨by decide, by decide⟩ rfl hl.1 rfl (Nat.le_of_ble_eq_true rfl) dX1_times_2 ⟨by decide, by decide⟩ (fun H locs hI => ?_)
  refine lv_if_ne (tgt := 17) hx hb dX1_times_5 (by decide) (fun c_5 => ?_) (fun c_5 => ?_)
  · refine lv_iconst (v := -1) hx hb dX1_times_17 (by decide) ?_
    exact y_iret S hI hr hk (by simp [yTimR, c_5]) rfl dX1_times_18
  · refine lv_iload_n hx hb dX1_times_8 rfl (lv_at hl 2 rfl) ?_
    refine lv_if_lt (tgt := 17) hx hb dX1_times_9 (by decide) (fun c_9 => ?_) (fun c_9 => ?_)
    · refine lv_iconst (v := -1) hx hb dX1_times_17 (by decide) ?_
      exact y_iret S hI hr hk (by simp [yTimR, c_5, c_9]) rfl dX1_times_18
    · refine lv_iload_n hx hb dX1_times_12 rfl (lv_at hl 2 rfl) ?_
      refine lv_iconst (v := 3) hx hb dX1_times_13 (by decide) ?_
      refine lv_icmp_le (tgt := 19) hx hb dX1_times_14 (by decide) (fun c_14 => ?_) (fun c_14 => ?_)
      · refine lv_aload_n hx hb dX1_times_19 rfl (lv_at hl 0 rfl) ?_
        refine y_get_9 S hI dX1_times_20 ?_
        refine lv_iload_n hx hb dX1_times_23 rfl (lv_at hl 1 rfl) ?_
        refine lv_iconst (v := 4) hx hb dX1_times_24 (by decide) ?_
        refine lv_imul hx hb dX1_times_25 ?_
        refine lv_iload_n hx hb dX1_times_26 rfl (lv_at hl 2 rfl) ?_
        refine lv_iadd hx hb dX1_times_27 ?_
        refine y_ald_9 S hI (tt_in4 (tt_inN c_5 hN h24) c_9 c_14) dX1_times_28 ?_
        exact y_iret S hI hr hk (by simp [yTimR, c_5, c_9, c_14]) rfl dX1_times_29
      · refine lv_iconst (v := -1) hx hb dX1_times_17 (by decide) ?_
        exact y_iret S hI hr hk (by simp [yTimR, c_5, c_9, c_14]) rfl dX1_times_18
set_option maxHeartbeats 4000000 in
set_option maxRecDepth 100000 in
theorem metY_count (l : Launch) (σ : ttS) (r : Int32) {N : Nat} (hN : σ 0 0 = nI N) (h24 : N ≤ 24) : MY l yX1_count cX1_count 4 (some .int) (rmL 0) [.int r] σ (yCnt σ r N) σ := by
  refine y_starti rfl rfl (fun h => Nat.le_of_ble_eq_true rfl) ?_
  intro p e s m args below meth c D h d A S hr hk hA hI ls hl
  have hx := S.1
  have hb := S.2.1
  have hl : lv_has ls 4 [(0, .ref (h 0)), (1, .int r)] := hl
  obtain ⟨rv, hrv⟩ : ∃ z, z = yCnt σ r N := ⟨_, rfl⟩
  rw [← hrv]
  obtain ⟨sf, hsf⟩ : ∃ z, z = σ := ⟨_, rfl⟩
  rw [← hsf]
  refine lv_iconst (v := 0) hx hb dX1_count_0 (by decide) ?_
  refine lv_istore_n (lv' := [(2, .int 0), (0, .ref (h 0)), (1, .int r)]) hx hb dX1_count_1 rfl hl (by decide) rfl (fun ls hl => ?_)
  refine lv_iconst (v := 0) hx hb dX1_count_2 (by decide) ?_
  refine lv_istore_n (lv' := [(3, .int 0), (2, .int 0), (0, .ref (h 0)), (1, .int r)]) hx hb dX1_count_3 rfl hl (by decide) rfl (fun ls hl => ?_)
  have key4 : ∀ (f : Nat) (k : Nat) (H : Heap) (locs : List Loc) (ls : Array Slot), (k + f = N) → (yCnt σ r N = rv) → bY D A h d σ s H locs → lv_has ls 4 [(3, .int (nI k)), (2, .int (yCnt σ r (k))), (0, .ref (h 0)), (1, .int r)] → W p l e (rmL 0) s m args below meth c H locs 0 0 (yQi below D h d A args s rv sf) (F0 m 4 ls []) := by
    intro f
    induction f with
    | zero =>
      intro k H locs ls hk2 hrk hI hl
      obtain rfl : k = N := by omega
      refine lv_iload_n hx hb dX1_count_4 rfl (lv_at hl 0 rfl) ?_
      refine lv_aload_n hx hb dX1_count_5 rfl (lv_at hl 2 rfl) ?_
      refine y_get_0 S hI dX1_count_6 ?_
      refine lv_icmp_ge (tgt := 44) hx hb dX1_count_9 (by decide) (fun c_9 => ?_) (fun c_9 => ?_)
      · refine lv_iload_n hx hb dX1_count_44 rfl (lv_at hl 1 rfl) ?_
        exact y_iret S hI hr hk hrk hsf.symm dX1_count_45
      · exact absurd (by rw [hN]; exact nI_le (Nat.le_refl k) (by omega)) c_9
    | succ f ih =>
      intro k H locs ls hk2 hrk hI hl
      refine lv_iload_n hx hb dX1_count_4 rfl (lv_at hl 0 rfl) ?_
      refine lv_aload_n hx hb dX1_count_5 rfl (lv_at hl 2 rfl) ?_
      refine y_get_0 S hI dX1_count_6 ?_
      refine lv_icmp_ge (tgt := 44) hx hb dX1_count_9 (by decide) (fun c_9 => ?_) (fun c_9 => ?_)
      · exact absurd c_9 (by rw [hN]; exact nI_ge (by omega) (by omega))
      · refine lv_aload_n hx hb dX1_count_12 rfl (lv_at hl 2 rfl) ?_
        refine y_get_1 S hI dX1_count_13 ?_
        refine lv_iload_n hx hb dX1_count_16 rfl (lv_at hl 0 rfl) ?_
        refine y_aln_1 S hI (by omega) dX1_count_17 ?_
        refine lv_if_eq (tgt := 38) hx hb dX1_count_18 (by decide) (fun c_18 => ?_) (fun c_18 => ?_)
        · refine lv_iinc (v := nI (k + 1)) (lv' := [(3, .int (nI (k + 1))), (2, .int (yCnt σ r (k))), (0, .ref (h 0)), (1, .int r)]) hx hb dX1_count_38 hl (k := 0) rfl (tt_inc _) (by decide) rfl (fun ls hl => ?_)
          refine lv_goto (tgt := 4) hx hb dX1_count_41 (by decide) ?_
          exact ih (k + 1) H locs ls (by omega) hrk hI (by rw [show yCnt σ r (k + 1) = yCnt σ r (k) from (by simp [yCnt, c_9, c_18])]; exact lv_sub hl [0, 1, 2, 3] rfl)
        · refine lv_aload_n hx hb dX1_count_21 rfl (lv_at hl 2 rfl) ?_
          refine y_get_8 S hI dX1_count_22 ?_
          refine lv_iload_n hx hb dX1_count_25 rfl (lv_at hl 0 rfl) ?_
          refine y_aln_8 S hI (by omega) dX1_count_26 ?_
          refine lv_iload_n hx hb dX1_count_27 rfl (lv_at hl 3 rfl) ?_
          refine lv_icmp_ne (tgt := 38) hx hb dX1_count_28 (by decide) (fun c_28 => ?_) (fun c_28 => ?_)
          · refine lv_iinc (v := nI (k + 1)) (lv' := [(3, .int (nI (k + 1))), (2, .int (yCnt σ r (k))), (0, .ref (h 0)), (1, .int r)]) hx hb dX1_count_38 hl (k := 0) rfl (tt_inc _) (by decide) rfl (fun ls hl => ?_)
            refine lv_goto (tgt := 4) hx hb dX1_count_41 (by decide) ?_
            exact ih (k + 1) H locs ls (by omega) hrk hI (by rw [show yCnt σ r (k + 1) = yCnt σ r (k) from (by simp [yCnt, c_9, c_18, c_28])]; exact lv_sub hl [0, 1, 2, 3] rfl)
          · refine lv_iload_n hx hb dX1_count_31 rfl (lv_at hl 3 rfl) ?_
            refine lv_if_eq (tgt := 38) hx hb dX1_count_32 (by decide) (fun c_32 => ?_) (fun c_32 => ?_)
            · refine lv_iinc (v := nI (k + 1)) (lv' := [(3, .int (nI (k + 1))), (2, .int (yCnt σ r (k))), (0, .ref (h 0)), (1, .int r)]) hx hb dX1_count_38 hl (k := 0) rfl (tt_inc _) (by decide) rfl (fun ls hl => ?_)
              refine lv_goto (tgt := 4) hx hb dX1_count_41 (by decide) ?_
              exact ih (k + 1) H locs ls (by omega) hrk hI (by rw [show yCnt σ r (k + 1) = yCnt σ r (k) from (by simp [yCnt, c_9, c_18, c_28, c_32])]; exact lv_sub hl [0, 1, 2, 3] rfl)
            · refine lv_iinc (v := yCnt σ r (k) + 1) (lv' := [(2, .int (yCnt σ r (k) + 1)), (3, .int (nI k)), (0, .ref (h 0)), (1, .int r)]) hx hb dX1_count_35 hl (k := 1) rfl rfl (by decide) rfl (fun ls hl => ?_)
              refine lv_iinc (v := nI (k + 1)) (lv' := [(3, .int (nI (k + 1))), (2, .int (yCnt σ r (k) + 1)), (0, .ref (h 0)), (1, .int r)]) hx hb dX1_count_38 hl (k := 1) rfl (tt_inc _) (by decide) rfl (fun ls hl => ?_)
              refine lv_goto (tgt := 4) hx hb dX1_count_41 (by decide) ?_
              exact ih (k + 1) H locs ls (by omega) hrk hI (by rw [show yCnt σ r (k + 1) = yCnt σ r (k) + 1 from (by simp [yCnt, c_9, c_18, c_28, c_32])]; exact lv_sub hl [0, 1, 2, 3] rfl)
  exact key4 N 0 _ _ _ (by omega) hrv.symm hI (lv_sub hl [0, 1, 2, 3] rfl)
set_option maxHeartbeats 4000000 in
set_option maxRecDepth 100000 in
theorem metY_steps (l : Launch) (σ : ttS)  : MY l yX1_steps cX1_steps 3 (some .int) (rmL 0) [] σ (ySum σ 96) σ := by
  refine y_starti rfl rfl (fun h => Nat.le_of_ble_eq_true rfl) ?_
  intro p e s m args below meth c D h d A S hr hk hA hI ls hl
  have hx := S.1
  have hb := S.2.1
  have hl : lv_has ls 3 [(0, .ref (h 0))] := hl
  obtain ⟨rv, hrv⟩ : ∃ z, z = ySum σ 96 := ⟨_, rfl⟩
  rw [← hrv]
  obtain ⟨sf, hsf⟩ : ∃ z, z = σ := ⟨_, rfl⟩
  rw [← hsf]
  refine lv_iconst (v := 0) hx hb dX1_steps_0 (by decide) ?_
  refine lv_istore_n (lv' := [(1, .int 0), (0, .ref (h 0))]) hx hb dX1_steps_1 rfl hl (by decide) rfl (fun ls hl => ?_)
  refine lv_iconst (v := 0) hx hb dX1_steps_2 (by decide) ?_
  refine lv_istore_n (lv' := [(2, .int 0), (1, .int 0), (0, .ref (h 0))]) hx hb dX1_steps_3 rfl hl (by decide) rfl (fun ls hl => ?_)
  have key4 : ∀ (f : Nat) (k : Nat) (H : Heap) (locs : List Loc) (ls : Array Slot), (k + f = 96) → (ySum σ 96 = rv) → bY D A h d σ s H locs → lv_has ls 3 [(2, .int (nI k)), (1, .int (ySum σ (k))), (0, .ref (h 0))] → W p l e (rmL 0) s m args below meth c H locs 0 0 (yQi below D h d A args s rv sf) (F0 m 4 ls []) := by
    intro f
    induction f with
    | zero =>
      intro k H locs ls hk2 hrk hI hl
      obtain rfl : k = 96 := by omega
      refine lv_iload_n hx hb dX1_steps_4 rfl (lv_at hl 0 rfl) ?_
      refine lv_bipush (v := 96) hx hb dX1_steps_5 (by decide) ?_
      refine lv_icmp_ge (tgt := 25) hx hb dX1_steps_7 (by decide) (fun c_7 => ?_) (fun c_7 => ?_)
      · refine lv_iload_n hx hb dX1_steps_25 rfl (lv_at hl 1 rfl) ?_
        exact y_iret S hI hr hk hrk hsf.symm dX1_steps_26
      · exact absurd (by decide) c_7
    | succ f ih =>
      intro k H locs ls hk2 hrk hI hl
      refine lv_iload_n hx hb dX1_steps_4 rfl (lv_at hl 0 rfl) ?_
      refine lv_bipush (v := 96) hx hb dX1_steps_5 (by decide) ?_
      refine lv_icmp_ge (tgt := 25) hx hb dX1_steps_7 (by decide) (fun c_7 => ?_) (fun c_7 => ?_)
      · exact absurd c_7 (nI_ge (b := 96) (by omega) (by decide))
      · refine lv_iload_n hx hb dX1_steps_10 rfl (lv_at hl 1 rfl) ?_
        refine lv_aload_n hx hb dX1_steps_11 rfl (lv_at hl 2 rfl) ?_
        refine y_get_9 S hI dX1_steps_12 ?_
        refine lv_iload_n hx hb dX1_steps_15 rfl (lv_at hl 0 rfl) ?_
        refine y_aln_9 S hI (by omega) dX1_steps_16 ?_
        refine lv_iadd hx hb dX1_steps_17 ?_
        refine lv_istore_n (lv' := [(1, .int ((ySum σ (k)) + (σ 9 k))), (2, .int (nI k)), (0, .ref (h 0))]) hx hb dX1_steps_18 rfl hl (by decide) rfl (fun ls hl => ?_)
        refine lv_iinc (v := nI (k + 1)) (lv' := [(2, .int (nI (k + 1))), (1, .int ((ySum σ (k)) + (σ 9 k))), (0, .ref (h 0))]) hx hb dX1_steps_19 hl (k := 1) rfl (tt_inc _) (by decide) rfl (fun ls hl => ?_)
        refine lv_goto (tgt := 4) hx hb dX1_steps_22 (by decide) ?_
        exact ih (k + 1) H locs ls (by omega) hrk hI (lv_sub hl [0, 1, 2] rfl)
  exact key4 96 0 _ _ _ (by omega) hrv.symm hI (lv_sub hl [0, 1, 2] rfl)
set_option maxHeartbeats 4000000 in
set_option maxRecDepth 100000 in
theorem metY_above (l : Launch) (σ : ttS) (a n : Nat) (hn : n < 24) (hp : ∀ j, j < 24 → 0 ≤ σ 2 j → vp_in (σ 2 j) 24) : MY l yX1_above cX1_above 5 (some .boolean) (rmL 0) [.int (nI a), .int (nI n)] σ (yAb σ a n) σ := by
  refine y_starti rfl rfl (fun h => Nat.le_of_ble_eq_true rfl) ?_
  intro p e s m args below meth c D h d A S hr hk hA hI ls hl
  have hx := S.1
  have hb := S.2.1
  have hl : lv_has ls 5 [(0, .ref (h 0)), (1, .int (nI a)), (2, .int (nI n))] := hl
  obtain ⟨rv, hrv⟩ : ∃ z, z = yAb σ a n := ⟨_, rfl⟩
  rw [← hrv]
  obtain ⟨sf, hsf⟩ : ∃ z, z = σ := ⟨_, rfl⟩
  rw [← hsf]
  refine lv_aload_n hx hb dX1_above_0 rfl (lv_at hl 0 rfl) ?_
  refine y_get_2 S hI dX1_above_1 ?_
  refine lv_iload_n hx hb dX1_above_4 rfl (lv_at hl 2 rfl) ?_
  refine y_aln_2 S hI (by omega) dX1_above_5 ?_
  refine lv_istore_n (lv' := [(3, .int (σ 2 n)), (0, .ref (h 0)), (1, .int (nI a)), (2, .int (nI n))]) hx hb dX1_above_6 rfl hl (by decide) rfl (fun ls hl => ?_)
  refine lv_iconst (v := 0) hx hb dX1_above_7 (by decide) ?_
  refine lv_istore (lv' := [(4, .int 0), (3, .int (σ 2 n)), (0, .ref (h 0)), (1, .int (nI a)), (2, .int (nI n))]) hx hb dX1_above_8 hl (by decide) rfl (fun ls hl => ?_)
  have key10 : ∀ (f : Nat) (i : Nat) (y : Int32) (H : Heap) (locs : List Loc) (ls : Array Slot), (i + f = 24) → (0 ≤ y → vp_in y 24) → (yUpP σ a f y = rv) → bY D A h d σ s H locs → lv_has ls 5 [(4, .int (nI i)), (3, .int y), (0, .ref (h 0)), (1, .int (nI a)), (2, .int (nI n))] → W p l e (rmL 0) s m args below meth c H locs 0 0 (yQi below D h d A args s rv sf) (F0 m 10 ls []) := by
    intro f
    induction f with
    | zero =>
      intro i y H locs ls hk2 hy hr2 hI hl
      obtain rfl : i = 24 := by omega
      refine lv_iload hx hb dX1_above_10 (lv_at hl 0 rfl) ?_
      refine lv_bipush (v := 24) hx hb dX1_above_12 (by decide) ?_
      refine lv_icmp_ge (tgt := 41) hx hb dX1_above_14 (by decide) (fun c_14 => ?_) (fun c_14 => ?_)
      · refine lv_iconst (v := 0) hx hb dX1_above_41 (by decide) ?_
        exact y_zret S hI hr hk rfl hr2 hsf.symm dX1_above_42
      · exact absurd (by decide) c_14
    | succ f ih =>
      intro i y H locs ls hk2 hy hr2 hI hl
      refine lv_iload hx hb dX1_above_10 (lv_at hl 0 rfl) ?_
      refine lv_bipush (v := 24) hx hb dX1_above_12 (by decide) ?_
      refine lv_icmp_ge (tgt := 41) hx hb dX1_above_14 (by decide) (fun c_14 => ?_) (fun c_14 => ?_)
      · exact absurd c_14 (nI_ge (b := 24) (by omega) (by decide))
      · refine lv_iload_n hx hb dX1_above_17 rfl (lv_at hl 1 rfl) ?_
        refine lv_if_lt (tgt := 41) hx hb dX1_above_18 (by decide) (fun c_18 => ?_) (fun c_18 => ?_)
        · refine lv_iconst (v := 0) hx hb dX1_above_41 (by decide) ?_
          exact y_zret S hI hr hk rfl (by rw [← hr2]; simp [yUpP, c_18]) hsf.symm dX1_above_42
        · refine lv_iload_n hx hb dX1_above_21 rfl (lv_at hl 1 rfl) ?_
          refine lv_iload_n hx hb dX1_above_22 rfl (lv_at hl 3 rfl) ?_
          refine lv_icmp_ne (tgt := 28) hx hb dX1_above_23 (by decide) (fun c_23 => ?_) (fun c_23 => ?_)
          · refine lv_aload_n hx hb dX1_above_28 rfl (lv_at hl 2 rfl) ?_
            refine y_get_2 S hI dX1_above_29 ?_
            refine lv_iload_n hx hb dX1_above_32 rfl (lv_at hl 1 rfl) ?_
            refine y_ald_2 S hI (hy (Int32.not_lt.mp c_18)) dX1_above_33 ?_
            refine lv_istore_n (lv' := [(3, .int (σ 2 y.toNatClampNeg)), (4, .int (nI i)), (0, .ref (h 0)), (1, .int (nI a)), (2, .int (nI n))]) hx hb dX1_above_34 rfl hl (by decide) rfl (fun ls hl => ?_)
            refine lv_iinc (v := nI (i + 1)) (lv' := [(4, .int (nI (i + 1))), (3, .int (σ 2 y.toNatClampNeg)), (0, .ref (h 0)), (1, .int (nI a)), (2, .int (nI n))]) hx hb dX1_above_35 hl (k := 1) rfl (tt_inc _) (by decide) rfl (fun ls hl => ?_)
            refine lv_goto (tgt := 10) hx hb dX1_above_38 (by decide) ?_
            exact ih (i + 1) (σ 2 y.toNatClampNeg) H locs ls (by omega) (hp _ (tt_ofin (hy (Int32.not_lt.mp c_18)) (by decide)).2) (by rw [← hr2, yUpP, if_neg c_18, if_neg c_23]) hI (lv_sub hl [0, 1, 2, 3, 4] rfl)
          · refine lv_iconst (v := 1) hx hb dX1_above_26 (by decide) ?_
            exact y_zret S hI hr hk rfl (by rw [← hr2, yUpP, if_neg c_18, if_pos c_23]) hsf.symm dX1_above_27
  exact key10 24 0 _ _ _ _ (by omega) (hp n hn) hrv.symm hI (lv_sub hl [0, 1, 2, 3, 4] rfl)
set_option maxHeartbeats 4000000 in
set_option maxRecDepth 100000 in
theorem metY_selected (l : Launch) (σ : ttS) (t : Nat) (tg : Int32) (ht : t < 24) {N : Nat} (hN : σ 0 0 = nI N) (h24 : N ≤ 24) (hp : ∀ j, j < 24 → 0 ≤ σ 2 j → vp_in (σ 2 j) 24) : MY l yX1_selected cX1_selected 4 (some .boolean) (rmL 1) [.int (nI t), .int tg] σ (ySel σ N t tg) σ := by
  refine y_starti rfl rfl (fun h => Nat.le_of_ble_eq_true rfl) ?_
  intro p e s m args below meth c D h d A S hr hk hA hI ls hl
  have hx := S.1
  have hb := S.2.1
  have hl : lv_has ls 4 [(0, .ref (h 0)), (1, .int (nI t)), (2, .int tg)] := hl
  obtain ⟨rv, hrv⟩ : ∃ z, z = ySel σ N t tg := ⟨_, rfl⟩
  rw [← hrv]
  obtain ⟨sf, hsf⟩ : ∃ z, z = σ := ⟨_, rfl⟩
  rw [← hsf]
  refine lv_aload_n hx hb dX1_selected_0 rfl (lv_at hl 0 rfl) ?_
  refine y_get_1 S hI dX1_selected_1 ?_
  refine lv_iload_n hx hb dX1_selected_4 rfl (lv_at hl 1 rfl) ?_
  refine y_aln_1 S hI (by omega) dX1_selected_5 ?_
  refine lv_if_eq (tgt := 29) hx hb dX1_selected_6 (by decide) (fun c_6 => ?_) (fun c_6 => ?_)
  · refine lv_iconst (v := 0) hx hb dX1_selected_29 (by decide) ?_
    exact y_zret S hI hr hk rfl (by rw [hrv, ySel, if_pos c_6]) hsf.symm dX1_selected_30
  · refine lv_aload_n hx hb dX1_selected_9 rfl (lv_at hl 0 rfl) ?_
    refine y_get_7 S hI dX1_selected_10 ?_
    refine lv_iload_n hx hb dX1_selected_13 rfl (lv_at hl 1 rfl) ?_
    refine y_aln_7 S hI (by omega) dX1_selected_14 ?_
    refine lv_iload_n hx hb dX1_selected_15 rfl (lv_at hl 2 rfl) ?_
    refine lv_iand hx hb dX1_selected_16 ?_
    refine lv_if_eq (tgt := 29) hx hb dX1_selected_17 (by decide) (fun c_17 => ?_) (fun c_17 => ?_)
    · refine lv_iconst (v := 0) hx hb dX1_selected_29 (by decide) ?_
      exact y_zret S hI hr hk rfl (by rw [hrv, ySel, if_neg c_6, if_pos c_17]) hsf.symm dX1_selected_30
    · refine lv_aload_n hx hb dX1_selected_20 rfl (lv_at hl 0 rfl) ?_
      refine y_get_3 S hI dX1_selected_21 ?_
      refine lv_iload_n hx hb dX1_selected_24 rfl (lv_at hl 1 rfl) ?_
      refine y_aln_3 S hI (by omega) dX1_selected_25 ?_
      refine lv_if_eq (tgt := 31) hx hb dX1_selected_26 (by decide) (fun c_26 => ?_) (fun c_26 => ?_)
      · refine lv_iconst (v := 0) hx hb dX1_selected_31 (by decide) ?_
        refine lv_istore_n (lv' := [(3, .int 0), (0, .ref (h 0)), (1, .int (nI t)), (2, .int tg)]) hx hb dX1_selected_32 rfl hl (by decide) rfl (fun ls hl => ?_)
        have key33 : ∀ (f : Nat) (k : Nat) (H : Heap) (locs : List Loc) (ls : Array Slot), (k + f = N) → (ySelL σ t f k = rv) → bY D A h d σ s H locs → lv_has ls 4 [(3, .int (nI k)), (0, .ref (h 0)), (1, .int (nI t)), (2, .int tg)] → W p l e (rmL 1) s m args below meth c H locs 0 0 (yQi below D h d A args s rv sf) (F0 m 33 ls []) := by
          intro f
          induction f with
          | zero =>
            intro k H locs ls hk2 hr2 hI hl
            obtain rfl : k = N := by omega
            refine lv_iload_n hx hb dX1_selected_33 rfl (lv_at hl 0 rfl) ?_
            refine lv_aload_n hx hb dX1_selected_34 rfl (lv_at hl 1 rfl) ?_
            refine y_get_0 S hI dX1_selected_35 ?_
            refine lv_icmp_ge (tgt := 67) hx hb dX1_selected_38 (by decide) (fun c_38 => ?_) (fun c_38 => ?_)
            · refine lv_iconst (v := 1) hx hb dX1_selected_67 (by decide) ?_
              exact y_zret S hI hr hk rfl hr2 hsf.symm dX1_selected_68
            · exact absurd (by rw [hN]; exact nI_le (Nat.le_refl k) (by omega)) c_38
          | succ f ih =>
            intro k H locs ls hk2 hr2 hI hl
            refine lv_iload_n hx hb dX1_selected_33 rfl (lv_at hl 0 rfl) ?_
            refine lv_aload_n hx hb dX1_selected_34 rfl (lv_at hl 1 rfl) ?_
            refine y_get_0 S hI dX1_selected_35 ?_
            refine lv_icmp_ge (tgt := 67) hx hb dX1_selected_38 (by decide) (fun c_38 => ?_) (fun c_38 => ?_)
            · exact absurd c_38 (by rw [hN]; exact nI_ge (by omega) (by omega))
            · refine lv_aload_n hx hb dX1_selected_41 rfl (lv_at hl 1 rfl) ?_
              refine y_get_3 S hI dX1_selected_42 ?_
              refine lv_iload_n hx hb dX1_selected_45 rfl (lv_at hl 0 rfl) ?_
              refine y_aln_3 S hI (by omega) dX1_selected_46 ?_
              refine lv_if_eq (tgt := 61) hx hb dX1_selected_47 (by decide) (fun c_47 => ?_) (fun c_47 => ?_)
              · refine lv_iinc (v := nI (k + 1)) (lv' := [(3, .int (nI (k + 1))), (0, .ref (h 0)), (1, .int (nI t)), (2, .int tg)]) hx hb dX1_selected_61 hl (k := 0) rfl (tt_inc _) (by decide) rfl (fun ls hl => ?_)
                refine lv_goto (tgt := 33) hx hb dX1_selected_64 (by decide) ?_
                exact ih (k + 1) H locs ls (by omega) (by rw [← hr2, ySelL, if_pos c_47]) hI (lv_sub hl [0, 1, 2, 3] rfl)
              · refine lv_aload_n hx hb dX1_selected_50 rfl (lv_at hl 1 rfl) ?_
                refine lv_iload_n hx hb dX1_selected_51 rfl (lv_at hl 0 rfl) ?_
                refine lv_iload_n hx hb dX1_selected_52 rfl (lv_at hl 2 rfl) ?_
                refine y_calli (n := 2) S hI hA [.int (nI k), .int (nI t)] (metY_above l _ k t ht hp) (lw_V q293 q295 qs19 q28 q296) rfl rfl (by decide +kernel) ⟨by decide, by decide⟩ rfl hl.1 rfl (Nat.le_of_ble_eq_true rfl) dX1_selected_53 ⟨by decide, by decide⟩ (fun H locs hI => ?_)
                refine lv_if_eq (tgt := 61) hx hb dX1_selected_56 (by decide) (fun c_56 => ?_) (fun c_56 => ?_)
                · refine lv_iinc (v := nI (k + 1)) (lv' := [(3, .int (nI (k + 1))), (0, .ref (h 0)), (1, .int (nI t)), (2, .int tg)]) hx hb dX1_selected_61 hl (k := 0) rfl (tt_inc _) (by decide) rfl (fun ls hl => ?_)
                  refine lv_goto (tgt := 33) hx hb dX1_selected_64 (by decide) ?_
                  exact ih (k + 1) H locs ls (by omega) (by rw [← hr2, ySelL, if_neg c_47, if_pos c_56]) hI (lv_sub hl [0, 1, 2, 3] rfl)
                · refine lv_iconst (v := 0) hx hb dX1_selected_59 (by decide) ?_
                  exact y_zret S hI hr hk rfl (by rw [← hr2, ySelL, if_neg c_47, if_neg c_56]) hsf.symm dX1_selected_60
        exact key33 N 0 _ _ _ (by omega) (by rw [hrv, ySel, if_neg c_6, if_neg c_17, if_pos c_26]) hI (lv_sub hl [0, 1, 2, 3] rfl)
      · refine lv_iconst (v := 0) hx hb dX1_selected_29 (by decide) ?_
        exact y_zret S hI hr hk rfl (by rw [hrv, ySel, if_neg c_6, if_neg c_17, if_neg c_26]) hsf.symm dX1_selected_30
set_option maxHeartbeats 4000000 in
set_option maxRecDepth 100000 in
theorem metY_passes (l : Launch) (σ : ttS) (n w : Nat) (hn : n < 24) (hw : w < 4) {N : Nat} (hN : σ 0 0 = nI N) (h24 : N ≤ 24) (hp : ∀ j, j < 24 → 0 ≤ σ 2 j → vp_in (σ 2 j) 24) : MY l yX1_passes cX1_passes 4 (some .boolean) (rmL 1) [.int (nI n), .int (nI w)] σ (yPas σ N n w) σ := by
  refine y_starti rfl rfl (fun h => Nat.le_of_ble_eq_true rfl) ?_
  intro p e s m args below meth c D h d A S hr hk hA hI ls hl
  have hx := S.1
  have hb := S.2.1
  have hl : lv_has ls 4 [(0, .ref (h 0)), (1, .int (nI n)), (2, .int (nI w))] := hl
  obtain ⟨rv, hrv⟩ : ∃ z, z = yPas σ N n w := ⟨_, rfl⟩
  rw [← hrv]
  obtain ⟨sf, hsf⟩ : ∃ z, z = σ := ⟨_, rfl⟩
  rw [← hsf]
  refine lv_iconst (v := 0) hx hb dX1_passes_0 (by decide) ?_
  refine lv_istore_n (lv' := [(3, .int 0), (0, .ref (h 0)), (1, .int (nI n)), (2, .int (nI w))]) hx hb dX1_passes_1 rfl hl (by decide) rfl (fun ls hl => ?_)
  have key2 : ∀ (f : Nat) (k : Nat) (H : Heap) (locs : List Loc) (ls : Array Slot), (k + f = N) → (yPasL σ n w f k = rv) → bY D A h d σ s H locs → lv_has ls 4 [(3, .int (nI k)), (0, .ref (h 0)), (1, .int (nI n)), (2, .int (nI w))] → W p l e (rmL 1) s m args below meth c H locs 0 0 (yQi below D h d A args s rv sf) (F0 m 2 ls []) := by
    intro f
    induction f with
    | zero =>
      intro k H locs ls hk2 hr2 hI hl
      obtain rfl : k = N := by omega
      refine lv_iload_n hx hb dX1_passes_2 rfl (lv_at hl 0 rfl) ?_
      refine lv_aload_n hx hb dX1_passes_3 rfl (lv_at hl 1 rfl) ?_
      refine y_get_0 S hI dX1_passes_4 ?_
      refine lv_icmp_ge (tgt := 41) hx hb dX1_passes_7 (by decide) (fun c_7 => ?_) (fun c_7 => ?_)
      · refine lv_iconst (v := 1) hx hb dX1_passes_41 (by decide) ?_
        exact y_zret S hI hr hk rfl hr2 hsf.symm dX1_passes_42
      · exact absurd (by rw [hN]; exact nI_le (Nat.le_refl k) (by omega)) c_7
    | succ f ih =>
      intro k H locs ls hk2 hr2 hI hl
      refine lv_iload_n hx hb dX1_passes_2 rfl (lv_at hl 0 rfl) ?_
      refine lv_aload_n hx hb dX1_passes_3 rfl (lv_at hl 1 rfl) ?_
      refine y_get_0 S hI dX1_passes_4 ?_
      refine lv_icmp_ge (tgt := 41) hx hb dX1_passes_7 (by decide) (fun c_7 => ?_) (fun c_7 => ?_)
      · exact absurd c_7 (by rw [hN]; exact nI_ge (by omega) (by omega))
      · refine lv_aload_n hx hb dX1_passes_10 rfl (lv_at hl 1 rfl) ?_
        refine lv_iload_n hx hb dX1_passes_11 rfl (lv_at hl 0 rfl) ?_
        refine lv_iload_n hx hb dX1_passes_12 rfl (lv_at hl 2 rfl) ?_
        refine y_calli (n := 2) S hI hA [.int (nI k), .int (nI n)] (metY_above l _ k n hn hp) (lw_V q293 q295 qs19 q28 q296) rfl rfl (by decide +kernel) ⟨by decide, by decide⟩ rfl hl.1 rfl (Nat.le_of_ble_eq_true rfl) dX1_passes_13 ⟨by decide, by decide⟩ (fun H locs hI => ?_)
        refine lv_if_eq (tgt := 35) hx hb dX1_passes_16 (by decide) (fun c_16 => ?_) (fun c_16 => ?_)
        · refine lv_iinc (v := nI (k + 1)) (lv' := [(3, .int (nI (k + 1))), (0, .ref (h 0)), (1, .int (nI n)), (2, .int (nI w))]) hx hb dX1_passes_35 hl (k := 0) rfl (tt_inc _) (by decide) rfl (fun ls hl => ?_)
          refine lv_goto (tgt := 2) hx hb dX1_passes_38 (by decide) ?_
          exact ih (k + 1) H locs ls (by omega) (by rw [← hr2, yPasL, if_pos c_16]) hI (lv_sub hl [0, 1, 2, 3] rfl)
        · refine lv_aload_n hx hb dX1_passes_19 rfl (lv_at hl 1 rfl) ?_
          refine y_get_4 S hI dX1_passes_20 ?_
          refine lv_iload_n hx hb dX1_passes_23 rfl (lv_at hl 0 rfl) ?_
          refine lv_iconst (v := 4) hx hb dX1_passes_24 (by decide) ?_
          refine lv_imul hx hb dX1_passes_25 ?_
          refine tt_top (nI (k * 4)) (tt_mul4 _) ?_
          refine lv_iload_n hx hb dX1_passes_26 rfl (lv_at hl 3 rfl) ?_
          refine lv_iadd hx hb dX1_passes_27 ?_
          refine tt_top (nI (k * 4 + w)) (nI_add _ _) ?_
          refine y_aln_4 S hI (by omega) dX1_passes_28 ?_
          refine lv_iconst (v := 1) hx hb dX1_passes_29 (by decide) ?_
          refine lv_icmp_le (tgt := 35) hx hb dX1_passes_30 (by decide) (fun c_30 => ?_) (fun c_30 => ?_)
          · refine lv_iinc (v := nI (k + 1)) (lv' := [(3, .int (nI (k + 1))), (0, .ref (h 0)), (1, .int (nI n)), (2, .int (nI w))]) hx hb dX1_passes_35 hl (k := 0) rfl (tt_inc _) (by decide) rfl (fun ls hl => ?_)
            refine lv_goto (tgt := 2) hx hb dX1_passes_38 (by decide) ?_
            exact ih (k + 1) H locs ls (by omega) (by rw [← hr2, yPasL, if_neg c_16, if_pos c_30]) hI (lv_sub hl [0, 1, 2, 3] rfl)
          · refine lv_iconst (v := 0) hx hb dX1_passes_33 (by decide) ?_
            exact y_zret S hI hr hk rfl (by rw [← hr2, yPasL, if_neg c_16, if_neg c_30]) hsf.symm dX1_passes_34
  exact key2 N 0 _ _ _ (by omega) hrv.symm hI (lv_sub hl [0, 1, 2, 3] rfl)
set_option maxHeartbeats 4000000 in
set_option maxRecDepth 100000 in
theorem metY_inUse (l : Launch) (σ : ttS) (a : Nat) (tg : Int32) {N : Nat} (hN : σ 0 0 = nI N) (h24 : N ≤ 24) (hp : ∀ j, j < 24 → 0 ≤ σ 2 j → vp_in (σ 2 j) 24) : MY l yX1_inUse cX1_inUse 4 (some .boolean) (rmL 2) [.int (nI a), .int tg] σ (yUse σ N a tg) σ := by
  refine y_starti rfl rfl (fun h => Nat.le_of_ble_eq_true rfl) ?_
  intro p e s m args below meth c D h d A S hr hk hA hI ls hl
  have hx := S.1
  have hb := S.2.1
  have hl : lv_has ls 4 [(0, .ref (h 0)), (1, .int (nI a)), (2, .int tg)] := hl
  obtain ⟨rv, hrv⟩ : ∃ z, z = yUse σ N a tg := ⟨_, rfl⟩
  rw [← hrv]
  obtain ⟨sf, hsf⟩ : ∃ z, z = σ := ⟨_, rfl⟩
  rw [← hsf]
  refine lv_iconst (v := 0) hx hb dX1_inUse_0 (by decide) ?_
  refine lv_istore_n (lv' := [(3, .int 0), (0, .ref (h 0)), (1, .int (nI a)), (2, .int tg)]) hx hb dX1_inUse_1 rfl hl (by decide) rfl (fun ls hl => ?_)
  have key2 : ∀ (f : Nat) (k : Nat) (H : Heap) (locs : List Loc) (ls : Array Slot), (k + f = N) → (yUseL σ N a tg f k = rv) → bY D A h d σ s H locs → lv_has ls 4 [(3, .int (nI k)), (0, .ref (h 0)), (1, .int (nI a)), (2, .int tg)] → W p l e (rmL 2) s m args below meth c H locs 0 0 (yQi below D h d A args s rv sf) (F0 m 2 ls []) := by
    intro f
    induction f with
    | zero =>
      intro k H locs ls hk2 hr2 hI hl
      obtain rfl : k = N := by omega
      refine lv_iload_n hx hb dX1_inUse_2 rfl (lv_at hl 0 rfl) ?_
      refine lv_aload_n hx hb dX1_inUse_3 rfl (lv_at hl 1 rfl) ?_
      refine y_get_0 S hI dX1_inUse_4 ?_
      refine lv_icmp_ge (tgt := 36) hx hb dX1_inUse_7 (by decide) (fun c_7 => ?_) (fun c_7 => ?_)
      · refine lv_iconst (v := 0) hx hb dX1_inUse_36 (by decide) ?_
        exact y_zret S hI hr hk rfl hr2 hsf.symm dX1_inUse_37
      · exact absurd (by rw [hN]; exact nI_le (Nat.le_refl k) (by omega)) c_7
    | succ f ih =>
      intro k H locs ls hk2 hr2 hI hl
      refine lv_iload_n hx hb dX1_inUse_2 rfl (lv_at hl 0 rfl) ?_
      refine lv_aload_n hx hb dX1_inUse_3 rfl (lv_at hl 1 rfl) ?_
      refine y_get_0 S hI dX1_inUse_4 ?_
      refine lv_icmp_ge (tgt := 36) hx hb dX1_inUse_7 (by decide) (fun c_7 => ?_) (fun c_7 => ?_)
      · exact absurd c_7 (by rw [hN]; exact nI_ge (by omega) (by omega))
      · refine lv_aload_n hx hb dX1_inUse_10 rfl (lv_at hl 1 rfl) ?_
        refine lv_iload_n hx hb dX1_inUse_11 rfl (lv_at hl 2 rfl) ?_
        refine lv_iload_n hx hb dX1_inUse_12 rfl (lv_at hl 0 rfl) ?_
        refine y_calli (n := 2) S hI hA [.int (nI a), .int (nI k)] (metY_above l _ a k (by omega) hp) (lw_V q293 q295 qs19 q28 q296) rfl rfl (by decide +kernel) ⟨by decide, by decide⟩ rfl hl.1 rfl (Nat.le_of_ble_eq_true rfl) dX1_inUse_13 ⟨by decide, by decide⟩ (fun H locs hI => ?_)
        refine lv_if_eq (tgt := 30) hx hb dX1_inUse_16 (by decide) (fun c_16 => ?_) (fun c_16 => ?_)
        · refine lv_iinc (v := nI (k + 1)) (lv' := [(3, .int (nI (k + 1))), (0, .ref (h 0)), (1, .int (nI a)), (2, .int tg)]) hx hb dX1_inUse_30 hl (k := 0) rfl (tt_inc _) (by decide) rfl (fun ls hl => ?_)
          refine lv_goto (tgt := 2) hx hb dX1_inUse_33 (by decide) ?_
          exact ih (k + 1) H locs ls (by omega) (by rw [← hr2, yUseL, if_pos c_16]) hI (lv_sub hl [0, 1, 2, 3] rfl)
        · refine lv_aload_n hx hb dX1_inUse_19 rfl (lv_at hl 1 rfl) ?_
          refine lv_iload_n hx hb dX1_inUse_20 rfl (lv_at hl 0 rfl) ?_
          refine lv_iload_n hx hb dX1_inUse_21 rfl (lv_at hl 3 rfl) ?_
          refine y_calli (n := 2) S hI hA [.int (nI k), .int tg] (metY_selected l _ k tg (by omega) hN h24 hp) (lw_V q297 q299 qs20 q28 q300) rfl rfl (by decide +kernel) ⟨by decide, by decide⟩ rfl hl.1 rfl (Nat.le_of_ble_eq_true rfl) dX1_inUse_22 ⟨by decide, by decide⟩ (fun H locs hI => ?_)
          refine lv_if_eq (tgt := 30) hx hb dX1_inUse_25 (by decide) (fun c_25 => ?_) (fun c_25 => ?_)
          · refine lv_iinc (v := nI (k + 1)) (lv' := [(3, .int (nI (k + 1))), (0, .ref (h 0)), (1, .int (nI a)), (2, .int tg)]) hx hb dX1_inUse_30 hl (k := 0) rfl (tt_inc _) (by decide) rfl (fun ls hl => ?_)
            refine lv_goto (tgt := 2) hx hb dX1_inUse_33 (by decide) ?_
            exact ih (k + 1) H locs ls (by omega) (by rw [← hr2, yUseL, if_neg c_16, if_pos c_25]) hI (lv_sub hl [0, 1, 2, 3] rfl)
          · refine lv_iconst (v := 1) hx hb dX1_inUse_28 (by decide) ?_
            exact y_zret S hI hr hk rfl (by rw [← hr2, yUseL, if_neg c_16, if_neg c_25]) hsf.symm dX1_inUse_29
  exact key2 N 0 _ _ _ (by omega) hrv.symm hI (lv_sub hl [0, 1, 2, 3] rfl)
set_option maxHeartbeats 4000000 in
set_option maxRecDepth 100000 in
theorem metY_runContainer (l : Launch) (σ : ttS) (a : Nat) (ha : a < 24) : MYv l yX1_runContainer cX1_runContainer 4 (rmL 0) [.int (nI a)] σ (yRC σ a) := by
  refine y_startv rfl rfl (fun h => Nat.le_of_ble_eq_true rfl) ?_
  intro p e s m args below meth c D h d A S hr hk hA hI ls hl
  have hx := S.1
  have hb := S.2.1
  have hl : lv_has ls 4 [(0, .ref (h 0)), (1, .int (nI a))] := hl
  obtain ⟨sf, hsf⟩ : ∃ z, z = yRC σ a := ⟨_, rfl⟩
  rw [← hsf]
  refine lv_aload_n hx hb dX1_runContainer_0 rfl (lv_at hl 0 rfl) ?_
  refine y_get_4 S hI dX1_runContainer_1 ?_
  refine lv_iload_n hx hb dX1_runContainer_4 rfl (lv_at hl 1 rfl) ?_
  refine lv_iconst (v := 4) hx hb dX1_runContainer_5 (by decide) ?_
  refine lv_imul hx hb dX1_runContainer_6 ?_
  refine tt_top (nI (a * 4)) (tt_mul4 _) ?_
  refine y_aln_4 S hI (by omega) dX1_runContainer_7 ?_
  refine lv_istore_n (lv' := [(2, .int (σ 4 (a * 4))), (0, .ref (h 0)), (1, .int (nI a))]) hx hb dX1_runContainer_8 rfl hl (by decide) rfl (fun ls hl => ?_)
  refine lv_aload_n hx hb dX1_runContainer_9 rfl (lv_at hl 1 rfl) ?_
  refine y_get_4 S hI dX1_runContainer_10 ?_
  refine lv_iload_n hx hb dX1_runContainer_13 rfl (lv_at hl 2 rfl) ?_
  refine lv_iconst (v := 4) hx hb dX1_runContainer_14 (by decide) ?_
  refine lv_imul hx hb dX1_runContainer_15 ?_
  refine tt_top (nI (a * 4)) (tt_mul4 _) ?_
  refine lv_iconst (v := 1) hx hb dX1_runContainer_16 (by decide) ?_
  refine lv_iadd hx hb dX1_runContainer_17 ?_
  refine tt_top (nI (a * 4 + 1)) (tt_add1 _) ?_
  refine y_aln_4 S hI (by omega) dX1_runContainer_18 ?_
  refine lv_istore_n (lv' := [(3, .int (σ 4 (a * 4 + 1))), (2, .int (σ 4 (a * 4))), (0, .ref (h 0)), (1, .int (nI a))]) hx hb dX1_runContainer_19 rfl hl (by decide) rfl (fun ls hl => ?_)
  refine lv_aload_n hx hb dX1_runContainer_20 rfl (lv_at hl 2 rfl) ?_
  refine y_get_9 S hI dX1_runContainer_21 ?_
  refine lv_iload_n hx hb dX1_runContainer_24 rfl (lv_at hl 3 rfl) ?_
  refine lv_iconst (v := 4) hx hb dX1_runContainer_25 (by decide) ?_
  refine lv_imul hx hb dX1_runContainer_26 ?_
  refine tt_top (nI (a * 4)) (tt_mul4 _) ?_
  refine lv_iload_n hx hb dX1_runContainer_27 rfl (lv_at hl 1 rfl) ?_
  refine lv_if_ne (tgt := 35) hx hb dX1_runContainer_28 (by decide) (fun c_28 => ?_) (fun c_28 => ?_)
  · refine lv_iconst (v := 1) hx hb dX1_runContainer_35 (by decide) ?_
    refine y_asn_9 S hI (by omega) dX1_runContainer_36 (fun H locs hI => ?_)
    refine lv_aload_n hx hb dX1_runContainer_37 rfl (lv_at hl 2 rfl) ?_
    refine y_get_9 S hI dX1_runContainer_38 ?_
    refine lv_iload_n hx hb dX1_runContainer_41 rfl (lv_at hl 3 rfl) ?_
    refine lv_iconst (v := 4) hx hb dX1_runContainer_42 (by decide) ?_
    refine lv_imul hx hb dX1_runContainer_43 ?_
    refine tt_top (nI (a * 4)) (tt_mul4 _) ?_
    refine lv_iconst (v := 1) hx hb dX1_runContainer_44 (by decide) ?_
    refine lv_iadd hx hb dX1_runContainer_45 ?_
    refine tt_top (nI (a * 4 + 1)) (tt_add1 _) ?_
    refine lv_iload_n hx hb dX1_runContainer_46 rfl (lv_at hl 0 rfl) ?_
    refine lv_if_ne (tgt := 54) hx hb dX1_runContainer_47 (by decide) (fun c_47 => ?_) (fun c_47 => ?_)
    · refine lv_iconst (v := 1) hx hb dX1_runContainer_54 (by decide) ?_
      refine y_asn_9 S hI (by omega) dX1_runContainer_55 (fun H locs hI => ?_)
      refine lv_aload_n hx hb dX1_runContainer_56 rfl (lv_at hl 2 rfl) ?_
      refine y_get_8 S hI dX1_runContainer_57 ?_
      refine lv_iload_n hx hb dX1_runContainer_60 rfl (lv_at hl 3 rfl) ?_
      refine lv_iconst (v := 1) hx hb dX1_runContainer_61 (by decide) ?_
      refine y_asn_8 S hI (by omega) dX1_runContainer_62 (fun H locs hI => ?_)
      refine lv_iload_n hx hb dX1_runContainer_63 rfl (lv_at hl 1 rfl) ?_
      refine lv_iconst (v := 3) hx hb dX1_runContainer_64 (by decide) ?_
      refine lv_icmp_eq (tgt := 73) hx hb dX1_runContainer_65 (by decide) (fun c_65 => ?_) (fun c_65 => ?_)
      · refine lv_aload_n hx hb dX1_runContainer_73 rfl (lv_at hl 2 rfl) ?_
        refine y_get_8 S hI dX1_runContainer_74 ?_
        refine lv_iload_n hx hb dX1_runContainer_77 rfl (lv_at hl 3 rfl) ?_
        refine lv_iconst (v := 3) hx hb dX1_runContainer_78 (by decide) ?_
        refine y_asn_8 S hI (by omega) dX1_runContainer_79 (fun H locs hI => ?_)
        refine lv_iload_n hx hb dX1_runContainer_80 rfl (lv_at hl 1 rfl) ?_
        refine lv_iconst (v := 2) hx hb dX1_runContainer_81 (by decide) ?_
        refine lv_icmp_eq (tgt := 90) hx hb dX1_runContainer_82 (by decide) (fun c_82 => ?_) (fun c_82 => ?_)
        · refine lv_aload_n hx hb dX1_runContainer_90 rfl (lv_at hl 2 rfl) ?_
          refine y_get_8 S hI dX1_runContainer_91 ?_
          refine lv_iload_n hx hb dX1_runContainer_94 rfl (lv_at hl 3 rfl) ?_
          refine lv_iconst (v := 2) hx hb dX1_runContainer_95 (by decide) ?_
          refine y_asn_8 S hI (by omega) dX1_runContainer_96 (fun H locs hI => ?_)
          exact y_vret S hI hr hk (by rw [hsf, yRC, yRC3, yRC2, yRC1, if_neg c_28, if_neg c_47, if_pos c_65, if_pos c_82]) dX1_runContainer_97
        · refine lv_iload_n hx hb dX1_runContainer_85 rfl (lv_at hl 0 rfl) ?_
          refine lv_iconst (v := 2) hx hb dX1_runContainer_86 (by decide) ?_
          refine lv_icmp_ne (tgt := 97) hx hb dX1_runContainer_87 (by decide) (fun c_87 => ?_) (fun c_87 => ?_)
          · exact y_vret S hI hr hk (by rw [hsf, yRC, yRC3, yRC2, yRC1, if_neg c_28, if_neg c_47, if_pos c_65, if_neg c_82, if_neg c_87]) dX1_runContainer_97
          · refine lv_aload_n hx hb dX1_runContainer_90 rfl (lv_at hl 2 rfl) ?_
            refine y_get_8 S hI dX1_runContainer_91 ?_
            refine lv_iload_n hx hb dX1_runContainer_94 rfl (lv_at hl 3 rfl) ?_
            refine lv_iconst (v := 2) hx hb dX1_runContainer_95 (by decide) ?_
            refine y_asn_8 S hI (by omega) dX1_runContainer_96 (fun H locs hI => ?_)
            exact y_vret S hI hr hk (by rw [hsf, yRC, yRC3, yRC2, yRC1, if_neg c_28, if_neg c_47, if_pos c_65, if_neg c_82, if_pos c_87]) dX1_runContainer_97
      · refine lv_iload_n hx hb dX1_runContainer_68 rfl (lv_at hl 0 rfl) ?_
        refine lv_iconst (v := 3) hx hb dX1_runContainer_69 (by decide) ?_
        refine lv_icmp_ne (tgt := 80) hx hb dX1_runContainer_70 (by decide) (fun c_70 => ?_) (fun c_70 => ?_)
        · refine lv_iload_n hx hb dX1_runContainer_80 rfl (lv_at hl 1 rfl) ?_
          refine lv_iconst (v := 2) hx hb dX1_runContainer_81 (by decide) ?_
          refine lv_icmp_eq (tgt := 90) hx hb dX1_runContainer_82 (by decide) (fun c_82 => ?_) (fun c_82 => ?_)
          · refine lv_aload_n hx hb dX1_runContainer_90 rfl (lv_at hl 2 rfl) ?_
            refine y_get_8 S hI dX1_runContainer_91 ?_
            refine lv_iload_n hx hb dX1_runContainer_94 rfl (lv_at hl 3 rfl) ?_
            refine lv_iconst (v := 2) hx hb dX1_runContainer_95 (by decide) ?_
            refine y_asn_8 S hI (by omega) dX1_runContainer_96 (fun H locs hI => ?_)
            exact y_vret S hI hr hk (by rw [hsf, yRC, yRC3, yRC2, yRC1, if_neg c_28, if_neg c_47, if_neg c_65, if_neg c_70, if_pos c_82]) dX1_runContainer_97
          · refine lv_iload_n hx hb dX1_runContainer_85 rfl (lv_at hl 0 rfl) ?_
            refine lv_iconst (v := 2) hx hb dX1_runContainer_86 (by decide) ?_
            refine lv_icmp_ne (tgt := 97) hx hb dX1_runContainer_87 (by decide) (fun c_87 => ?_) (fun c_87 => ?_)
            · exact y_vret S hI hr hk (by rw [hsf, yRC, yRC3, yRC2, yRC1, if_neg c_28, if_neg c_47, if_neg c_65, if_neg c_70, if_neg c_82, if_neg c_87]) dX1_runContainer_97
            · refine lv_aload_n hx hb dX1_runContainer_90 rfl (lv_at hl 2 rfl) ?_
              refine y_get_8 S hI dX1_runContainer_91 ?_
              refine lv_iload_n hx hb dX1_runContainer_94 rfl (lv_at hl 3 rfl) ?_
              refine lv_iconst (v := 2) hx hb dX1_runContainer_95 (by decide) ?_
              refine y_asn_8 S hI (by omega) dX1_runContainer_96 (fun H locs hI => ?_)
              exact y_vret S hI hr hk (by rw [hsf, yRC, yRC3, yRC2, yRC1, if_neg c_28, if_neg c_47, if_neg c_65, if_neg c_70, if_neg c_82, if_pos c_87]) dX1_runContainer_97
        · refine lv_aload_n hx hb dX1_runContainer_73 rfl (lv_at hl 2 rfl) ?_
          refine y_get_8 S hI dX1_runContainer_74 ?_
          refine lv_iload_n hx hb dX1_runContainer_77 rfl (lv_at hl 3 rfl) ?_
          refine lv_iconst (v := 3) hx hb dX1_runContainer_78 (by decide) ?_
          refine y_asn_8 S hI (by omega) dX1_runContainer_79 (fun H locs hI => ?_)
          refine lv_iload_n hx hb dX1_runContainer_80 rfl (lv_at hl 1 rfl) ?_
          refine lv_iconst (v := 2) hx hb dX1_runContainer_81 (by decide) ?_
          refine lv_icmp_eq (tgt := 90) hx hb dX1_runContainer_82 (by decide) (fun c_82 => ?_) (fun c_82 => ?_)
          · refine lv_aload_n hx hb dX1_runContainer_90 rfl (lv_at hl 2 rfl) ?_
            refine y_get_8 S hI dX1_runContainer_91 ?_
            refine lv_iload_n hx hb dX1_runContainer_94 rfl (lv_at hl 3 rfl) ?_
            refine lv_iconst (v := 2) hx hb dX1_runContainer_95 (by decide) ?_
            refine y_asn_8 S hI (by omega) dX1_runContainer_96 (fun H locs hI => ?_)
            exact y_vret S hI hr hk (by rw [hsf, yRC, yRC3, yRC2, yRC1, if_neg c_28, if_neg c_47, if_neg c_65, if_pos c_70, if_pos c_82]) dX1_runContainer_97
          · refine lv_iload_n hx hb dX1_runContainer_85 rfl (lv_at hl 0 rfl) ?_
            refine lv_iconst (v := 2) hx hb dX1_runContainer_86 (by decide) ?_
            refine lv_icmp_ne (tgt := 97) hx hb dX1_runContainer_87 (by decide) (fun c_87 => ?_) (fun c_87 => ?_)
            · exact y_vret S hI hr hk (by rw [hsf, yRC, yRC3, yRC2, yRC1, if_neg c_28, if_neg c_47, if_neg c_65, if_pos c_70, if_neg c_82, if_neg c_87]) dX1_runContainer_97
            · refine lv_aload_n hx hb dX1_runContainer_90 rfl (lv_at hl 2 rfl) ?_
              refine y_get_8 S hI dX1_runContainer_91 ?_
              refine lv_iload_n hx hb dX1_runContainer_94 rfl (lv_at hl 3 rfl) ?_
              refine lv_iconst (v := 2) hx hb dX1_runContainer_95 (by decide) ?_
              refine y_asn_8 S hI (by omega) dX1_runContainer_96 (fun H locs hI => ?_)
              exact y_vret S hI hr hk (by rw [hsf, yRC, yRC3, yRC2, yRC1, if_neg c_28, if_neg c_47, if_neg c_65, if_pos c_70, if_neg c_82, if_pos c_87]) dX1_runContainer_97
    · refine lv_iconst (v := 0) hx hb dX1_runContainer_50 (by decide) ?_
      refine lv_goto (tgt := 55) hx hb dX1_runContainer_51 (by decide) ?_
      refine y_asn_9 S hI (by omega) dX1_runContainer_55 (fun H locs hI => ?_)
      refine lv_aload_n hx hb dX1_runContainer_56 rfl (lv_at hl 2 rfl) ?_
      refine y_get_8 S hI dX1_runContainer_57 ?_
      refine lv_iload_n hx hb dX1_runContainer_60 rfl (lv_at hl 3 rfl) ?_
      refine lv_iconst (v := 1) hx hb dX1_runContainer_61 (by decide) ?_
      refine y_asn_8 S hI (by omega) dX1_runContainer_62 (fun H locs hI => ?_)
      refine lv_iload_n hx hb dX1_runContainer_63 rfl (lv_at hl 1 rfl) ?_
      refine lv_iconst (v := 3) hx hb dX1_runContainer_64 (by decide) ?_
      refine lv_icmp_eq (tgt := 73) hx hb dX1_runContainer_65 (by decide) (fun c_65 => ?_) (fun c_65 => ?_)
      · refine lv_aload_n hx hb dX1_runContainer_73 rfl (lv_at hl 2 rfl) ?_
        refine y_get_8 S hI dX1_runContainer_74 ?_
        refine lv_iload_n hx hb dX1_runContainer_77 rfl (lv_at hl 3 rfl) ?_
        refine lv_iconst (v := 3) hx hb dX1_runContainer_78 (by decide) ?_
        refine y_asn_8 S hI (by omega) dX1_runContainer_79 (fun H locs hI => ?_)
        refine lv_iload_n hx hb dX1_runContainer_80 rfl (lv_at hl 1 rfl) ?_
        refine lv_iconst (v := 2) hx hb dX1_runContainer_81 (by decide) ?_
        refine lv_icmp_eq (tgt := 90) hx hb dX1_runContainer_82 (by decide) (fun c_82 => ?_) (fun c_82 => ?_)
        · refine lv_aload_n hx hb dX1_runContainer_90 rfl (lv_at hl 2 rfl) ?_
          refine y_get_8 S hI dX1_runContainer_91 ?_
          refine lv_iload_n hx hb dX1_runContainer_94 rfl (lv_at hl 3 rfl) ?_
          refine lv_iconst (v := 2) hx hb dX1_runContainer_95 (by decide) ?_
          refine y_asn_8 S hI (by omega) dX1_runContainer_96 (fun H locs hI => ?_)
          exact y_vret S hI hr hk (by rw [hsf, yRC, yRC3, yRC2, yRC1, if_neg c_28, if_pos c_47, if_pos c_65, if_pos c_82]) dX1_runContainer_97
        · refine lv_iload_n hx hb dX1_runContainer_85 rfl (lv_at hl 0 rfl) ?_
          refine lv_iconst (v := 2) hx hb dX1_runContainer_86 (by decide) ?_
          refine lv_icmp_ne (tgt := 97) hx hb dX1_runContainer_87 (by decide) (fun c_87 => ?_) (fun c_87 => ?_)
          · exact y_vret S hI hr hk (by rw [hsf, yRC, yRC3, yRC2, yRC1, if_neg c_28, if_pos c_47, if_pos c_65, if_neg c_82, if_neg c_87]) dX1_runContainer_97
          · refine lv_aload_n hx hb dX1_runContainer_90 rfl (lv_at hl 2 rfl) ?_
            refine y_get_8 S hI dX1_runContainer_91 ?_
            refine lv_iload_n hx hb dX1_runContainer_94 rfl (lv_at hl 3 rfl) ?_
            refine lv_iconst (v := 2) hx hb dX1_runContainer_95 (by decide) ?_
            refine y_asn_8 S hI (by omega) dX1_runContainer_96 (fun H locs hI => ?_)
            exact y_vret S hI hr hk (by rw [hsf, yRC, yRC3, yRC2, yRC1, if_neg c_28, if_pos c_47, if_pos c_65, if_neg c_82, if_pos c_87]) dX1_runContainer_97
      · refine lv_iload_n hx hb dX1_runContainer_68 rfl (lv_at hl 0 rfl) ?_
        refine lv_iconst (v := 3) hx hb dX1_runContainer_69 (by decide) ?_
        refine lv_icmp_ne (tgt := 80) hx hb dX1_runContainer_70 (by decide) (fun c_70 => ?_) (fun c_70 => ?_)
        · refine lv_iload_n hx hb dX1_runContainer_80 rfl (lv_at hl 1 rfl) ?_
          refine lv_iconst (v := 2) hx hb dX1_runContainer_81 (by decide) ?_
          refine lv_icmp_eq (tgt := 90) hx hb dX1_runContainer_82 (by decide) (fun c_82 => ?_) (fun c_82 => ?_)
          · refine lv_aload_n hx hb dX1_runContainer_90 rfl (lv_at hl 2 rfl) ?_
            refine y_get_8 S hI dX1_runContainer_91 ?_
            refine lv_iload_n hx hb dX1_runContainer_94 rfl (lv_at hl 3 rfl) ?_
            refine lv_iconst (v := 2) hx hb dX1_runContainer_95 (by decide) ?_
            refine y_asn_8 S hI (by omega) dX1_runContainer_96 (fun H locs hI => ?_)
            exact y_vret S hI hr hk (by rw [hsf, yRC, yRC3, yRC2, yRC1, if_neg c_28, if_pos c_47, if_neg c_65, if_neg c_70, if_pos c_82]) dX1_runContainer_97
          · refine lv_iload_n hx hb dX1_runContainer_85 rfl (lv_at hl 0 rfl) ?_
            refine lv_iconst (v := 2) hx hb dX1_runContainer_86 (by decide) ?_
            refine lv_icmp_ne (tgt := 97) hx hb dX1_runContainer_87 (by decide) (fun c_87 => ?_) (fun c_87 => ?_)
            · exact y_vret S hI hr hk (by rw [hsf, yRC, yRC3, yRC2, yRC1, if_neg c_28, if_pos c_47, if_neg c_65, if_neg c_70, if_neg c_82, if_neg c_87]) dX1_runContainer_97
            · refine lv_aload_n hx hb dX1_runContainer_90 rfl (lv_at hl 2 rfl) ?_
              refine y_get_8 S hI dX1_runContainer_91 ?_
              refine lv_iload_n hx hb dX1_runContainer_94 rfl (lv_at hl 3 rfl) ?_
              refine lv_iconst (v := 2) hx hb dX1_runContainer_95 (by decide) ?_
              refine y_asn_8 S hI (by omega) dX1_runContainer_96 (fun H locs hI => ?_)
              exact y_vret S hI hr hk (by rw [hsf, yRC, yRC3, yRC2, yRC1, if_neg c_28, if_pos c_47, if_neg c_65, if_neg c_70, if_neg c_82, if_pos c_87]) dX1_runContainer_97
        · refine lv_aload_n hx hb dX1_runContainer_73 rfl (lv_at hl 2 rfl) ?_
          refine y_get_8 S hI dX1_runContainer_74 ?_
          refine lv_iload_n hx hb dX1_runContainer_77 rfl (lv_at hl 3 rfl) ?_
          refine lv_iconst (v := 3) hx hb dX1_runContainer_78 (by decide) ?_
          refine y_asn_8 S hI (by omega) dX1_runContainer_79 (fun H locs hI => ?_)
          refine lv_iload_n hx hb dX1_runContainer_80 rfl (lv_at hl 1 rfl) ?_
          refine lv_iconst (v := 2) hx hb dX1_runContainer_81 (by decide) ?_
          refine lv_icmp_eq (tgt := 90) hx hb dX1_runContainer_82 (by decide) (fun c_82 => ?_) (fun c_82 => ?_)
          · refine lv_aload_n hx hb dX1_runContainer_90 rfl (lv_at hl 2 rfl) ?_
            refine y_get_8 S hI dX1_runContainer_91 ?_
            refine lv_iload_n hx hb dX1_runContainer_94 rfl (lv_at hl 3 rfl) ?_
            refine lv_iconst (v := 2) hx hb dX1_runContainer_95 (by decide) ?_
            refine y_asn_8 S hI (by omega) dX1_runContainer_96 (fun H locs hI => ?_)
            exact y_vret S hI hr hk (by rw [hsf, yRC, yRC3, yRC2, yRC1, if_neg c_28, if_pos c_47, if_neg c_65, if_pos c_70, if_pos c_82]) dX1_runContainer_97
          · refine lv_iload_n hx hb dX1_runContainer_85 rfl (lv_at hl 0 rfl) ?_
            refine lv_iconst (v := 2) hx hb dX1_runContainer_86 (by decide) ?_
            refine lv_icmp_ne (tgt := 97) hx hb dX1_runContainer_87 (by decide) (fun c_87 => ?_) (fun c_87 => ?_)
            · exact y_vret S hI hr hk (by rw [hsf, yRC, yRC3, yRC2, yRC1, if_neg c_28, if_pos c_47, if_neg c_65, if_pos c_70, if_neg c_82, if_neg c_87]) dX1_runContainer_97
            · refine lv_aload_n hx hb dX1_runContainer_90 rfl (lv_at hl 2 rfl) ?_
              refine y_get_8 S hI dX1_runContainer_91 ?_
              refine lv_iload_n hx hb dX1_runContainer_94 rfl (lv_at hl 3 rfl) ?_
              refine lv_iconst (v := 2) hx hb dX1_runContainer_95 (by decide) ?_
              refine y_asn_8 S hI (by omega) dX1_runContainer_96 (fun H locs hI => ?_)
              exact y_vret S hI hr hk (by rw [hsf, yRC, yRC3, yRC2, yRC1, if_neg c_28, if_pos c_47, if_neg c_65, if_pos c_70, if_neg c_82, if_pos c_87]) dX1_runContainer_97
  · refine lv_iconst (v := 0) hx hb dX1_runContainer_31 (by decide) ?_
    refine lv_goto (tgt := 36) hx hb dX1_runContainer_32 (by decide) ?_
    refine y_asn_9 S hI (by omega) dX1_runContainer_36 (fun H locs hI => ?_)
    refine lv_aload_n hx hb dX1_runContainer_37 rfl (lv_at hl 2 rfl) ?_
    refine y_get_9 S hI dX1_runContainer_38 ?_
    refine lv_iload_n hx hb dX1_runContainer_41 rfl (lv_at hl 3 rfl) ?_
    refine lv_iconst (v := 4) hx hb dX1_runContainer_42 (by decide) ?_
    refine lv_imul hx hb dX1_runContainer_43 ?_
    refine tt_top (nI (a * 4)) (tt_mul4 _) ?_
    refine lv_iconst (v := 1) hx hb dX1_runContainer_44 (by decide) ?_
    refine lv_iadd hx hb dX1_runContainer_45 ?_
    refine tt_top (nI (a * 4 + 1)) (tt_add1 _) ?_
    refine lv_iload_n hx hb dX1_runContainer_46 rfl (lv_at hl 0 rfl) ?_
    refine lv_if_ne (tgt := 54) hx hb dX1_runContainer_47 (by decide) (fun c_47 => ?_) (fun c_47 => ?_)
    · refine lv_iconst (v := 1) hx hb dX1_runContainer_54 (by decide) ?_
      refine y_asn_9 S hI (by omega) dX1_runContainer_55 (fun H locs hI => ?_)
      refine lv_aload_n hx hb dX1_runContainer_56 rfl (lv_at hl 2 rfl) ?_
      refine y_get_8 S hI dX1_runContainer_57 ?_
      refine lv_iload_n hx hb dX1_runContainer_60 rfl (lv_at hl 3 rfl) ?_
      refine lv_iconst (v := 1) hx hb dX1_runContainer_61 (by decide) ?_
      refine y_asn_8 S hI (by omega) dX1_runContainer_62 (fun H locs hI => ?_)
      refine lv_iload_n hx hb dX1_runContainer_63 rfl (lv_at hl 1 rfl) ?_
      refine lv_iconst (v := 3) hx hb dX1_runContainer_64 (by decide) ?_
      refine lv_icmp_eq (tgt := 73) hx hb dX1_runContainer_65 (by decide) (fun c_65 => ?_) (fun c_65 => ?_)
      · refine lv_aload_n hx hb dX1_runContainer_73 rfl (lv_at hl 2 rfl) ?_
        refine y_get_8 S hI dX1_runContainer_74 ?_
        refine lv_iload_n hx hb dX1_runContainer_77 rfl (lv_at hl 3 rfl) ?_
        refine lv_iconst (v := 3) hx hb dX1_runContainer_78 (by decide) ?_
        refine y_asn_8 S hI (by omega) dX1_runContainer_79 (fun H locs hI => ?_)
        refine lv_iload_n hx hb dX1_runContainer_80 rfl (lv_at hl 1 rfl) ?_
        refine lv_iconst (v := 2) hx hb dX1_runContainer_81 (by decide) ?_
        refine lv_icmp_eq (tgt := 90) hx hb dX1_runContainer_82 (by decide) (fun c_82 => ?_) (fun c_82 => ?_)
        · refine lv_aload_n hx hb dX1_runContainer_90 rfl (lv_at hl 2 rfl) ?_
          refine y_get_8 S hI dX1_runContainer_91 ?_
          refine lv_iload_n hx hb dX1_runContainer_94 rfl (lv_at hl 3 rfl) ?_
          refine lv_iconst (v := 2) hx hb dX1_runContainer_95 (by decide) ?_
          refine y_asn_8 S hI (by omega) dX1_runContainer_96 (fun H locs hI => ?_)
          exact y_vret S hI hr hk (by rw [hsf, yRC, yRC3, yRC2, yRC1, if_pos c_28, if_neg c_47, if_pos c_65, if_pos c_82]) dX1_runContainer_97
        · refine lv_iload_n hx hb dX1_runContainer_85 rfl (lv_at hl 0 rfl) ?_
          refine lv_iconst (v := 2) hx hb dX1_runContainer_86 (by decide) ?_
          refine lv_icmp_ne (tgt := 97) hx hb dX1_runContainer_87 (by decide) (fun c_87 => ?_) (fun c_87 => ?_)
          · exact y_vret S hI hr hk (by rw [hsf, yRC, yRC3, yRC2, yRC1, if_pos c_28, if_neg c_47, if_pos c_65, if_neg c_82, if_neg c_87]) dX1_runContainer_97
          · refine lv_aload_n hx hb dX1_runContainer_90 rfl (lv_at hl 2 rfl) ?_
            refine y_get_8 S hI dX1_runContainer_91 ?_
            refine lv_iload_n hx hb dX1_runContainer_94 rfl (lv_at hl 3 rfl) ?_
            refine lv_iconst (v := 2) hx hb dX1_runContainer_95 (by decide) ?_
            refine y_asn_8 S hI (by omega) dX1_runContainer_96 (fun H locs hI => ?_)
            exact y_vret S hI hr hk (by rw [hsf, yRC, yRC3, yRC2, yRC1, if_pos c_28, if_neg c_47, if_pos c_65, if_neg c_82, if_pos c_87]) dX1_runContainer_97
      · refine lv_iload_n hx hb dX1_runContainer_68 rfl (lv_at hl 0 rfl) ?_
        refine lv_iconst (v := 3) hx hb dX1_runContainer_69 (by decide) ?_
        refine lv_icmp_ne (tgt := 80) hx hb dX1_runContainer_70 (by decide) (fun c_70 => ?_) (fun c_70 => ?_)
        · refine lv_iload_n hx hb dX1_runContainer_80 rfl (lv_at hl 1 rfl) ?_
          refine lv_iconst (v := 2) hx hb dX1_runContainer_81 (by decide) ?_
          refine lv_icmp_eq (tgt := 90) hx hb dX1_runContainer_82 (by decide) (fun c_82 => ?_) (fun c_82 => ?_)
          · refine lv_aload_n hx hb dX1_runContainer_90 rfl (lv_at hl 2 rfl) ?_
            refine y_get_8 S hI dX1_runContainer_91 ?_
            refine lv_iload_n hx hb dX1_runContainer_94 rfl (lv_at hl 3 rfl) ?_
            refine lv_iconst (v := 2) hx hb dX1_runContainer_95 (by decide) ?_
            refine y_asn_8 S hI (by omega) dX1_runContainer_96 (fun H locs hI => ?_)
            exact y_vret S hI hr hk (by rw [hsf, yRC, yRC3, yRC2, yRC1, if_pos c_28, if_neg c_47, if_neg c_65, if_neg c_70, if_pos c_82]) dX1_runContainer_97
          · refine lv_iload_n hx hb dX1_runContainer_85 rfl (lv_at hl 0 rfl) ?_
            refine lv_iconst (v := 2) hx hb dX1_runContainer_86 (by decide) ?_
            refine lv_icmp_ne (tgt := 97) hx hb dX1_runContainer_87 (by decide) (fun c_87 => ?_) (fun c_87 => ?_)
            · exact y_vret S hI hr hk (by rw [hsf, yRC, yRC3, yRC2, yRC1, if_pos c_28, if_neg c_47, if_neg c_65, if_neg c_70, if_neg c_82, if_neg c_87]) dX1_runContainer_97
            · refine lv_aload_n hx hb dX1_runContainer_90 rfl (lv_at hl 2 rfl) ?_
              refine y_get_8 S hI dX1_runContainer_91 ?_
              refine lv_iload_n hx hb dX1_runContainer_94 rfl (lv_at hl 3 rfl) ?_
              refine lv_iconst (v := 2) hx hb dX1_runContainer_95 (by decide) ?_
              refine y_asn_8 S hI (by omega) dX1_runContainer_96 (fun H locs hI => ?_)
              exact y_vret S hI hr hk (by rw [hsf, yRC, yRC3, yRC2, yRC1, if_pos c_28, if_neg c_47, if_neg c_65, if_neg c_70, if_neg c_82, if_pos c_87]) dX1_runContainer_97
        · refine lv_aload_n hx hb dX1_runContainer_73 rfl (lv_at hl 2 rfl) ?_
          refine y_get_8 S hI dX1_runContainer_74 ?_
          refine lv_iload_n hx hb dX1_runContainer_77 rfl (lv_at hl 3 rfl) ?_
          refine lv_iconst (v := 3) hx hb dX1_runContainer_78 (by decide) ?_
          refine y_asn_8 S hI (by omega) dX1_runContainer_79 (fun H locs hI => ?_)
          refine lv_iload_n hx hb dX1_runContainer_80 rfl (lv_at hl 1 rfl) ?_
          refine lv_iconst (v := 2) hx hb dX1_runContainer_81 (by decide) ?_
          refine lv_icmp_eq (tgt := 90) hx hb dX1_runContainer_82 (by decide) (fun c_82 => ?_) (fun c_82 => ?_)
          · refine lv_aload_n hx hb dX1_runContainer_90 rfl (lv_at hl 2 rfl) ?_
            refine y_get_8 S hI dX1_runContainer_91 ?_
            refine lv_iload_n hx hb dX1_runContainer_94 rfl (lv_at hl 3 rfl) ?_
            refine lv_iconst (v := 2) hx hb dX1_runContainer_95 (by decide) ?_
            refine y_asn_8 S hI (by omega) dX1_runContainer_96 (fun H locs hI => ?_)
            exact y_vret S hI hr hk (by rw [hsf, yRC, yRC3, yRC2, yRC1, if_pos c_28, if_neg c_47, if_neg c_65, if_pos c_70, if_pos c_82]) dX1_runContainer_97
          · refine lv_iload_n hx hb dX1_runContainer_85 rfl (lv_at hl 0 rfl) ?_
            refine lv_iconst (v := 2) hx hb dX1_runContainer_86 (by decide) ?_
            refine lv_icmp_ne (tgt := 97) hx hb dX1_runContainer_87 (by decide) (fun c_87 => ?_) (fun c_87 => ?_)
            · exact y_vret S hI hr hk (by rw [hsf, yRC, yRC3, yRC2, yRC1, if_pos c_28, if_neg c_47, if_neg c_65, if_pos c_70, if_neg c_82, if_neg c_87]) dX1_runContainer_97
            · refine lv_aload_n hx hb dX1_runContainer_90 rfl (lv_at hl 2 rfl) ?_
              refine y_get_8 S hI dX1_runContainer_91 ?_
              refine lv_iload_n hx hb dX1_runContainer_94 rfl (lv_at hl 3 rfl) ?_
              refine lv_iconst (v := 2) hx hb dX1_runContainer_95 (by decide) ?_
              refine y_asn_8 S hI (by omega) dX1_runContainer_96 (fun H locs hI => ?_)
              exact y_vret S hI hr hk (by rw [hsf, yRC, yRC3, yRC2, yRC1, if_pos c_28, if_neg c_47, if_neg c_65, if_pos c_70, if_neg c_82, if_pos c_87]) dX1_runContainer_97
    · refine lv_iconst (v := 0) hx hb dX1_runContainer_50 (by decide) ?_
      refine lv_goto (tgt := 55) hx hb dX1_runContainer_51 (by decide) ?_
      refine y_asn_9 S hI (by omega) dX1_runContainer_55 (fun H locs hI => ?_)
      refine lv_aload_n hx hb dX1_runContainer_56 rfl (lv_at hl 2 rfl) ?_
      refine y_get_8 S hI dX1_runContainer_57 ?_
      refine lv_iload_n hx hb dX1_runContainer_60 rfl (lv_at hl 3 rfl) ?_
      refine lv_iconst (v := 1) hx hb dX1_runContainer_61 (by decide) ?_
      refine y_asn_8 S hI (by omega) dX1_runContainer_62 (fun H locs hI => ?_)
      refine lv_iload_n hx hb dX1_runContainer_63 rfl (lv_at hl 1 rfl) ?_
      refine lv_iconst (v := 3) hx hb dX1_runContainer_64 (by decide) ?_
      refine lv_icmp_eq (tgt := 73) hx hb dX1_runContainer_65 (by decide) (fun c_65 => ?_) (fun c_65 => ?_)
      · refine lv_aload_n hx hb dX1_runContainer_73 rfl (lv_at hl 2 rfl) ?_
        refine y_get_8 S hI dX1_runContainer_74 ?_
        refine lv_iload_n hx hb dX1_runContainer_77 rfl (lv_at hl 3 rfl) ?_
        refine lv_iconst (v := 3) hx hb dX1_runContainer_78 (by decide) ?_
        refine y_asn_8 S hI (by omega) dX1_runContainer_79 (fun H locs hI => ?_)
        refine lv_iload_n hx hb dX1_runContainer_80 rfl (lv_at hl 1 rfl) ?_
        refine lv_iconst (v := 2) hx hb dX1_runContainer_81 (by decide) ?_
        refine lv_icmp_eq (tgt := 90) hx hb dX1_runContainer_82 (by decide) (fun c_82 => ?_) (fun c_82 => ?_)
        · refine lv_aload_n hx hb dX1_runContainer_90 rfl (lv_at hl 2 rfl) ?_
          refine y_get_8 S hI dX1_runContainer_91 ?_
          refine lv_iload_n hx hb dX1_runContainer_94 rfl (lv_at hl 3 rfl) ?_
          refine lv_iconst (v := 2) hx hb dX1_runContainer_95 (by decide) ?_
          refine y_asn_8 S hI (by omega) dX1_runContainer_96 (fun H locs hI => ?_)
          exact y_vret S hI hr hk (by rw [hsf, yRC, yRC3, yRC2, yRC1, if_pos c_28, if_pos c_47, if_pos c_65, if_pos c_82]) dX1_runContainer_97
        · refine lv_iload_n hx hb dX1_runContainer_85 rfl (lv_at hl 0 rfl) ?_
          refine lv_iconst (v := 2) hx hb dX1_runContainer_86 (by decide) ?_
          refine lv_icmp_ne (tgt := 97) hx hb dX1_runContainer_87 (by decide) (fun c_87 => ?_) (fun c_87 => ?_)
          · exact y_vret S hI hr hk (by rw [hsf, yRC, yRC3, yRC2, yRC1, if_pos c_28, if_pos c_47, if_pos c_65, if_neg c_82, if_neg c_87]) dX1_runContainer_97
          · refine lv_aload_n hx hb dX1_runContainer_90 rfl (lv_at hl 2 rfl) ?_
            refine y_get_8 S hI dX1_runContainer_91 ?_
            refine lv_iload_n hx hb dX1_runContainer_94 rfl (lv_at hl 3 rfl) ?_
            refine lv_iconst (v := 2) hx hb dX1_runContainer_95 (by decide) ?_
            refine y_asn_8 S hI (by omega) dX1_runContainer_96 (fun H locs hI => ?_)
            exact y_vret S hI hr hk (by rw [hsf, yRC, yRC3, yRC2, yRC1, if_pos c_28, if_pos c_47, if_pos c_65, if_neg c_82, if_pos c_87]) dX1_runContainer_97
      · refine lv_iload_n hx hb dX1_runContainer_68 rfl (lv_at hl 0 rfl) ?_
        refine lv_iconst (v := 3) hx hb dX1_runContainer_69 (by decide) ?_
        refine lv_icmp_ne (tgt := 80) hx hb dX1_runContainer_70 (by decide) (fun c_70 => ?_) (fun c_70 => ?_)
        · refine lv_iload_n hx hb dX1_runContainer_80 rfl (lv_at hl 1 rfl) ?_
          refine lv_iconst (v := 2) hx hb dX1_runContainer_81 (by decide) ?_
          refine lv_icmp_eq (tgt := 90) hx hb dX1_runContainer_82 (by decide) (fun c_82 => ?_) (fun c_82 => ?_)
          · refine lv_aload_n hx hb dX1_runContainer_90 rfl (lv_at hl 2 rfl) ?_
            refine y_get_8 S hI dX1_runContainer_91 ?_
            refine lv_iload_n hx hb dX1_runContainer_94 rfl (lv_at hl 3 rfl) ?_
            refine lv_iconst (v := 2) hx hb dX1_runContainer_95 (by decide) ?_
            refine y_asn_8 S hI (by omega) dX1_runContainer_96 (fun H locs hI => ?_)
            exact y_vret S hI hr hk (by rw [hsf, yRC, yRC3, yRC2, yRC1, if_pos c_28, if_pos c_47, if_neg c_65, if_neg c_70, if_pos c_82]) dX1_runContainer_97
          · refine lv_iload_n hx hb dX1_runContainer_85 rfl (lv_at hl 0 rfl) ?_
            refine lv_iconst (v := 2) hx hb dX1_runContainer_86 (by decide) ?_
            refine lv_icmp_ne (tgt := 97) hx hb dX1_runContainer_87 (by decide) (fun c_87 => ?_) (fun c_87 => ?_)
            · exact y_vret S hI hr hk (by rw [hsf, yRC, yRC3, yRC2, yRC1, if_pos c_28, if_pos c_47, if_neg c_65, if_neg c_70, if_neg c_82, if_neg c_87]) dX1_runContainer_97
            · refine lv_aload_n hx hb dX1_runContainer_90 rfl (lv_at hl 2 rfl) ?_
              refine y_get_8 S hI dX1_runContainer_91 ?_
              refine lv_iload_n hx hb dX1_runContainer_94 rfl (lv_at hl 3 rfl) ?_
              refine lv_iconst (v := 2) hx hb dX1_runContainer_95 (by decide) ?_
              refine y_asn_8 S hI (by omega) dX1_runContainer_96 (fun H locs hI => ?_)
              exact y_vret S hI hr hk (by rw [hsf, yRC, yRC3, yRC2, yRC1, if_pos c_28, if_pos c_47, if_neg c_65, if_neg c_70, if_neg c_82, if_pos c_87]) dX1_runContainer_97
        · refine lv_aload_n hx hb dX1_runContainer_73 rfl (lv_at hl 2 rfl) ?_
          refine y_get_8 S hI dX1_runContainer_74 ?_
          refine lv_iload_n hx hb dX1_runContainer_77 rfl (lv_at hl 3 rfl) ?_
          refine lv_iconst (v := 3) hx hb dX1_runContainer_78 (by decide) ?_
          refine y_asn_8 S hI (by omega) dX1_runContainer_79 (fun H locs hI => ?_)
          refine lv_iload_n hx hb dX1_runContainer_80 rfl (lv_at hl 1 rfl) ?_
          refine lv_iconst (v := 2) hx hb dX1_runContainer_81 (by decide) ?_
          refine lv_icmp_eq (tgt := 90) hx hb dX1_runContainer_82 (by decide) (fun c_82 => ?_) (fun c_82 => ?_)
          · refine lv_aload_n hx hb dX1_runContainer_90 rfl (lv_at hl 2 rfl) ?_
            refine y_get_8 S hI dX1_runContainer_91 ?_
            refine lv_iload_n hx hb dX1_runContainer_94 rfl (lv_at hl 3 rfl) ?_
            refine lv_iconst (v := 2) hx hb dX1_runContainer_95 (by decide) ?_
            refine y_asn_8 S hI (by omega) dX1_runContainer_96 (fun H locs hI => ?_)
            exact y_vret S hI hr hk (by rw [hsf, yRC, yRC3, yRC2, yRC1, if_pos c_28, if_pos c_47, if_neg c_65, if_pos c_70, if_pos c_82]) dX1_runContainer_97
          · refine lv_iload_n hx hb dX1_runContainer_85 rfl (lv_at hl 0 rfl) ?_
            refine lv_iconst (v := 2) hx hb dX1_runContainer_86 (by decide) ?_
            refine lv_icmp_ne (tgt := 97) hx hb dX1_runContainer_87 (by decide) (fun c_87 => ?_) (fun c_87 => ?_)
            · exact y_vret S hI hr hk (by rw [hsf, yRC, yRC3, yRC2, yRC1, if_pos c_28, if_pos c_47, if_neg c_65, if_pos c_70, if_neg c_82, if_neg c_87]) dX1_runContainer_97
            · refine lv_aload_n hx hb dX1_runContainer_90 rfl (lv_at hl 2 rfl) ?_
              refine y_get_8 S hI dX1_runContainer_91 ?_
              refine lv_iload_n hx hb dX1_runContainer_94 rfl (lv_at hl 3 rfl) ?_
              refine lv_iconst (v := 2) hx hb dX1_runContainer_95 (by decide) ?_
              refine y_asn_8 S hI (by omega) dX1_runContainer_96 (fun H locs hI => ?_)
              exact y_vret S hI hr hk (by rw [hsf, yRC, yRC3, yRC2, yRC1, if_pos c_28, if_pos c_47, if_neg c_65, if_pos c_70, if_neg c_82, if_pos c_87]) dX1_runContainer_97
set_option maxHeartbeats 4000000 in
set_option maxRecDepth 100000 in
theorem metY_has (l : Launch) (σ : ttS) (t : Nat) (own oc : Int32) (ht : t < 24) {N : Nat} (hN : σ 0 0 = nI N) (h24 : N ≤ 24) (hp : ∀ j, j < 24 → 0 ≤ σ 2 j → vp_in (σ 2 j) 24) : MY l yX1_has cX1_has 5 (some .boolean) (rmL 2) [.int (nI t), .int own, .int oc] σ (yHas σ N t own oc) σ := by
  refine y_starti rfl rfl (fun h => Nat.le_of_ble_eq_true rfl) ?_
  intro p e s m args below meth c D h d A S hr hk hA hI ls hl
  have hx := S.1
  have hb := S.2.1
  have hl : lv_has ls 5 [(0, .ref (h 0)), (1, .int (nI t)), (2, .int own), (3, .int oc)] := hl
  obtain ⟨rv, hrv⟩ : ∃ z, z = yHas σ N t own oc := ⟨_, rfl⟩
  rw [← hrv]
  obtain ⟨sf, hsf⟩ : ∃ z, z = σ := ⟨_, rfl⟩
  rw [← hsf]
  refine lv_iconst (v := 0) hx hb dX1_has_0 (by decide) ?_
  refine lv_istore (lv' := [(4, .int 0), (0, .ref (h 0)), (1, .int (nI t)), (2, .int own), (3, .int oc)]) hx hb dX1_has_1 hl (by decide) rfl (fun ls hl => ?_)
  have key3 : ∀ (f : Nat) (k : Nat) (H : Heap) (locs : List Loc) (ls : Array Slot), (k + f = N) → (yHasL σ N t own oc f k = rv) → bY D A h d σ s H locs → lv_has ls 5 [(4, .int (nI k)), (0, .ref (h 0)), (1, .int (nI t)), (2, .int own), (3, .int oc)] → W p l e (rmL 2) s m args below meth c H locs 0 0 (yQi below D h d A args s rv sf) (F0 m 3 ls []) := by
    intro f
    induction f with
    | zero =>
      intro k H locs ls hk2 hr2 hI hl
      obtain rfl : k = N := by omega
      refine lv_iload hx hb dX1_has_3 (lv_at hl 0 rfl) ?_
      refine lv_aload_n hx hb dX1_has_5 rfl (lv_at hl 1 rfl) ?_
      refine y_get_0 S hI dX1_has_6 ?_
      refine lv_icmp_ge (tgt := 70) hx hb dX1_has_9 (by decide) (fun c_9 => ?_) (fun c_9 => ?_)
      · refine lv_iload_n hx hb dX1_has_70 rfl (lv_at hl 3 rfl) ?_
        refine lv_iload_n hx hb dX1_has_71 rfl (lv_at hl 4 rfl) ?_
        refine lv_icmp_ne (tgt := 88) hx hb dX1_has_72 (by decide) (fun c_72 => ?_) (fun c_72 => ?_)
        · refine lv_iconst (v := 0) hx hb dX1_has_88 (by decide) ?_
          exact y_zret S hI hr hk rfl (by rw [← hr2, yHasL, if_neg c_72]) hsf.symm dX1_has_89
        · refine lv_aload_n hx hb dX1_has_75 rfl (lv_at hl 1 rfl) ?_
          refine lv_iload_n hx hb dX1_has_76 rfl (lv_at hl 2 rfl) ?_
          refine lv_iconst (v := 2) hx hb dX1_has_77 (by decide) ?_
          refine y_calli (n := 2) S hI hA [.int (nI t), .int 2] (metY_passes l _ t 2 ht (by decide) hN h24 hp) (lw_V q289 q291 qs18 q28 q292) rfl rfl (by decide +kernel) ⟨by decide, by decide⟩ rfl hl.1 rfl (Nat.le_of_ble_eq_true rfl) dX1_has_78 ⟨by decide, by decide⟩ (fun H locs hI => ?_)
          refine lv_if_eq (tgt := 88) hx hb dX1_has_81 (by decide) (fun c_81 => ?_) (fun c_81 => ?_)
          · refine lv_iconst (v := 0) hx hb dX1_has_88 (by decide) ?_
            exact y_zret S hI hr hk rfl (by rw [← hr2, yHasL, if_pos c_72, if_pos c_81]) hsf.symm dX1_has_89
          · refine lv_iconst (v := 1) hx hb dX1_has_84 (by decide) ?_
            refine lv_goto (tgt := 89) hx hb dX1_has_85 (by decide) ?_
            exact y_zret S hI hr hk rfl (by rw [← hr2, yHasL, if_pos c_72, if_neg c_81]) hsf.symm dX1_has_89
      · exact absurd (by rw [hN]; exact nI_le (Nat.le_refl k) (by omega)) c_9
    | succ f ih =>
      intro k H locs ls hk2 hr2 hI hl
      refine lv_iload hx hb dX1_has_3 (lv_at hl 0 rfl) ?_
      refine lv_aload_n hx hb dX1_has_5 rfl (lv_at hl 1 rfl) ?_
      refine y_get_0 S hI dX1_has_6 ?_
      refine lv_icmp_ge (tgt := 70) hx hb dX1_has_9 (by decide) (fun c_9 => ?_) (fun c_9 => ?_)
      · exact absurd c_9 (by rw [hN]; exact nI_ge (by omega) (by omega))
      · refine lv_aload_n hx hb dX1_has_12 rfl (lv_at hl 1 rfl) ?_
        refine lv_iload hx hb dX1_has_13 (lv_at hl 0 rfl) ?_
        refine lv_iload_n hx hb dX1_has_15 rfl (lv_at hl 2 rfl) ?_
        refine y_calli (n := 2) S hI hA [.int (nI k), .int (nI t)] (metY_above l _ k t ht hp) (lw_V q293 q295 qs19 q28 q296) rfl rfl (by decide +kernel) ⟨by decide, by decide⟩ rfl hl.1 rfl (Nat.le_of_ble_eq_true rfl) dX1_has_16 ⟨by decide, by decide⟩ (fun H locs hI => ?_)
        refine lv_if_eq (tgt := 64) hx hb dX1_has_19 (by decide) (fun c_19 => ?_) (fun c_19 => ?_)
        · refine lv_iinc (v := nI (k + 1)) (lv' := [(4, .int (nI (k + 1))), (0, .ref (h 0)), (1, .int (nI t)), (2, .int own), (3, .int oc)]) hx hb dX1_has_64 hl (k := 0) rfl (tt_inc _) (by decide) rfl (fun ls hl => ?_)
          refine lv_goto (tgt := 3) hx hb dX1_has_67 (by decide) ?_
          exact ih (k + 1) H locs ls (by omega) (by rw [← hr2, yHasL, if_pos c_19]) hI (lv_sub hl [0, 1, 2, 3, 4] rfl)
        · refine lv_aload_n hx hb dX1_has_22 rfl (lv_at hl 1 rfl) ?_
          refine lv_iload hx hb dX1_has_23 (lv_at hl 0 rfl) ?_
          refine lv_iconst (v := 2) hx hb dX1_has_25 (by decide) ?_
          refine y_calli (n := 2) S hI hA [.int (nI k), .int 2] (metY_passes l _ k 2 (by omega) (by decide) hN h24 hp) (lw_V q289 q291 qs18 q28 q292) rfl rfl (by decide +kernel) ⟨by decide, by decide⟩ rfl hl.1 rfl (Nat.le_of_ble_eq_true rfl) dX1_has_26 ⟨by decide, by decide⟩ (fun H locs hI => ?_)
          refine lv_if_eq (tgt := 64) hx hb dX1_has_29 (by decide) (fun c_29 => ?_) (fun c_29 => ?_)
          · refine lv_iinc (v := nI (k + 1)) (lv' := [(4, .int (nI (k + 1))), (0, .ref (h 0)), (1, .int (nI t)), (2, .int own), (3, .int oc)]) hx hb dX1_has_64 hl (k := 0) rfl (tt_inc _) (by decide) rfl (fun ls hl => ?_)
            refine lv_goto (tgt := 3) hx hb dX1_has_67 (by decide) ?_
            exact ih (k + 1) H locs ls (by omega) (by rw [← hr2, yHasL, if_neg c_19, if_pos c_29]) hI (lv_sub hl [0, 1, 2, 3, 4] rfl)
          · refine lv_aload_n hx hb dX1_has_32 rfl (lv_at hl 1 rfl) ?_
            refine y_get_4 S hI dX1_has_33 ?_
            refine lv_iload hx hb dX1_has_36 (lv_at hl 0 rfl) ?_
            refine lv_iconst (v := 4) hx hb dX1_has_38 (by decide) ?_
            refine lv_imul hx hb dX1_has_39 ?_
            refine tt_top (nI (k * 4)) (tt_mul4 _) ?_
            refine lv_iconst (v := 2) hx hb dX1_has_40 (by decide) ?_
            refine lv_iadd hx hb dX1_has_41 ?_
            refine tt_top (nI (k * 4 + 2)) (tt_add2 _) ?_
            refine y_aln_4 S hI (by omega) dX1_has_42 ?_
            refine lv_iload_n hx hb dX1_has_43 rfl (lv_at hl 4 rfl) ?_
            refine lv_icmp_eq (tgt := 62) hx hb dX1_has_44 (by decide) (fun c_44 => ?_) (fun c_44 => ?_)
            · refine lv_iconst (v := 1) hx hb dX1_has_62 (by decide) ?_
              exact y_zret S hI hr hk rfl (by rw [← hr2, yHasL, if_neg c_19, if_neg c_29, if_pos c_44]) hsf.symm dX1_has_63
            · refine lv_aload_n hx hb dX1_has_47 rfl (lv_at hl 1 rfl) ?_
              refine y_get_4 S hI dX1_has_48 ?_
              refine lv_iload hx hb dX1_has_51 (lv_at hl 0 rfl) ?_
              refine lv_iconst (v := 4) hx hb dX1_has_53 (by decide) ?_
              refine lv_imul hx hb dX1_has_54 ?_
              refine tt_top (nI (k * 4)) (tt_mul4 _) ?_
              refine lv_iconst (v := 3) hx hb dX1_has_55 (by decide) ?_
              refine lv_iadd hx hb dX1_has_56 ?_
              refine tt_top (nI (k * 4 + 3)) (tt_add3 _) ?_
              refine y_aln_4 S hI (by omega) dX1_has_57 ?_
              refine lv_iload_n hx hb dX1_has_58 rfl (lv_at hl 4 rfl) ?_
              refine lv_icmp_ne (tgt := 64) hx hb dX1_has_59 (by decide) (fun c_59 => ?_) (fun c_59 => ?_)
              · refine lv_iinc (v := nI (k + 1)) (lv' := [(4, .int (nI (k + 1))), (0, .ref (h 0)), (1, .int (nI t)), (2, .int own), (3, .int oc)]) hx hb dX1_has_64 hl (k := 0) rfl (tt_inc _) (by decide) rfl (fun ls hl => ?_)
                refine lv_goto (tgt := 3) hx hb dX1_has_67 (by decide) ?_
                exact ih (k + 1) H locs ls (by omega) (by rw [← hr2, yHasL, if_neg c_19, if_neg c_29, if_neg c_44, if_neg c_59]) hI (lv_sub hl [0, 1, 2, 3, 4] rfl)
              · refine lv_iconst (v := 1) hx hb dX1_has_62 (by decide) ?_
                exact y_zret S hI hr hk rfl (by rw [← hr2, yHasL, if_neg c_19, if_neg c_29, if_neg c_44, if_pos c_59]) hsf.symm dX1_has_63
  exact key3 N 0 _ _ _ (by omega) hrv.symm hI (lv_sub hl [0, 1, 2, 3, 4] rfl)
set_option maxHeartbeats 4000000 in
set_option maxRecDepth 100000 in
theorem metY_runTest (l : Launch) (σ : ttS) (t : Nat) (ht : t < 24) {N : Nat} (hN : σ 0 0 = nI N) (h24 : N ≤ 24) (hp : ∀ j, j < 24 → 0 ≤ σ 2 j → vp_in (σ 2 j) 24) (K : Nat) (hK : σ 5 t = nI K) (hK4 : K ≤ 4) : MYv l yX1_runTest cX1_runTest 8 (rmL 3) [.int (nI t)] σ (yRT σ N K t) := by
  refine y_startv rfl rfl (fun h => Nat.le_of_ble_eq_true rfl) ?_
  intro p e s m args below meth c D h d A S hr hk hA hI ls hl
  have hx := S.1
  have hb := S.2.1
  have hl : lv_has ls 8 [(0, .ref (h 0)), (1, .int (nI t))] := hl
  obtain ⟨sf, hsf⟩ : ∃ z, z = yRT σ N K t := ⟨_, rfl⟩
  rw [← hsf]
  refine lv_iconst (v := 0) hx hb dX1_runTest_0 (by decide) ?_
  refine lv_istore_n (lv' := [(2, .int 0), (0, .ref (h 0)), (1, .int (nI t))]) hx hb dX1_runTest_1 rfl hl (by decide) rfl (fun ls hl => ?_)
  refine lv_iconst (v := 2) hx hb dX1_runTest_2 (by decide) ?_
  refine tt_top (2) rfl ?_
  refine lv_istore_n (lv' := [(3, .int 2), (2, .int 0), (0, .ref (h 0)), (1, .int (nI t))]) hx hb dX1_runTest_3 rfl hl (by decide) rfl (fun ls hl => ?_)
  refine lv_iconst (v := 0) hx hb dX1_runTest_4 (by decide) ?_
  refine lv_istore (lv' := [(4, .int 0), (3, .int 2), (2, .int 0), (0, .ref (h 0)), (1, .int (nI t))]) hx hb dX1_runTest_5 hl (by decide) rfl (fun ls hl => ?_)
  have key7 : ∀ (f : Nat) (i n : Nat) (r : Int32) (H : Heap) (locs : List Loc) (ls : Array Slot), (i + f = K) → (yRT2 σ N t (yTry σ N t f i n r).1 (yTry σ N t f i n r).2 = sf) → bY D A h d σ s H locs → lv_has ls 8 [(4, .int (nI i)), (3, .int r), (2, .int (nI n)), (0, .ref (h 0)), (1, .int (nI t))] → W p l e (rmL 3) s m args below meth c H locs 0 0 (yQv below D h d A args s sf) (F0 m 7 ls []) := by
    intro f
    induction f with
    | zero =>
      intro i n r H locs ls hk2 hs2 hI hl
      obtain rfl : i = K := by omega
      refine lv_iload hx hb dX1_runTest_7 (lv_at hl 0 rfl) ?_
      refine lv_aload_n hx hb dX1_runTest_9 rfl (lv_at hl 3 rfl) ?_
      refine y_get_5 S hI dX1_runTest_10 ?_
      refine lv_iload_n hx hb dX1_runTest_13 rfl (lv_at hl 4 rfl) ?_
      refine y_aln_5 S hI (by omega) dX1_runTest_14 ?_
      refine lv_icmp_ge (tgt := 87) hx hb dX1_runTest_15 (by decide) (fun c_15 => ?_) (fun c_15 => ?_)
      · refine lv_aload_n hx hb dX1_runTest_87 rfl (lv_at hl 3 rfl) ?_
        refine y_get_8 S hI dX1_runTest_88 ?_
        refine lv_iload_n hx hb dX1_runTest_91 rfl (lv_at hl 4 rfl) ?_
        refine lv_iload_n hx hb dX1_runTest_92 rfl (lv_at hl 1 rfl) ?_
        refine y_asn_8 S hI (by omega) dX1_runTest_93 (fun H locs hI => ?_)
        refine lv_aload_n hx hb dX1_runTest_94 rfl (lv_at hl 3 rfl) ?_
        refine y_get_10 S hI dX1_runTest_95 ?_
        refine lv_iload_n hx hb dX1_runTest_98 rfl (lv_at hl 4 rfl) ?_
        refine lv_iload_n hx hb dX1_runTest_99 rfl (lv_at hl 2 rfl) ?_
        refine y_asn_10 S hI (by omega) dX1_runTest_100 (fun H locs hI => ?_)
        refine lv_aload_n hx hb dX1_runTest_101 rfl (lv_at hl 3 rfl) ?_
        refine y_get_9 S hI dX1_runTest_102 ?_
        refine lv_iload_n hx hb dX1_runTest_105 rfl (lv_at hl 4 rfl) ?_
        refine lv_iconst (v := 4) hx hb dX1_runTest_106 (by decide) ?_
        refine lv_imul hx hb dX1_runTest_107 ?_
        refine tt_top (nI (t * 4)) (tt_mul4 _) ?_
        have hI : bY D A h d (yRT1 σ t n r) s H locs := hI
        refine lv_aload_n hx hb dX1_runTest_108 rfl (lv_at hl 3 rfl) ?_
        refine lv_iload_n hx hb dX1_runTest_109 rfl (lv_at hl 4 rfl) ?_
        refine lv_iconst (v := 2) hx hb dX1_runTest_110 (by decide) ?_
        refine y_calli (n := 2) S hI hA [.int (nI t), .int 2] (metY_passes l (yRT1 σ t n r) t 2 ht (by decide) hN h24 hp) (lw_V q289 q291 qs18 q28 q292) rfl rfl (by decide +kernel) ⟨by decide, by decide⟩ rfl hl.1 rfl (Nat.le_of_ble_eq_true rfl) dX1_runTest_111 ⟨by decide, by decide⟩ (fun H locs hI => ?_)
        refine lv_if_eq (tgt := 121) hx hb dX1_runTest_114 (by decide) (fun c_114 => ?_) (fun c_114 => ?_)
        · refine lv_iconst (v := 0) hx hb dX1_runTest_121 (by decide) ?_
          refine y_asn_9 S hI (by omega) dX1_runTest_122 (fun H locs hI => ?_)
          exact y_vret S hI hr hk (by rw [← hs2, yTry, yRT2, if_pos c_114]) dX1_runTest_123
        · refine lv_iload_n hx hb dX1_runTest_117 rfl (lv_at hl 2 rfl) ?_
          refine lv_goto (tgt := 122) hx hb dX1_runTest_118 (by decide) ?_
          refine y_asn_9 S hI (by omega) dX1_runTest_122 (fun H locs hI => ?_)
          exact y_vret S hI hr hk (by rw [← hs2, yTry, yRT2, if_neg c_114]) dX1_runTest_123
      · exact absurd (by rw [hK]; exact nI_le (Nat.le_refl i) (by omega)) c_15
    | succ f ih =>
      intro i n r H locs ls hk2 hs2 hI hl
      refine lv_iload hx hb dX1_runTest_7 (lv_at hl 0 rfl) ?_
      refine lv_aload_n hx hb dX1_runTest_9 rfl (lv_at hl 3 rfl) ?_
      refine y_get_5 S hI dX1_runTest_10 ?_
      refine lv_iload_n hx hb dX1_runTest_13 rfl (lv_at hl 4 rfl) ?_
      refine y_aln_5 S hI (by omega) dX1_runTest_14 ?_
      refine lv_icmp_ge (tgt := 87) hx hb dX1_runTest_15 (by decide) (fun c_15 => ?_) (fun c_15 => ?_)
      · exact absurd c_15 (by rw [hK]; exact nI_ge (by omega) (by omega))
      · refine lv_iload_n hx hb dX1_runTest_18 rfl (lv_at hl 1 rfl) ?_
        refine lv_iconst (v := 2) hx hb dX1_runTest_19 (by decide) ?_
        refine lv_icmp_ne (tgt := 81) hx hb dX1_runTest_20 (by decide) (fun c_20 => ?_) (fun c_20 => ?_)
        · refine lv_iinc (v := nI (i + 1)) (lv' := [(4, .int (nI (i + 1))), (3, .int r), (2, .int (nI n)), (0, .ref (h 0)), (1, .int (nI t))]) hx hb dX1_runTest_81 hl (k := 0) rfl (tt_inc _) (by decide) rfl (fun ls hl => ?_)
          refine lv_goto (tgt := 7) hx hb dX1_runTest_84 (by decide) ?_
          exact ih (i + 1) n r H locs ls (by omega) (by rw [← hs2, yTry, if_neg c_20]) hI (lv_sub hl [0, 1, 2, 3, 4] rfl)
        · refine lv_aload_n hx hb dX1_runTest_23 rfl (lv_at hl 3 rfl) ?_
          refine y_get_6 S hI dX1_runTest_24 ?_
          refine lv_iload_n hx hb dX1_runTest_27 rfl (lv_at hl 4 rfl) ?_
          refine y_aln_6 S hI (by omega) dX1_runTest_28 ?_
          refine lv_iconst (v := 2) hx hb dX1_runTest_29 (by decide) ?_
          refine lv_iload hx hb dX1_runTest_30 (lv_at hl 0 rfl) ?_
          refine lv_imul hx hb dX1_runTest_32 ?_
          refine lv_ishr hx hb dX1_runTest_33 ?_
          refine lv_iconst (v := 3) hx hb dX1_runTest_34 (by decide) ?_
          refine lv_iand hx hb dX1_runTest_35 ?_
          refine tt_top (yOwn σ t i) rfl ?_
          refine lv_istore (lv' := [(5, .int (yOwn σ t i)), (4, .int (nI i)), (3, .int r), (2, .int (nI n)), (0, .ref (h 0)), (1, .int (nI t))]) hx hb dX1_runTest_36 hl (by decide) rfl (fun ls hl => ?_)
          refine lv_aload_n hx hb dX1_runTest_38 rfl (lv_at hl 4 rfl) ?_
          refine lv_iload_n hx hb dX1_runTest_39 rfl (lv_at hl 5 rfl) ?_
          refine lv_iload hx hb dX1_runTest_40 (lv_at hl 0 rfl) ?_
          refine lv_iconst (v := 2) hx hb dX1_runTest_42 (by decide) ?_
          refine y_calli (n := 3) S hI hA [.int (nI t), .int (yOwn σ t i), .int 2] (metY_has l _ t (yOwn σ t i) 2 ht hN h24 hp) (lw_V q305 q307 qs22 q28 q308) rfl rfl (by decide +kernel) ⟨by decide, by decide⟩ rfl hl.1 rfl (Nat.le_of_ble_eq_true rfl) dX1_runTest_43 ⟨by decide, by decide⟩ (fun H locs hI => ?_)
          refine lv_istore (lv' := [(6, .int (yHas σ N t (yOwn σ t i) 2)), (5, .int (yOwn σ t i)), (4, .int (nI i)), (3, .int r), (2, .int (nI n)), (0, .ref (h 0)), (1, .int (nI t))]) hx hb dX1_runTest_46 hl (by decide) rfl (fun ls hl => ?_)
          refine lv_aload_n hx hb dX1_runTest_48 rfl (lv_at hl 5 rfl) ?_
          refine lv_iload_n hx hb dX1_runTest_49 rfl (lv_at hl 6 rfl) ?_
          refine lv_iload hx hb dX1_runTest_50 (lv_at hl 1 rfl) ?_
          refine lv_iconst (v := 3) hx hb dX1_runTest_52 (by decide) ?_
          refine y_calli (n := 3) S hI hA [.int (nI t), .int (yOwn σ t i), .int 3] (metY_has l _ t (yOwn σ t i) 3 ht hN h24 hp) (lw_V q305 q307 qs22 q28 q308) rfl rfl (by decide +kernel) ⟨by decide, by decide⟩ rfl hl.1 rfl (Nat.le_of_ble_eq_true rfl) dX1_runTest_53 ⟨by decide, by decide⟩ (fun H locs hI => ?_)
          refine lv_istore (lv' := [(7, .int (yHas σ N t (yOwn σ t i) 3)), (6, .int (yHas σ N t (yOwn σ t i) 2)), (5, .int (yOwn σ t i)), (4, .int (nI i)), (3, .int r), (2, .int (nI n)), (0, .ref (h 0)), (1, .int (nI t))]) hx hb dX1_runTest_56 hl (by decide) rfl (fun ls hl => ?_)
          refine lv_iload hx hb dX1_runTest_58 (lv_at hl 1 rfl) ?_
          refine lv_if_eq (tgt := 67) hx hb dX1_runTest_60 (by decide) (fun c_60 => ?_) (fun c_60 => ?_)
          · refine lv_iload hx hb dX1_runTest_67 (lv_at hl 0 rfl) ?_
            refine lv_if_eq (tgt := 76) hx hb dX1_runTest_69 (by decide) (fun c_69 => ?_) (fun c_69 => ?_)
            · refine lv_iconst (v := 1) hx hb dX1_runTest_76 (by decide) ?_
              refine lv_istore_n (lv' := [(3, .int 1), (7, .int (yHas σ N t (yOwn σ t i) 3)), (6, .int (yHas σ N t (yOwn σ t i) 2)), (5, .int (yOwn σ t i)), (4, .int (nI i)), (2, .int (nI n)), (0, .ref (h 0)), (1, .int (nI t))]) hx hb dX1_runTest_77 rfl hl (by decide) rfl (fun ls hl => ?_)
              refine lv_iinc (v := nI (n + 1)) (lv' := [(2, .int (nI (n + 1))), (3, .int 1), (7, .int (yHas σ N t (yOwn σ t i) 3)), (6, .int (yHas σ N t (yOwn σ t i) 2)), (5, .int (yOwn σ t i)), (4, .int (nI i)), (0, .ref (h 0)), (1, .int (nI t))]) hx hb dX1_runTest_78 hl (k := 5) rfl (tt_inc _) (by decide) rfl (fun ls hl => ?_)
              refine lv_iinc (v := nI (i + 1)) (lv' := [(4, .int (nI (i + 1))), (2, .int (nI (n + 1))), (3, .int 1), (7, .int (yHas σ N t (yOwn σ t i) 3)), (6, .int (yHas σ N t (yOwn σ t i) 2)), (5, .int (yOwn σ t i)), (0, .ref (h 0)), (1, .int (nI t))]) hx hb dX1_runTest_81 hl (k := 5) rfl (tt_inc _) (by decide) rfl (fun ls hl => ?_)
              refine lv_goto (tgt := 7) hx hb dX1_runTest_84 (by decide) ?_
              exact ih (i + 1) (n + 1) (yOut σ N t i) H locs ls (by omega) (by rw [← hs2, yTry, if_pos c_20]) hI (by rw [show yOut σ N t i = 1 from (by rw [yOut, if_pos c_60, if_pos c_69])]; exact lv_sub hl [0, 2, 1, 6, 7] rfl)
            · refine lv_iconst (v := 3) hx hb dX1_runTest_72 (by decide) ?_
              refine lv_goto (tgt := 77) hx hb dX1_runTest_73 (by decide) ?_
              refine lv_istore_n (lv' := [(3, .int 3), (7, .int (yHas σ N t (yOwn σ t i) 3)), (6, .int (yHas σ N t (yOwn σ t i) 2)), (5, .int (yOwn σ t i)), (4, .int (nI i)), (2, .int (nI n)), (0, .ref (h 0)), (1, .int (nI t))]) hx hb dX1_runTest_77 rfl hl (by decide) rfl (fun ls hl => ?_)
              refine lv_iinc (v := nI (n + 1)) (lv' := [(2, .int (nI (n + 1))), (3, .int 3), (7, .int (yHas σ N t (yOwn σ t i) 3)), (6, .int (yHas σ N t (yOwn σ t i) 2)), (5, .int (yOwn σ t i)), (4, .int (nI i)), (0, .ref (h 0)), (1, .int (nI t))]) hx hb dX1_runTest_78 hl (k := 5) rfl (tt_inc _) (by decide) rfl (fun ls hl => ?_)
              refine lv_iinc (v := nI (i + 1)) (lv' := [(4, .int (nI (i + 1))), (2, .int (nI (n + 1))), (3, .int 3), (7, .int (yHas σ N t (yOwn σ t i) 3)), (6, .int (yHas σ N t (yOwn σ t i) 2)), (5, .int (yOwn σ t i)), (0, .ref (h 0)), (1, .int (nI t))]) hx hb dX1_runTest_81 hl (k := 5) rfl (tt_inc _) (by decide) rfl (fun ls hl => ?_)
              refine lv_goto (tgt := 7) hx hb dX1_runTest_84 (by decide) ?_
              exact ih (i + 1) (n + 1) (yOut σ N t i) H locs ls (by omega) (by rw [← hs2, yTry, if_pos c_20]) hI (by rw [show yOut σ N t i = 3 from (by rw [yOut, if_pos c_60, if_neg c_69])]; exact lv_sub hl [0, 2, 1, 6, 7] rfl)
          · refine lv_iconst (v := 2) hx hb dX1_runTest_63 (by decide) ?_
            refine lv_goto (tgt := 77) hx hb dX1_runTest_64 (by decide) ?_
            refine lv_istore_n (lv' := [(3, .int 2), (7, .int (yHas σ N t (yOwn σ t i) 3)), (6, .int (yHas σ N t (yOwn σ t i) 2)), (5, .int (yOwn σ t i)), (4, .int (nI i)), (2, .int (nI n)), (0, .ref (h 0)), (1, .int (nI t))]) hx hb dX1_runTest_77 rfl hl (by decide) rfl (fun ls hl => ?_)
            refine lv_iinc (v := nI (n + 1)) (lv' := [(2, .int (nI (n + 1))), (3, .int 2), (7, .int (yHas σ N t (yOwn σ t i) 3)), (6, .int (yHas σ N t (yOwn σ t i) 2)), (5, .int (yOwn σ t i)), (4, .int (nI i)), (0, .ref (h 0)), (1, .int (nI t))]) hx hb dX1_runTest_78 hl (k := 5) rfl (tt_inc _) (by decide) rfl (fun ls hl => ?_)
            refine lv_iinc (v := nI (i + 1)) (lv' := [(4, .int (nI (i + 1))), (2, .int (nI (n + 1))), (3, .int 2), (7, .int (yHas σ N t (yOwn σ t i) 3)), (6, .int (yHas σ N t (yOwn σ t i) 2)), (5, .int (yOwn σ t i)), (0, .ref (h 0)), (1, .int (nI t))]) hx hb dX1_runTest_81 hl (k := 5) rfl (tt_inc _) (by decide) rfl (fun ls hl => ?_)
            refine lv_goto (tgt := 7) hx hb dX1_runTest_84 (by decide) ?_
            exact ih (i + 1) (n + 1) (yOut σ N t i) H locs ls (by omega) (by rw [← hs2, yTry, if_pos c_20]) hI (by rw [show yOut σ N t i = 2 from (by rw [yOut, if_neg c_60])]; exact lv_sub hl [0, 2, 1, 6, 7] rfl)
  exact key7 K 0 0 2 _ _ _ (by omega) hsf.symm hI (lv_sub hl [0, 1, 2, 3, 4] rfl)
set_option maxHeartbeats 4000000 in
set_option maxRecDepth 100000 in
theorem metY_each (l : Launch) (σ : ttS) (a : Nat) (ha : a < 24) {N : Nat} (hN : σ 0 0 = nI N) (h24 : N ≤ 24) (hp : ∀ j, j < 24 → 0 ≤ σ 2 j → vp_in (σ 2 j) 24) : MYv l yX1_each cX1_each 4 (rmL 2) [.int (nI a)] σ (yEach σ N a) := by
  refine y_startv rfl rfl (fun h => Nat.le_of_ble_eq_true rfl) ?_
  intro p e s m args below meth c D h d A S hr hk hA hI ls hl
  have hx := S.1
  have hb := S.2.1
  have hl : lv_has ls 4 [(0, .ref (h 0)), (1, .int (nI a))] := hl
  obtain ⟨sf, hsf⟩ : ∃ z, z = yEach σ N a := ⟨_, rfl⟩
  rw [← hsf]
  refine lv_iconst (v := 0) hx hb dX1_each_0 (by decide) ?_
  refine lv_istore_n (lv' := [(2, .int 0), (0, .ref (h 0)), (1, .int (nI a))]) hx hb dX1_each_1 rfl hl (by decide) rfl (fun ls hl => ?_)
  refine lv_iconst (v := 0) hx hb dX1_each_2 (by decide) ?_
  refine lv_istore_n (lv' := [(3, .int 0), (2, .int 0), (0, .ref (h 0)), (1, .int (nI a))]) hx hb dX1_each_3 rfl hl (by decide) rfl (fun ls hl => ?_)
  have key4 : ∀ (f : Nat) (k : Nat) (H : Heap) (locs : List Loc) (ls : Array Slot), (k + f = N) → bY D A h d σ s H locs → lv_has ls 4 [(3, .int (nI k)), (2, .int (ySumM σ a (k))), (0, .ref (h 0)), (1, .int (nI a))] → W p l e (rmL 2) s m args below meth c H locs 0 0 (yQv below D h d A args s sf) (F0 m 4 ls []) := by
    intro f
    induction f with
    | zero =>
      intro k H locs ls hk2 hI hl
      obtain rfl : k = N := by omega
      refine lv_iload_n hx hb dX1_each_4 rfl (lv_at hl 0 rfl) ?_
      refine lv_aload_n hx hb dX1_each_5 rfl (lv_at hl 2 rfl) ?_
      refine y_get_0 S hI dX1_each_6 ?_
      refine lv_icmp_ge (tgt := 36) hx hb dX1_each_9 (by decide) (fun c_9 => ?_) (fun c_9 => ?_)
      · refine lv_aload_n hx hb dX1_each_36 rfl (lv_at hl 2 rfl) ?_
        refine lv_iload_n hx hb dX1_each_37 rfl (lv_at hl 3 rfl) ?_
        refine lv_iconst (v := 2) hx hb dX1_each_38 (by decide) ?_
        refine y_calli (n := 2) S hI hA [.int (nI a), .int 2] (metY_passes l _ a 2 ha (by decide) hN h24 hp) (lw_V q289 q291 qs18 q28 q292) rfl rfl (by decide +kernel) ⟨by decide, by decide⟩ rfl hl.1 rfl (Nat.le_of_ble_eq_true rfl) dX1_each_39 ⟨by decide, by decide⟩ (fun H locs hI => ?_)
        refine lv_istore_n (lv' := [(3, .int (yPas σ k a 2)), (2, .int (ySumM σ a (k))), (0, .ref (h 0)), (1, .int (nI a))]) hx hb dX1_each_42 rfl hl (by decide) rfl (fun ls hl => ?_)
        refine lv_aload_n hx hb dX1_each_43 rfl (lv_at hl 2 rfl) ?_
        refine y_get_9 S hI dX1_each_44 ?_
        refine lv_iload_n hx hb dX1_each_47 rfl (lv_at hl 3 rfl) ?_
        refine lv_iconst (v := 4) hx hb dX1_each_48 (by decide) ?_
        refine lv_imul hx hb dX1_each_49 ?_
        refine tt_top (nI (a * 4)) (tt_mul4 _) ?_
        refine lv_iconst (v := 2) hx hb dX1_each_50 (by decide) ?_
        refine lv_iadd hx hb dX1_each_51 ?_
        refine tt_top (nI (a * 4 + 2)) (tt_add2 _) ?_
        refine lv_iload_n hx hb dX1_each_52 rfl (lv_at hl 0 rfl) ?_
        refine lv_if_eq (tgt := 73) hx hb dX1_each_53 (by decide) (fun c_53 => ?_) (fun c_53 => ?_)
        · refine lv_iconst (v := 0) hx hb dX1_each_73 (by decide) ?_
          refine y_asn_9 S hI (by omega) dX1_each_74 (fun H locs hI => ?_)
          refine lv_aload_n hx hb dX1_each_75 rfl (lv_at hl 2 rfl) ?_
          refine y_get_9 S hI dX1_each_76 ?_
          refine lv_iload_n hx hb dX1_each_79 rfl (lv_at hl 3 rfl) ?_
          refine lv_iconst (v := 4) hx hb dX1_each_80 (by decide) ?_
          refine lv_imul hx hb dX1_each_81 ?_
          refine tt_top (nI (a * 4)) (tt_mul4 _) ?_
          refine lv_iconst (v := 3) hx hb dX1_each_82 (by decide) ?_
          refine lv_iadd hx hb dX1_each_83 ?_
          refine tt_top (nI (a * 4 + 3)) (tt_add3 _) ?_
          refine lv_iload_n hx hb dX1_each_84 rfl (lv_at hl 0 rfl) ?_
          refine lv_if_eq (tgt := 105) hx hb dX1_each_85 (by decide) (fun c_85 => ?_) (fun c_85 => ?_)
          · refine lv_iconst (v := 0) hx hb dX1_each_105 (by decide) ?_
            refine y_asn_9 S hI (by omega) dX1_each_106 (fun H locs hI => ?_)
            exact y_vret S hI hr hk (by rw [hsf, yEach, yEv, yEv, if_pos c_53, if_pos c_85]) dX1_each_107
          · exact absurd c_53 c_85
        · refine lv_aload_n hx hb dX1_each_56 rfl (lv_at hl 2 rfl) ?_
          refine y_get_4 S hI dX1_each_57 ?_
          refine lv_iload_n hx hb dX1_each_60 rfl (lv_at hl 3 rfl) ?_
          refine lv_iconst (v := 4) hx hb dX1_each_61 (by decide) ?_
          refine lv_imul hx hb dX1_each_62 ?_
          refine tt_top (nI (a * 4)) (tt_mul4 _) ?_
          refine lv_iconst (v := 2) hx hb dX1_each_63 (by decide) ?_
          refine lv_iadd hx hb dX1_each_64 ?_
          refine tt_top (nI (a * 4 + 2)) (tt_add2 _) ?_
          refine y_aln_4 S hI (by omega) dX1_each_65 ?_
          refine lv_if_eq (tgt := 73) hx hb dX1_each_66 (by decide) (fun c_66 => ?_) (fun c_66 => ?_)
          · refine lv_iconst (v := 0) hx hb dX1_each_73 (by decide) ?_
            refine y_asn_9 S hI (by omega) dX1_each_74 (fun H locs hI => ?_)
            refine lv_aload_n hx hb dX1_each_75 rfl (lv_at hl 2 rfl) ?_
            refine y_get_9 S hI dX1_each_76 ?_
            refine lv_iload_n hx hb dX1_each_79 rfl (lv_at hl 3 rfl) ?_
            refine lv_iconst (v := 4) hx hb dX1_each_80 (by decide) ?_
            refine lv_imul hx hb dX1_each_81 ?_
            refine tt_top (nI (a * 4)) (tt_mul4 _) ?_
            refine lv_iconst (v := 3) hx hb dX1_each_82 (by decide) ?_
            refine lv_iadd hx hb dX1_each_83 ?_
            refine tt_top (nI (a * 4 + 3)) (tt_add3 _) ?_
            refine lv_iload_n hx hb dX1_each_84 rfl (lv_at hl 0 rfl) ?_
            refine lv_if_eq (tgt := 105) hx hb dX1_each_85 (by decide) (fun c_85 => ?_) (fun c_85 => ?_)
            · exact absurd c_85 c_53
            · refine lv_aload_n hx hb dX1_each_88 rfl (lv_at hl 2 rfl) ?_
              refine y_get_4 S hI dX1_each_89 ?_
              refine lv_iload_n hx hb dX1_each_92 rfl (lv_at hl 3 rfl) ?_
              refine lv_iconst (v := 4) hx hb dX1_each_93 (by decide) ?_
              refine lv_imul hx hb dX1_each_94 ?_
              refine tt_top (nI (a * 4)) (tt_mul4 _) ?_
              refine lv_iconst (v := 3) hx hb dX1_each_95 (by decide) ?_
              refine lv_iadd hx hb dX1_each_96 ?_
              refine tt_top (nI (a * 4 + 3)) (tt_add3 _) ?_
              refine y_aln_4 S hI (by omega) dX1_each_97 ?_
              refine tt_top (σ 4 (a * 4 + 3)) rfl ?_
              refine lv_if_eq (tgt := 105) hx hb dX1_each_98 (by decide) (fun c_98 => ?_) (fun c_98 => ?_)
              · refine lv_iconst (v := 0) hx hb dX1_each_105 (by decide) ?_
                refine y_asn_9 S hI (by omega) dX1_each_106 (fun H locs hI => ?_)
                exact y_vret S hI hr hk (by rw [hsf, yEach, yEv, yEv, if_neg c_53, if_pos c_66, if_neg c_85, if_pos c_98]) dX1_each_107
              · refine lv_iload_n hx hb dX1_each_101 rfl (lv_at hl 1 rfl) ?_
                refine lv_goto (tgt := 106) hx hb dX1_each_102 (by decide) ?_
                refine y_asn_9 S hI (by omega) dX1_each_106 (fun H locs hI => ?_)
                exact y_vret S hI hr hk (by rw [hsf, yEach, yEv, yEv, if_neg c_53, if_pos c_66, if_neg c_85, if_neg c_98]) dX1_each_107
          · refine lv_iload_n hx hb dX1_each_69 rfl (lv_at hl 1 rfl) ?_
            refine lv_goto (tgt := 74) hx hb dX1_each_70 (by decide) ?_
            refine y_asn_9 S hI (by omega) dX1_each_74 (fun H locs hI => ?_)
            refine lv_aload_n hx hb dX1_each_75 rfl (lv_at hl 2 rfl) ?_
            refine y_get_9 S hI dX1_each_76 ?_
            refine lv_iload_n hx hb dX1_each_79 rfl (lv_at hl 3 rfl) ?_
            refine lv_iconst (v := 4) hx hb dX1_each_80 (by decide) ?_
            refine lv_imul hx hb dX1_each_81 ?_
            refine tt_top (nI (a * 4)) (tt_mul4 _) ?_
            refine lv_iconst (v := 3) hx hb dX1_each_82 (by decide) ?_
            refine lv_iadd hx hb dX1_each_83 ?_
            refine tt_top (nI (a * 4 + 3)) (tt_add3 _) ?_
            refine lv_iload_n hx hb dX1_each_84 rfl (lv_at hl 0 rfl) ?_
            refine lv_if_eq (tgt := 105) hx hb dX1_each_85 (by decide) (fun c_85 => ?_) (fun c_85 => ?_)
            · exact absurd c_85 c_53
            · refine lv_aload_n hx hb dX1_each_88 rfl (lv_at hl 2 rfl) ?_
              refine y_get_4 S hI dX1_each_89 ?_
              refine lv_iload_n hx hb dX1_each_92 rfl (lv_at hl 3 rfl) ?_
              refine lv_iconst (v := 4) hx hb dX1_each_93 (by decide) ?_
              refine lv_imul hx hb dX1_each_94 ?_
              refine tt_top (nI (a * 4)) (tt_mul4 _) ?_
              refine lv_iconst (v := 3) hx hb dX1_each_95 (by decide) ?_
              refine lv_iadd hx hb dX1_each_96 ?_
              refine tt_top (nI (a * 4 + 3)) (tt_add3 _) ?_
              refine y_aln_4 S hI (by omega) dX1_each_97 ?_
              refine tt_top (σ 4 (a * 4 + 3)) rfl ?_
              refine lv_if_eq (tgt := 105) hx hb dX1_each_98 (by decide) (fun c_98 => ?_) (fun c_98 => ?_)
              · refine lv_iconst (v := 0) hx hb dX1_each_105 (by decide) ?_
                refine y_asn_9 S hI (by omega) dX1_each_106 (fun H locs hI => ?_)
                exact y_vret S hI hr hk (by rw [hsf, yEach, yEv, yEv, if_neg c_53, if_neg c_66, if_neg c_85, if_pos c_98]) dX1_each_107
              · refine lv_iload_n hx hb dX1_each_101 rfl (lv_at hl 1 rfl) ?_
                refine lv_goto (tgt := 106) hx hb dX1_each_102 (by decide) ?_
                refine y_asn_9 S hI (by omega) dX1_each_106 (fun H locs hI => ?_)
                exact y_vret S hI hr hk (by rw [hsf, yEach, yEv, yEv, if_neg c_53, if_neg c_66, if_neg c_85, if_neg c_98]) dX1_each_107
      · exact absurd (by rw [hN]; exact nI_le (Nat.le_refl k) (by omega)) c_9
    | succ f ih =>
      intro k H locs ls hk2 hI hl
      refine lv_iload_n hx hb dX1_each_4 rfl (lv_at hl 0 rfl) ?_
      refine lv_aload_n hx hb dX1_each_5 rfl (lv_at hl 2 rfl) ?_
      refine y_get_0 S hI dX1_each_6 ?_
      refine lv_icmp_ge (tgt := 36) hx hb dX1_each_9 (by decide) (fun c_9 => ?_) (fun c_9 => ?_)
      · exact absurd c_9 (by rw [hN]; exact nI_ge (by omega) (by omega))
      · refine lv_aload_n hx hb dX1_each_12 rfl (lv_at hl 2 rfl) ?_
        refine lv_iload_n hx hb dX1_each_13 rfl (lv_at hl 3 rfl) ?_
        refine lv_iload_n hx hb dX1_each_14 rfl (lv_at hl 0 rfl) ?_
        refine y_calli (n := 2) S hI hA [.int (nI a), .int (nI k)] (metY_above l _ a k (by omega) hp) (lw_V q293 q295 qs19 q28 q296) rfl rfl (by decide +kernel) ⟨by decide, by decide⟩ rfl hl.1 rfl (Nat.le_of_ble_eq_true rfl) dX1_each_15 ⟨by decide, by decide⟩ (fun H locs hI => ?_)
        refine lv_if_eq (tgt := 30) hx hb dX1_each_18 (by decide) (fun c_18 => ?_) (fun c_18 => ?_)
        · refine lv_iinc (v := nI (k + 1)) (lv' := [(3, .int (nI (k + 1))), (2, .int (ySumM σ a (k))), (0, .ref (h 0)), (1, .int (nI a))]) hx hb dX1_each_30 hl (k := 0) rfl (tt_inc _) (by decide) rfl (fun ls hl => ?_)
          refine lv_goto (tgt := 4) hx hb dX1_each_33 (by decide) ?_
          exact ih (k + 1) H locs ls (by omega) hI (by rw [show ySumM σ a (k + 1) = ySumM σ a (k) from (by rw [ySumM, if_pos c_18])]; exact lv_sub hl [0, 1, 2, 3] rfl)
        · refine lv_iload_n hx hb dX1_each_21 rfl (lv_at hl 1 rfl) ?_
          refine lv_aload_n hx hb dX1_each_22 rfl (lv_at hl 2 rfl) ?_
          refine y_get_10 S hI dX1_each_23 ?_
          refine lv_iload_n hx hb dX1_each_26 rfl (lv_at hl 0 rfl) ?_
          refine y_aln_10 S hI (by omega) dX1_each_27 ?_
          refine lv_iadd hx hb dX1_each_28 ?_
          refine lv_istore_n (lv' := [(2, .int ((ySumM σ a (k)) + (σ 10 k))), (3, .int (nI k)), (0, .ref (h 0)), (1, .int (nI a))]) hx hb dX1_each_29 rfl hl (by decide) rfl (fun ls hl => ?_)
          refine lv_iinc (v := nI (k + 1)) (lv' := [(3, .int (nI (k + 1))), (2, .int ((ySumM σ a (k)) + (σ 10 k))), (0, .ref (h 0)), (1, .int (nI a))]) hx hb dX1_each_30 hl (k := 1) rfl (tt_inc _) (by decide) rfl (fun ls hl => ?_)
          refine lv_goto (tgt := 4) hx hb dX1_each_33 (by decide) ?_
          exact ih (k + 1) H locs ls (by omega) hI (by rw [show ySumM σ a (k + 1) = (ySumM σ a (k)) + (σ 10 k) from (by rw [ySumM, if_neg c_18])]; exact lv_sub hl [0, 1, 2, 3] rfl)
  exact key4 N 0 _ _ _ (by omega) hI (lv_sub hl [0, 1, 2, 3] rfl)
set_option maxHeartbeats 4000000 in
set_option maxRecDepth 100000 in
theorem metY_run (l : Launch) (σ : ttS) (tg : Int32) {N : Nat} (hN : σ 0 0 = nI N) (h24 : N ≤ 24) (hp : ∀ j, j < 24 → 0 ≤ σ 2 j → vp_in (σ 2 j) 24) (hT : ∀ j, j < 24 → ∃ K : Nat, K ≤ 4 ∧ σ 5 j = nI K) : MY l yX1_run cX1_run 4 (some .int) (rmL 4) [.int tg] σ (yRunR σ N tg) (yRunS σ N tg) := by
  refine y_starti rfl rfl (fun h => Nat.le_of_ble_eq_true rfl) ?_
  intro p e s m args below meth c D h d A S hr hk hA hI ls hl
  have hx := S.1
  have hb := S.2.1
  have hl : lv_has ls 4 [(0, .ref (h 0)), (1, .int tg)] := hl
  obtain ⟨rv, hrv⟩ : ∃ z, z = yRunR σ N tg := ⟨_, rfl⟩
  rw [← hrv]
  obtain ⟨sf, hsf⟩ : ∃ z, z = yRunS σ N tg := ⟨_, rfl⟩
  rw [← hsf]
  refine lv_iconst (v := 0) hx hb dX1_run_0 (by decide) ?_
  refine lv_istore_n (lv' := [(2, .int 0), (0, .ref (h 0)), (1, .int tg)]) hx hb dX1_run_1 rfl hl (by decide) rfl (fun ls hl => ?_)
  have key2 : ∀ (f : Nat) (k : Nat) (H : Heap) (locs : List Loc) (ls : Array Slot), (k + f = 96) → bY D A h d (yR1 σ k) s H locs → lv_has ls 4 [(2, .int (nI k)), (0, .ref (h 0)), (1, .int tg)] → W p l e (rmL 4) s m args below meth c H locs 0 0 (yQi below D h d A args s rv sf) (F0 m 2 ls []) := by
    intro f
    induction f with
    | zero =>
      intro k H locs ls hk2 hI hl
      obtain rfl : k = 96 := by omega
      refine lv_iload_n hx hb dX1_run_2 rfl (lv_at hl 0 rfl) ?_
      refine lv_bipush (v := 96) hx hb dX1_run_3 (by decide) ?_
      refine lv_icmp_ge (tgt := 21) hx hb dX1_run_5 (by decide) (fun c_5 => ?_) (fun c_5 => ?_)
      · refine lv_iconst (v := 0) hx hb dX1_run_21 (by decide) ?_
        refine lv_istore_n (lv' := [(2, .int 0), (0, .ref (h 0)), (1, .int tg)]) hx hb dX1_run_22 rfl hl (by decide) rfl (fun ls hl => ?_)
        have key23 : ∀ (f : Nat) (k : Nat) (H : Heap) (locs : List Loc) (ls : Array Slot), (k + f = 24) → bY D A h d (yR2 (yR1 σ 96) k) s H locs → lv_has ls 4 [(2, .int (nI k)), (0, .ref (h 0)), (1, .int tg)] → W p l e (rmL 4) s m args below meth c H locs 0 0 (yQi below D h d A args s rv sf) (F0 m 23 ls []) := by
          intro f
          induction f with
          | zero =>
            intro k H locs ls hk2 hI hl
            obtain rfl : k = 24 := by omega
            refine lv_iload_n hx hb dX1_run_23 rfl (lv_at hl 0 rfl) ?_
            refine lv_bipush (v := 24) hx hb dX1_run_24 (by decide) ?_
            refine lv_icmp_ge (tgt := 49) hx hb dX1_run_26 (by decide) (fun c_26 => ?_) (fun c_26 => ?_)
            · refine lv_iconst (v := 0) hx hb dX1_run_49 (by decide) ?_
              refine lv_istore_n (lv' := [(2, .int 0), (0, .ref (h 0)), (1, .int tg)]) hx hb dX1_run_50 rfl hl (by decide) rfl (fun ls hl => ?_)
              have key51 : ∀ (f : Nat) (k : Nat) (H : Heap) (locs : List Loc) (ls : Array Slot), (k + f = N) → bY D A h d (yM1 tg N (yReset σ) k) s H locs → lv_has ls 4 [(2, .int (nI k)), (0, .ref (h 0)), (1, .int tg)] → W p l e (rmL 4) s m args below meth c H locs 0 0 (yQi below D h d A args s rv sf) (F0 m 51 ls []) := by
                intro f
                induction f with
                | zero =>
                  intro k H locs ls hk2 hI hl
                  have e0 := (yM1_k tg N (yReset σ) k (k := 0) (by decide)).trans (yReset_k σ (by decide))
                  have hN2 := (congrFun e0 0).trans hN
                  obtain rfl : k = N := by omega
                  refine lv_iload_n hx hb dX1_run_51 rfl (lv_at hl 0 rfl) ?_
                  refine lv_aload_n hx hb dX1_run_52 rfl (lv_at hl 1 rfl) ?_
                  refine y_get_0 S hI dX1_run_53 ?_
                  refine lv_icmp_ge (tgt := 126) hx hb dX1_run_56 (by decide) (fun c_56 => ?_) (fun c_56 => ?_)
                  · refine lv_iconst (v := 0) hx hb dX1_run_126 (by decide) ?_
                    refine lv_istore_n (lv' := [(2, .int 0), (0, .ref (h 0)), (1, .int tg)]) hx hb dX1_run_127 rfl hl (by decide) rfl (fun ls hl => ?_)
                    have key128 : ∀ (f : Nat) (i : Nat) (H : Heap) (locs : List Loc) (ls : Array Slot), (i + f = k) → bY D A h d (yE k (yM1 tg k (yReset σ) k) i) s H locs → lv_has ls 4 [(2, .int (nI i)), (0, .ref (h 0)), (1, .int tg)] → W p l e (rmL 4) s m args below meth c H locs 0 0 (yQi below D h d A args s rv sf) (F0 m 128 ls []) := by
                      intro f
                      induction f with
                      | zero =>
                        intro i H locs ls hi2 hI hl
                        obtain rfl : k = i := by omega
                        have hN3 := (congrFun (yE_k k (yM1 tg k (yReset σ) k) k (k := 0) (by decide)) 0).trans hN2
                        refine lv_iload_n hx hb dX1_run_128 rfl (lv_at hl 0 rfl) ?_
                        refine lv_aload_n hx hb dX1_run_129 rfl (lv_at hl 1 rfl) ?_
                        refine y_get_0 S hI dX1_run_130 ?_
                        refine lv_icmp_ge (tgt := 156) hx hb dX1_run_133 (by decide) (fun c_133 => ?_) (fun c_133 => ?_)
                        · refine lv_aload_n hx hb dX1_run_156 rfl (lv_at hl 1 rfl) ?_
                          refine lv_iconst (v := 2) hx hb dX1_run_157 (by decide) ?_
                          refine y_calli (n := 1) S hI hA [.int 2] (metY_count l _ 2 hN3 h24) (lw_V q321 q322 q323 q28 q324) rfl rfl (by decide +kernel) ⟨by decide, by decide⟩ rfl hl.1 rfl (Nat.le_of_ble_eq_true rfl) dX1_run_158 ⟨by decide, by decide⟩ (fun H locs hI => ?_)
                          exact y_iret S hI hr hk (by rw [hrv]; rfl) (by rw [hsf]; rfl) dX1_run_161
                        · exact absurd (by rw [hN3]; exact nI_le (Nat.le_refl k) (by omega)) c_133
                      | succ f ih =>
                        intro i H locs ls hi2 hI hl
                        have hN3 := (congrFun (yE_k k (yM1 tg k (yReset σ) k) i (k := 0) (by decide)) 0).trans hN2
                        have e2 := (yE_k k (yM1 tg k (yReset σ) k) i (k := 2) (by decide)).trans ((yM1_k tg k (yReset σ) k (k := 2) (by decide)).trans (yReset_k σ (by decide)))
                        refine lv_iload_n hx hb dX1_run_128 rfl (lv_at hl 0 rfl) ?_
                        refine lv_aload_n hx hb dX1_run_129 rfl (lv_at hl 1 rfl) ?_
                        refine y_get_0 S hI dX1_run_130 ?_
                        refine lv_icmp_ge (tgt := 156) hx hb dX1_run_133 (by decide) (fun c_133 => ?_) (fun c_133 => ?_)
                        · exact absurd c_133 (by rw [hN3]; exact nI_ge (by omega) (by omega))
                        · refine lv_aload_n hx hb dX1_run_136 rfl (lv_at hl 1 rfl) ?_
                          refine y_get_1 S hI dX1_run_137 ?_
                          refine lv_iload_n hx hb dX1_run_140 rfl (lv_at hl 0 rfl) ?_
                          refine y_aln_1 S hI (by omega) dX1_run_141 ?_
                          refine lv_if_ne (tgt := 150) hx hb dX1_run_142 (by decide) (fun c_142 => ?_) (fun c_142 => ?_)
                          · refine lv_iinc (v := nI (i + 1)) (lv' := [(2, .int (nI (i + 1))), (0, .ref (h 0)), (1, .int tg)]) hx hb dX1_run_150 hl (k := 0) rfl (tt_inc _) (by decide) rfl (fun ls hl => ?_)
                            refine lv_goto (tgt := 128) hx hb dX1_run_153 (by decide) ?_
                            exact ih (i + 1) H locs ls (by omega) (by rw [show yE k (yM1 tg k (yReset σ) k) (i + 1) = yE k (yM1 tg k (yReset σ) k) i from by rw [yE, if_neg c_142]]; exact hI) (lv_sub hl [0, 1, 2] rfl)
                          · refine lv_aload_n hx hb dX1_run_145 rfl (lv_at hl 1 rfl) ?_
                            refine lv_iload_n hx hb dX1_run_146 rfl (lv_at hl 0 rfl) ?_
                            refine y_callv (n := 1) S hI hA [.int (nI i)] (metY_each l _ i (by omega) hN3 h24 (by rw [e2]; exact hp)) (lw_V q317 q319 qs25 q28 q320) rfl rfl (by decide +kernel) ⟨by decide, by decide⟩ rfl hl.1 rfl (Nat.le_of_ble_eq_true rfl) dX1_run_147 ⟨by decide, by decide⟩ (fun H locs hI => ?_)
                            refine lv_iinc (v := nI (i + 1)) (lv' := [(2, .int (nI (i + 1))), (0, .ref (h 0)), (1, .int tg)]) hx hb dX1_run_150 hl (k := 0) rfl (tt_inc _) (by decide) rfl (fun ls hl => ?_)
                            refine lv_goto (tgt := 128) hx hb dX1_run_153 (by decide) ?_
                            exact ih (i + 1) H locs ls (by omega) (by rw [show yE k (yM1 tg k (yReset σ) k) (i + 1) = yEach (yE k (yM1 tg k (yReset σ) k) i) k i from by rw [yE, if_pos c_142]]; exact hI) (lv_sub hl [0, 1, 2] rfl)
                    exact key128 k 0 _ _ _ (by omega) hI (lv_sub hl [0, 1, 2] rfl)
                  · exact absurd (by rw [hN2]; exact nI_le (Nat.le_refl k) (by omega)) c_56
                | succ f ih =>
                  intro k H locs ls hk2 hI hl
                  have e0 := (yM1_k tg N (yReset σ) k (k := 0) (by decide)).trans (yReset_k σ (by decide))
                  have e1 := (yM1_k tg N (yReset σ) k (k := 1) (by decide)).trans (yReset_k σ (by decide))
                  have e2 := (yM1_k tg N (yReset σ) k (k := 2) (by decide)).trans (yReset_k σ (by decide))
                  have e5 := (yM1_k tg N (yReset σ) k (k := 5) (by decide)).trans (yReset_k σ (by decide))
                  have hN2 := (congrFun e0 0).trans hN
                  have hp2 : ∀ j, j < 24 → 0 ≤ yM1 tg N (yReset σ) k 2 j → vp_in (yM1 tg N (yReset σ) k 2 j) 24 := by rw [e2]; exact hp
                  obtain ⟨K, hK4, hK⟩ := hT k (by omega)
                  have hK2 := (congrFun e5 k).trans hK
                  have hKc : (yM1 tg N (yReset σ) k 5 k).toNatClampNeg = K := by rw [hK2]; exact nI_clamp (by omega)
                  refine lv_iload_n hx hb dX1_run_51 rfl (lv_at hl 0 rfl) ?_
                  refine lv_aload_n hx hb dX1_run_52 rfl (lv_at hl 1 rfl) ?_
                  refine y_get_0 S hI dX1_run_53 ?_
                  refine lv_icmp_ge (tgt := 126) hx hb dX1_run_56 (by decide) (fun c_56 => ?_) (fun c_56 => ?_)
                  · exact absurd c_56 (by rw [hN2]; exact nI_ge (by omega) (by omega))
                  · refine lv_aload_n hx hb dX1_run_59 rfl (lv_at hl 1 rfl) ?_
                    refine lv_iload_n hx hb dX1_run_60 rfl (lv_at hl 0 rfl) ?_
                    refine lv_iconst (v := 0) hx hb dX1_run_61 (by decide) ?_
                    refine y_calli (n := 2) S hI hA [.int (nI k), .int 0] (metY_passes l _ k 0 (by omega) (by decide) hN2 h24 hp2) (lw_V q289 q291 qs18 q28 q292) rfl rfl (by decide +kernel) ⟨by decide, by decide⟩ rfl hl.1 rfl (Nat.le_of_ble_eq_true rfl) dX1_run_62 ⟨by decide, by decide⟩ (fun H locs hI => ?_)
                    refine lv_istore_n (lv' := [(3, .int (yPas (yM1 tg N (yReset σ) k) N k 0)), (2, .int (nI k)), (0, .ref (h 0)), (1, .int tg)]) hx hb dX1_run_65 rfl hl (by decide) rfl (fun ls hl => ?_)
                    refine lv_aload_n hx hb dX1_run_66 rfl (lv_at hl 2 rfl) ?_
                    refine y_get_1 S hI dX1_run_67 ?_
                    refine lv_iload_n hx hb dX1_run_70 rfl (lv_at hl 1 rfl) ?_
                    refine y_aln_1 S hI (by omega) dX1_run_71 ?_
                    refine lv_if_eq (tgt := 93) hx hb dX1_run_72 (by decide) (fun c_72 => ?_) (fun c_72 => ?_)
                    · refine lv_aload_n hx hb dX1_run_93 rfl (lv_at hl 2 rfl) ?_
                      refine y_get_1 S hI dX1_run_94 ?_
                      refine lv_iload_n hx hb dX1_run_97 rfl (lv_at hl 1 rfl) ?_
                      refine y_aln_1 S hI (by omega) dX1_run_98 ?_
                      refine tt_top ((yM1 tg N (yReset σ) k) 1 k) rfl ?_
                      refine lv_if_ne (tgt := 120) hx hb dX1_run_99 (by decide) (fun c_99 => ?_) (fun c_99 => ?_)
                      · exact absurd c_72 c_99
                      · refine lv_iload_n hx hb dX1_run_102 rfl (lv_at hl 0 rfl) ?_
                        refine lv_if_eq (tgt := 120) hx hb dX1_run_103 (by decide) (fun c_103 => ?_) (fun c_103 => ?_)
                        · refine lv_iinc (v := nI (k + 1)) (lv' := [(2, .int (nI (k + 1))), (3, .int (yPas (yM1 tg N (yReset σ) k) N k 0)), (0, .ref (h 0)), (1, .int tg)]) hx hb dX1_run_120 hl (k := 1) rfl (tt_inc _) (by decide) rfl (fun ls hl => ?_)
                          refine lv_goto (tgt := 51) hx hb dX1_run_123 (by decide) ?_
                          exact ih (k + 1) H locs ls (by omega) (by rw [show yM1 tg N (yReset σ) (k + 1) = yM1 tg N (yReset σ) k from by rw [yM1, yNode, if_pos c_72, if_pos c_103]]; exact hI) (lv_sub hl [0, 2, 3] rfl)
                        · refine lv_aload_n hx hb dX1_run_106 rfl (lv_at hl 2 rfl) ?_
                          refine lv_iload_n hx hb dX1_run_107 rfl (lv_at hl 1 rfl) ?_
                          refine lv_iload_n hx hb dX1_run_108 rfl (lv_at hl 3 rfl) ?_
                          refine y_calli (n := 2) S hI hA [.int (nI k), .int tg] (metY_inUse l _ k tg hN2 h24 hp2) (lw_V q309 q311 qs23 q28 q312) rfl rfl (by decide +kernel) ⟨by decide, by decide⟩ rfl hl.1 rfl (Nat.le_of_ble_eq_true rfl) dX1_run_109 ⟨by decide, by decide⟩ (fun H locs hI => ?_)
                          refine lv_if_eq (tgt := 120) hx hb dX1_run_112 (by decide) (fun c_112 => ?_) (fun c_112 => ?_)
                          · refine lv_iinc (v := nI (k + 1)) (lv' := [(2, .int (nI (k + 1))), (3, .int (yPas (yM1 tg N (yReset σ) k) N k 0)), (0, .ref (h 0)), (1, .int tg)]) hx hb dX1_run_120 hl (k := 1) rfl (tt_inc _) (by decide) rfl (fun ls hl => ?_)
                            refine lv_goto (tgt := 51) hx hb dX1_run_123 (by decide) ?_
                            exact ih (k + 1) H locs ls (by omega) (by rw [show yM1 tg N (yReset σ) (k + 1) = yM1 tg N (yReset σ) k from by rw [yM1, yNode, if_pos c_72, if_neg c_103, if_pos c_112]]; exact hI) (lv_sub hl [0, 2, 3] rfl)
                          · refine lv_aload_n hx hb dX1_run_115 rfl (lv_at hl 2 rfl) ?_
                            refine lv_iload_n hx hb dX1_run_116 rfl (lv_at hl 1 rfl) ?_
                            refine y_callv (n := 1) S hI hA [.int (nI k)] (metY_runContainer l _ k (by omega)) (lw_V q313 q315 qs24 q28 q316) rfl rfl (by decide +kernel) ⟨by decide, by decide⟩ rfl hl.1 rfl (Nat.le_of_ble_eq_true rfl) dX1_run_117 ⟨by decide, by decide⟩ (fun H locs hI => ?_)
                            refine lv_iinc (v := nI (k + 1)) (lv' := [(2, .int (nI (k + 1))), (3, .int (yPas (yM1 tg N (yReset σ) k) N k 0)), (0, .ref (h 0)), (1, .int tg)]) hx hb dX1_run_120 hl (k := 1) rfl (tt_inc _) (by decide) rfl (fun ls hl => ?_)
                            refine lv_goto (tgt := 51) hx hb dX1_run_123 (by decide) ?_
                            exact ih (k + 1) H locs ls (by omega) (by rw [show yM1 tg N (yReset σ) (k + 1) = yRC (yM1 tg N (yReset σ) k) k from by rw [yM1, yNode, if_pos c_72, if_neg c_103, if_neg c_112]]; exact hI) (lv_sub hl [0, 2, 3] rfl)
                    · refine lv_iload_n hx hb dX1_run_75 rfl (lv_at hl 0 rfl) ?_
                      refine lv_if_eq (tgt := 93) hx hb dX1_run_76 (by decide) (fun c_76 => ?_) (fun c_76 => ?_)
                      · refine lv_aload_n hx hb dX1_run_93 rfl (lv_at hl 2 rfl) ?_
                        refine y_get_1 S hI dX1_run_94 ?_
                        refine lv_iload_n hx hb dX1_run_97 rfl (lv_at hl 1 rfl) ?_
                        refine y_aln_1 S hI (by omega) dX1_run_98 ?_
                        refine tt_top ((yM1 tg N (yReset σ) k) 1 k) rfl ?_
                        refine lv_if_ne (tgt := 120) hx hb dX1_run_99 (by decide) (fun c_99 => ?_) (fun c_99 => ?_)
                        · refine lv_iinc (v := nI (k + 1)) (lv' := [(2, .int (nI (k + 1))), (3, .int (yPas (yM1 tg N (yReset σ) k) N k 0)), (0, .ref (h 0)), (1, .int tg)]) hx hb dX1_run_120 hl (k := 1) rfl (tt_inc _) (by decide) rfl (fun ls hl => ?_)
                          refine lv_goto (tgt := 51) hx hb dX1_run_123 (by decide) ?_
                          exact ih (k + 1) H locs ls (by omega) (by rw [show yM1 tg N (yReset σ) (k + 1) = yM1 tg N (yReset σ) k from by rw [yM1, yNode, if_neg c_72, if_pos c_76]]; exact hI) (lv_sub hl [0, 2, 3] rfl)
                        · exact absurd c_99 c_72
                      · refine lv_aload_n hx hb dX1_run_79 rfl (lv_at hl 2 rfl) ?_
                        refine lv_iload_n hx hb dX1_run_80 rfl (lv_at hl 1 rfl) ?_
                        refine lv_iload_n hx hb dX1_run_81 rfl (lv_at hl 3 rfl) ?_
                        refine y_calli (n := 2) S hI hA [.int (nI k), .int tg] (metY_selected l _ k tg (by omega) hN2 h24 hp2) (lw_V q297 q299 qs20 q28 q300) rfl rfl (by decide +kernel) ⟨by decide, by decide⟩ rfl hl.1 rfl (Nat.le_of_ble_eq_true rfl) dX1_run_82 ⟨by decide, by decide⟩ (fun H locs hI => ?_)
                        refine lv_if_eq (tgt := 93) hx hb dX1_run_85 (by decide) (fun c_85 => ?_) (fun c_85 => ?_)
                        · refine lv_aload_n hx hb dX1_run_93 rfl (lv_at hl 2 rfl) ?_
                          refine y_get_1 S hI dX1_run_94 ?_
                          refine lv_iload_n hx hb dX1_run_97 rfl (lv_at hl 1 rfl) ?_
                          refine y_aln_1 S hI (by omega) dX1_run_98 ?_
                          refine tt_top ((yM1 tg N (yReset σ) k) 1 k) rfl ?_
                          refine lv_if_ne (tgt := 120) hx hb dX1_run_99 (by decide) (fun c_99 => ?_) (fun c_99 => ?_)
                          · refine lv_iinc (v := nI (k + 1)) (lv' := [(2, .int (nI (k + 1))), (3, .int (yPas (yM1 tg N (yReset σ) k) N k 0)), (0, .ref (h 0)), (1, .int tg)]) hx hb dX1_run_120 hl (k := 1) rfl (tt_inc _) (by decide) rfl (fun ls hl => ?_)
                            refine lv_goto (tgt := 51) hx hb dX1_run_123 (by decide) ?_
                            exact ih (k + 1) H locs ls (by omega) (by rw [show yM1 tg N (yReset σ) (k + 1) = yM1 tg N (yReset σ) k from by rw [yM1, yNode, if_neg c_72, if_neg c_76, if_pos c_85]]; exact hI) (lv_sub hl [0, 2, 3] rfl)
                          · exact absurd c_99 c_72
                        · refine lv_aload_n hx hb dX1_run_88 rfl (lv_at hl 2 rfl) ?_
                          refine lv_iload_n hx hb dX1_run_89 rfl (lv_at hl 1 rfl) ?_
                          refine y_callv (n := 1) S hI hA [.int (nI k)] (metY_runTest l _ k (by omega) hN2 h24 hp2 K hK2 hK4) (lw_V q301 q303 qs21 q28 q304) rfl rfl (by decide +kernel) ⟨by decide, by decide⟩ rfl hl.1 rfl (Nat.le_of_ble_eq_true rfl) dX1_run_90 ⟨by decide, by decide⟩ (fun H locs hI => ?_)
                          refine lv_aload_n hx hb dX1_run_93 rfl (lv_at hl 2 rfl) ?_
                          refine y_get_1 S hI dX1_run_94 ?_
                          refine lv_iload_n hx hb dX1_run_97 rfl (lv_at hl 1 rfl) ?_
                          refine y_aln_1 S hI (by omega) dX1_run_98 ?_
                          refine tt_top ((yM1 tg N (yReset σ) k) 1 k) (congrFun (yRT_k _ _ _ _ (by decide)) k) ?_
                          refine lv_if_ne (tgt := 120) hx hb dX1_run_99 (by decide) (fun c_99 => ?_) (fun c_99 => ?_)
                          · refine lv_iinc (v := nI (k + 1)) (lv' := [(2, .int (nI (k + 1))), (3, .int (yPas (yM1 tg N (yReset σ) k) N k 0)), (0, .ref (h 0)), (1, .int tg)]) hx hb dX1_run_120 hl (k := 1) rfl (tt_inc _) (by decide) rfl (fun ls hl => ?_)
                            refine lv_goto (tgt := 51) hx hb dX1_run_123 (by decide) ?_
                            exact ih (k + 1) H locs ls (by omega) (by rw [show yM1 tg N (yReset σ) (k + 1) = yRT (yM1 tg N (yReset σ) k) N K k from by rw [yM1, yNode, if_neg c_72, if_neg c_76, if_neg c_85, hKc]]; exact hI) (lv_sub hl [0, 2, 3] rfl)
                          · exact absurd c_99 c_72
              exact key51 N 0 _ _ _ (by omega) hI (lv_sub hl [0, 1, 2] rfl)
            · exact absurd (by decide) c_26
          | succ f ih =>
            intro k H locs ls hk2 hI hl
            refine lv_iload_n hx hb dX1_run_23 rfl (lv_at hl 0 rfl) ?_
            refine lv_bipush (v := 24) hx hb dX1_run_24 (by decide) ?_
            refine lv_icmp_ge (tgt := 49) hx hb dX1_run_26 (by decide) (fun c_26 => ?_) (fun c_26 => ?_)
            · exact absurd c_26 (nI_ge (b := 24) (by omega) (by decide))
            · refine lv_aload_n hx hb dX1_run_29 rfl (lv_at hl 1 rfl) ?_
              refine y_get_8 S hI dX1_run_30 ?_
              refine lv_iload_n hx hb dX1_run_33 rfl (lv_at hl 0 rfl) ?_
              refine lv_iconst (v := 0) hx hb dX1_run_34 (by decide) ?_
              refine y_asn_8 S hI (by omega) dX1_run_35 (fun H locs hI => ?_)
              refine lv_aload_n hx hb dX1_run_36 rfl (lv_at hl 1 rfl) ?_
              refine y_get_10 S hI dX1_run_37 ?_
              refine lv_iload_n hx hb dX1_run_40 rfl (lv_at hl 0 rfl) ?_
              refine lv_iconst (v := 0) hx hb dX1_run_41 (by decide) ?_
              refine y_asn_10 S hI (by omega) dX1_run_42 (fun H locs hI => ?_)
              refine lv_iinc (v := nI (k + 1)) (lv' := [(2, .int (nI (k + 1))), (0, .ref (h 0)), (1, .int tg)]) hx hb dX1_run_43 hl (k := 0) rfl (tt_inc _) (by decide) rfl (fun ls hl => ?_)
              refine lv_goto (tgt := 23) hx hb dX1_run_46 (by decide) ?_
              exact ih (k + 1) H locs ls (by omega) hI (lv_sub hl [0, 1, 2] rfl)
        exact key23 24 0 _ _ _ (by omega) hI (lv_sub hl [0, 1, 2] rfl)
      · exact absurd (by decide) c_5
    | succ f ih =>
      intro k H locs ls hk2 hI hl
      refine lv_iload_n hx hb dX1_run_2 rfl (lv_at hl 0 rfl) ?_
      refine lv_bipush (v := 96) hx hb dX1_run_3 (by decide) ?_
      refine lv_icmp_ge (tgt := 21) hx hb dX1_run_5 (by decide) (fun c_5 => ?_) (fun c_5 => ?_)
      · exact absurd c_5 (nI_ge (b := 96) (by omega) (by decide))
      · refine lv_aload_n hx hb dX1_run_8 rfl (lv_at hl 1 rfl) ?_
        refine y_get_9 S hI dX1_run_9 ?_
        refine lv_iload_n hx hb dX1_run_12 rfl (lv_at hl 0 rfl) ?_
        refine lv_iconst (v := 0) hx hb dX1_run_13 (by decide) ?_
        refine y_asn_9 S hI (by omega) dX1_run_14 (fun H locs hI => ?_)
        refine lv_iinc (v := nI (k + 1)) (lv' := [(2, .int (nI (k + 1))), (0, .ref (h 0)), (1, .int tg)]) hx hb dX1_run_15 hl (k := 0) rfl (tt_inc _) (by decide) rfl (fun ls hl => ?_)
        refine lv_goto (tgt := 2) hx hb dX1_run_18 (by decide) ?_
        exact ih (k + 1) H locs ls (by omega) hI (lv_sub hl [0, 1, 2] rfl)
  exact key2 96 0 _ _ _ (by omega) hI (lv_sub hl [0, 1, 2] rfl)
end
section
set_option maxRecDepth 100000
def tt0 : ttS := fun _ _ => 0
def xInit : ttS := xClear (ttU tt0 0 0 1) 0 (-1) 0
def yInit : ttS := ttU (ttU tt0 0 0 1) 2 0 (-1)
def xW0 (h0 : Nat) : va_W := [(h0, .inr (0, [.int 0, .null, .null, .null, .null, .null, .null, .null, .null, .null, .null, .null, .null, .null, .int 0, .null, .int 0, .null, .int 0]))]
def rmXi : Room := { frames := 1, cells := 15, slots := 504, locals := 27 }
set_option maxHeartbeats 4000000 in
theorem metX_init (l : Launch) (D : va_G) (h0 sz : Nat) : Met l yX0_init (ws_ yX0_init cX0_init 1 none) rmXi (va_Pc [.ref h0] (fun U => U.heap.size = sz ∧ va_P D vwCl (xW0 h0) U.heap ∧ va_K D vwCl [] U ∧ va_D (fun _ => True) (xW0 h0))) (va_Qv (fun (u : (Nat → Nat) × (Nat → ClassId)) => u.1 0 = h0) (fun u t => xpost D u.1 u.2 (va_A (xW0 h0) sz) xInit t) (va_A (xW0 h0) sz)) 15 504 (va_A (xW0 h0) sz) := by
  refine Met.ofW (cc := cX0_init) (maxL := 1) (ret := none) (by decide) rfl ?_
  intro p e s m args below meth c s₁ B hml hv
  obtain ⟨rfl, hsz, hP, hK, hD0⟩ := hv
  have hx := B.exec
  have hb := B.bytes
  have hr := B.returns
  have hts := atoms_spec (ws := ws_ yX0_init cX0_init 1 none) B.pre
  have hts : ∀ w ∈ lw_all, w.before _ s = true := fun w h => hts w (List.mem_cons_of_mem _ h)
  have hown : s.vm.findClass RX0 = some m.cls := findClass_of_methodNamed B.named
  have hlocks := B.notSynchronized
  have hin : meth.name = "<init>" := (name_of_methodNamed B.named B.method).1
  subst hsz
  have hD := hD0.self (sz := s.heap.size)
  generalize hAe : va_A (xW0 h0) s.heap.size = A at hD ⊢
  have hA : ∀ q : Nat, s.heap.size ≤ q → A q := fun q h => by rw [← hAe]; exact Or.inr h
  have hS : va_S A s.heap s.heap [] := va_S.rf
  have hP : va_P D vwCl [(h0, .inr (0, [.int 0, .null, .null, .null, .null, .null, .null, .null, .null, .null, .null, .null, .null, .null, .int 0, .null, .int 0, .null, .int 0]))] s.heap := hP
  have hD : va_D A [(h0, .inr (0, [.int 0, .null, .null, .null, .null, .null, .null, .null, .null, .null, .null, .null, .null, .null, .int 0, .null, .int 0, .null, .int 0]))] := hD
  have hl := lv_entry ([.ref h0]) (n := 1) (Nat.le_of_ble_eq_true rfl)
  rw [lg_entry_eq]
  generalize (lg_sl ([.ref h0]) ++ List.replicate (1 - (lg_sl ([.ref h0])).length) Slot.unset).toArray = ls at hl ⊢
  have hl : lv_has ls 1 [(0, .ref h0)] := hl
  refine lv_aload_n hx hb dX0_init_0 rfl (lv_at hl 0 rfl) ?_
  refine W.objInit hx hb hown (hts _ q34) (hts _ q35) (hts _ q36) rfl (by rw [hml]; exact hl.1) rfl dX0_init_1 (Nat.le_of_ble_eq_true rfl) (Nat.le_of_ble_eq_true rfl) ?_
  refine W.eq (g2 := F0 m 4 ls []) rfl ?_
  refine lv_aload_n hx hb dX0_init_4 rfl (lv_at hl 0 rfl) ?_
  refine lv_bipush (v := 24) hx hb dX0_init_5 (by decide) ?_
  refine va_newa (a0 := (24, .inl (fun _ => 0))) (N' := 24) (atype := .boolean) (ty := .boolean) hx hb (hts _ q99) rfl hK hP hD hS hA (fun cA => rfl) (by decide) (by decide) (by decide) (Nat.le_of_ble_eq_true rfl) (Nat.le_of_ble_eq_true rfl) dX0_init_7 (fun a1 d1 H hK hP hD hS => ?_)
  refine W.widen (k := 1) (n := 24) (Nat.le_refl _) (Nat.le_refl _) ?_
  have hK : va_K D vwCl [(d1, .boolean)] s := hK
  have hP : va_P D vwCl [(h0, .inr (0, [.int 0, .null, .null, .null, .null, .null, .null, .null, .null, .null, .null, .null, .null, .null, .int 0, .null, .int 0, .null, .int 0])), (a1, .inl (d1, 24, .inl (fun _ => 0)))] H := hP
  have hD : va_D A [(h0, .inr (0, [.int 0, .null, .null, .null, .null, .null, .null, .null, .null, .null, .null, .null, .null, .null, .int 0, .null, .int 0, .null, .int 0])), (a1, .inl (d1, 24, .inl (fun _ => 0)))] := hD
  refine va_putF (D := D) (ci := 0) (v := .ref a1) (ty := .array .boolean) (C := RX0) (T := TX0) (N := 19) hx hb hts in_X0 tyX0 tyX0_ok nmX0 hown hK hP hD hS 0 rfl rfl 1 (by decide) (hts _ q42) (fun _ h9 => h9) rfl hin rfl (by decide +kernel) rfl rfl (Nat.le_of_ble_eq_true rfl) dX0_init_9 (fun H locs hP hD hS => ?_)
  have hP : va_P D vwCl [(h0, .inr (0, [.int 0, .ref a1, .null, .null, .null, .null, .null, .null, .null, .null, .null, .null, .null, .null, .int 0, .null, .int 0, .null, .int 0])), (a1, .inl (d1, 24, .inl (fun _ => 0)))] H := hP
  have hD : va_D A [(h0, .inr (0, [.int 0, .ref a1, .null, .null, .null, .null, .null, .null, .null, .null, .null, .null, .null, .null, .int 0, .null, .int 0, .null, .int 0])), (a1, .inl (d1, 24, .inl (fun _ => 0)))] := hD
  refine lv_aload_n hx hb dX0_init_12 rfl (lv_at hl 0 rfl) ?_
  refine lv_bipush (v := 24) hx hb dX0_init_13 (by decide) ?_
  refine va_newa (a0 := (24, .inl (fun _ => 0))) (N' := 24) (atype := .int) (ty := .int) hx hb (hts _ q100) rfl hK hP hD hS hA (fun cA => rfl) (by decide) (by decide) (by decide) (Nat.le_of_ble_eq_true rfl) (Nat.le_of_ble_eq_true rfl) dX0_init_15 (fun a2 d2 H hK hP hD hS => ?_)
  refine W.widen (k := 2) (n := 48) (Nat.le_refl _) (Nat.le_refl _) ?_
  have hK : va_K D vwCl [(d1, .boolean), (d2, .int)] s := hK
  have hP : va_P D vwCl [(h0, .inr (0, [.int 0, .ref a1, .null, .null, .null, .null, .null, .null, .null, .null, .null, .null, .null, .null, .int 0, .null, .int 0, .null, .int 0])), (a1, .inl (d1, 24, .inl (fun _ => 0))), (a2, .inl (d2, 24, .inl (fun _ => 0)))] H := hP
  have hD : va_D A [(h0, .inr (0, [.int 0, .ref a1, .null, .null, .null, .null, .null, .null, .null, .null, .null, .null, .null, .null, .int 0, .null, .int 0, .null, .int 0])), (a1, .inl (d1, 24, .inl (fun _ => 0))), (a2, .inl (d2, 24, .inl (fun _ => 0)))] := hD
  refine va_putF (D := D) (ci := 0) (v := .ref a2) (ty := .array .int) (C := RX0) (T := TX0) (N := 19) hx hb hts in_X0 tyX0 tyX0_ok nmX0 hown hK hP hD hS 0 rfl rfl 2 (by decide) (hts _ q43) (fun _ h9 => h9) rfl hin rfl (by decide +kernel) rfl rfl (Nat.le_of_ble_eq_true rfl) dX0_init_17 (fun H locs hP hD hS => ?_)
  have hP : va_P D vwCl [(h0, .inr (0, [.int 0, .ref a1, .ref a2, .null, .null, .null, .null, .null, .null, .null, .null, .null, .null, .null, .int 0, .null, .int 0, .null, .int 0])), (a1, .inl (d1, 24, .inl (fun _ => 0))), (a2, .inl (d2, 24, .inl (fun _ => 0)))] H := hP
  have hD : va_D A [(h0, .inr (0, [.int 0, .ref a1, .ref a2, .null, .null, .null, .null, .null, .null, .null, .null, .null, .null, .null, .int 0, .null, .int 0, .null, .int 0])), (a1, .inl (d1, 24, .inl (fun _ => 0))), (a2, .inl (d2, 24, .inl (fun _ => 0)))] := hD
  refine lv_aload_n hx hb dX0_init_20 rfl (lv_at hl 0 rfl) ?_
  refine lv_bipush (v := 24) hx hb dX0_init_21 (by decide) ?_
  refine va_newa (a0 := (24, .inl (fun _ => 0))) (N' := 24) (atype := .int) (ty := .int) hx hb (hts _ q100) rfl hK hP hD hS hA (fun cA => rfl) (by decide) (by decide) (by decide) (Nat.le_of_ble_eq_true rfl) (Nat.le_of_ble_eq_true rfl) dX0_init_23 (fun a3 d3 H hK hP hD hS => ?_)
  refine W.widen (k := 3) (n := 72) (Nat.le_refl _) (Nat.le_refl _) ?_
  have hK : va_K D vwCl [(d1, .boolean), (d2, .int), (d3, .int)] s := hK
  have hP : va_P D vwCl [(h0, .inr (0, [.int 0, .ref a1, .ref a2, .null, .null, .null, .null, .null, .null, .null, .null, .null, .null, .null, .int 0, .null, .int 0, .null, .int 0])), (a1, .inl (d1, 24, .inl (fun _ => 0))), (a2, .inl (d2, 24, .inl (fun _ => 0))), (a3, .inl (d3, 24, .inl (fun _ => 0)))] H := hP
  have hD : va_D A [(h0, .inr (0, [.int 0, .ref a1, .ref a2, .null, .null, .null, .null, .null, .null, .null, .null, .null, .null, .null, .int 0, .null, .int 0, .null, .int 0])), (a1, .inl (d1, 24, .inl (fun _ => 0))), (a2, .inl (d2, 24, .inl (fun _ => 0))), (a3, .inl (d3, 24, .inl (fun _ => 0)))] := hD
  refine va_putF (D := D) (ci := 0) (v := .ref a3) (ty := .array .int) (C := RX0) (T := TX0) (N := 19) hx hb hts in_X0 tyX0 tyX0_ok nmX0 hown hK hP hD hS 0 rfl rfl 3 (by decide) (hts _ q44) (fun _ h9 => h9) rfl hin rfl (by decide +kernel) rfl rfl (Nat.le_of_ble_eq_true rfl) dX0_init_25 (fun H locs hP hD hS => ?_)
  have hP : va_P D vwCl [(h0, .inr (0, [.int 0, .ref a1, .ref a2, .ref a3, .null, .null, .null, .null, .null, .null, .null, .null, .null, .null, .int 0, .null, .int 0, .null, .int 0])), (a1, .inl (d1, 24, .inl (fun _ => 0))), (a2, .inl (d2, 24, .inl (fun _ => 0))), (a3, .inl (d3, 24, .inl (fun _ => 0)))] H := hP
  have hD : va_D A [(h0, .inr (0, [.int 0, .ref a1, .ref a2, .ref a3, .null, .null, .null, .null, .null, .null, .null, .null, .null, .null, .int 0, .null, .int 0, .null, .int 0])), (a1, .inl (d1, 24, .inl (fun _ => 0))), (a2, .inl (d2, 24, .inl (fun _ => 0))), (a3, .inl (d3, 24, .inl (fun _ => 0)))] := hD
  refine lv_aload_n hx hb dX0_init_28 rfl (lv_at hl 0 rfl) ?_
  refine lv_bipush (v := 24) hx hb dX0_init_29 (by decide) ?_
  refine va_newa (a0 := (24, .inl (fun _ => 0))) (N' := 24) (atype := .int) (ty := .int) hx hb (hts _ q100) rfl hK hP hD hS hA (fun cA => rfl) (by decide) (by decide) (by decide) (Nat.le_of_ble_eq_true rfl) (Nat.le_of_ble_eq_true rfl) dX0_init_31 (fun a4 d4 H hK hP hD hS => ?_)
  refine W.widen (k := 4) (n := 96) (Nat.le_refl _) (Nat.le_refl _) ?_
  have hK : va_K D vwCl [(d1, .boolean), (d2, .int), (d3, .int), (d4, .int)] s := hK
  have hP : va_P D vwCl [(h0, .inr (0, [.int 0, .ref a1, .ref a2, .ref a3, .null, .null, .null, .null, .null, .null, .null, .null, .null, .null, .int 0, .null, .int 0, .null, .int 0])), (a1, .inl (d1, 24, .inl (fun _ => 0))), (a2, .inl (d2, 24, .inl (fun _ => 0))), (a3, .inl (d3, 24, .inl (fun _ => 0))), (a4, .inl (d4, 24, .inl (fun _ => 0)))] H := hP
  have hD : va_D A [(h0, .inr (0, [.int 0, .ref a1, .ref a2, .ref a3, .null, .null, .null, .null, .null, .null, .null, .null, .null, .null, .int 0, .null, .int 0, .null, .int 0])), (a1, .inl (d1, 24, .inl (fun _ => 0))), (a2, .inl (d2, 24, .inl (fun _ => 0))), (a3, .inl (d3, 24, .inl (fun _ => 0))), (a4, .inl (d4, 24, .inl (fun _ => 0)))] := hD
  refine va_putF (D := D) (ci := 0) (v := .ref a4) (ty := .array .int) (C := RX0) (T := TX0) (N := 19) hx hb hts in_X0 tyX0 tyX0_ok nmX0 hown hK hP hD hS 0 rfl rfl 4 (by decide) (hts _ q45) (fun _ h9 => h9) rfl hin rfl (by decide +kernel) rfl rfl (Nat.le_of_ble_eq_true rfl) dX0_init_33 (fun H locs hP hD hS => ?_)
  have hP : va_P D vwCl [(h0, .inr (0, [.int 0, .ref a1, .ref a2, .ref a3, .ref a4, .null, .null, .null, .null, .null, .null, .null, .null, .null, .int 0, .null, .int 0, .null, .int 0])), (a1, .inl (d1, 24, .inl (fun _ => 0))), (a2, .inl (d2, 24, .inl (fun _ => 0))), (a3, .inl (d3, 24, .inl (fun _ => 0))), (a4, .inl (d4, 24, .inl (fun _ => 0)))] H := hP
  have hD : va_D A [(h0, .inr (0, [.int 0, .ref a1, .ref a2, .ref a3, .ref a4, .null, .null, .null, .null, .null, .null, .null, .null, .null, .int 0, .null, .int 0, .null, .int 0])), (a1, .inl (d1, 24, .inl (fun _ => 0))), (a2, .inl (d2, 24, .inl (fun _ => 0))), (a3, .inl (d3, 24, .inl (fun _ => 0))), (a4, .inl (d4, 24, .inl (fun _ => 0)))] := hD
  refine lv_aload_n hx hb dX0_init_36 rfl (lv_at hl 0 rfl) ?_
  refine lv_bipush (v := 24) hx hb dX0_init_37 (by decide) ?_
  refine va_newa (a0 := (24, .inl (fun _ => 0))) (N' := 24) (atype := .int) (ty := .int) hx hb (hts _ q100) rfl hK hP hD hS hA (fun cA => rfl) (by decide) (by decide) (by decide) (Nat.le_of_ble_eq_true rfl) (Nat.le_of_ble_eq_true rfl) dX0_init_39 (fun a5 d5 H hK hP hD hS => ?_)
  refine W.widen (k := 5) (n := 120) (Nat.le_refl _) (Nat.le_refl _) ?_
  have hK : va_K D vwCl [(d1, .boolean), (d2, .int), (d3, .int), (d4, .int), (d5, .int)] s := hK
  have hP : va_P D vwCl [(h0, .inr (0, [.int 0, .ref a1, .ref a2, .ref a3, .ref a4, .null, .null, .null, .null, .null, .null, .null, .null, .null, .int 0, .null, .int 0, .null, .int 0])), (a1, .inl (d1, 24, .inl (fun _ => 0))), (a2, .inl (d2, 24, .inl (fun _ => 0))), (a3, .inl (d3, 24, .inl (fun _ => 0))), (a4, .inl (d4, 24, .inl (fun _ => 0))), (a5, .inl (d5, 24, .inl (fun _ => 0)))] H := hP
  have hD : va_D A [(h0, .inr (0, [.int 0, .ref a1, .ref a2, .ref a3, .ref a4, .null, .null, .null, .null, .null, .null, .null, .null, .null, .int 0, .null, .int 0, .null, .int 0])), (a1, .inl (d1, 24, .inl (fun _ => 0))), (a2, .inl (d2, 24, .inl (fun _ => 0))), (a3, .inl (d3, 24, .inl (fun _ => 0))), (a4, .inl (d4, 24, .inl (fun _ => 0))), (a5, .inl (d5, 24, .inl (fun _ => 0)))] := hD
  refine va_putF (D := D) (ci := 0) (v := .ref a5) (ty := .array .int) (C := RX0) (T := TX0) (N := 19) hx hb hts in_X0 tyX0 tyX0_ok nmX0 hown hK hP hD hS 0 rfl rfl 5 (by decide) (hts _ q46) (fun _ h9 => h9) rfl hin rfl (by decide +kernel) rfl rfl (Nat.le_of_ble_eq_true rfl) dX0_init_41 (fun H locs hP hD hS => ?_)
  have hP : va_P D vwCl [(h0, .inr (0, [.int 0, .ref a1, .ref a2, .ref a3, .ref a4, .ref a5, .null, .null, .null, .null, .null, .null, .null, .null, .int 0, .null, .int 0, .null, .int 0])), (a1, .inl (d1, 24, .inl (fun _ => 0))), (a2, .inl (d2, 24, .inl (fun _ => 0))), (a3, .inl (d3, 24, .inl (fun _ => 0))), (a4, .inl (d4, 24, .inl (fun _ => 0))), (a5, .inl (d5, 24, .inl (fun _ => 0)))] H := hP
  have hD : va_D A [(h0, .inr (0, [.int 0, .ref a1, .ref a2, .ref a3, .ref a4, .ref a5, .null, .null, .null, .null, .null, .null, .null, .null, .int 0, .null, .int 0, .null, .int 0])), (a1, .inl (d1, 24, .inl (fun _ => 0))), (a2, .inl (d2, 24, .inl (fun _ => 0))), (a3, .inl (d3, 24, .inl (fun _ => 0))), (a4, .inl (d4, 24, .inl (fun _ => 0))), (a5, .inl (d5, 24, .inl (fun _ => 0)))] := hD
  refine lv_aload_n hx hb dX0_init_44 rfl (lv_at hl 0 rfl) ?_
  refine lv_bipush (v := 96) hx hb dX0_init_45 (by decide) ?_
  refine va_newa (a0 := (96, .inl (fun _ => 0))) (N' := 96) (atype := .int) (ty := .int) hx hb (hts _ q100) rfl hK hP hD hS hA (fun cA => rfl) (by decide) (by decide) (by decide) (Nat.le_of_ble_eq_true rfl) (Nat.le_of_ble_eq_true rfl) dX0_init_47 (fun a6 d6 H hK hP hD hS => ?_)
  refine W.widen (k := 6) (n := 216) (Nat.le_refl _) (Nat.le_refl _) ?_
  have hK : va_K D vwCl [(d1, .boolean), (d2, .int), (d3, .int), (d4, .int), (d5, .int), (d6, .int)] s := hK
  have hP : va_P D vwCl [(h0, .inr (0, [.int 0, .ref a1, .ref a2, .ref a3, .ref a4, .ref a5, .null, .null, .null, .null, .null, .null, .null, .null, .int 0, .null, .int 0, .null, .int 0])), (a1, .inl (d1, 24, .inl (fun _ => 0))), (a2, .inl (d2, 24, .inl (fun _ => 0))), (a3, .inl (d3, 24, .inl (fun _ => 0))), (a4, .inl (d4, 24, .inl (fun _ => 0))), (a5, .inl (d5, 24, .inl (fun _ => 0))), (a6, .inl (d6, 96, .inl (fun _ => 0)))] H := hP
  have hD : va_D A [(h0, .inr (0, [.int 0, .ref a1, .ref a2, .ref a3, .ref a4, .ref a5, .null, .null, .null, .null, .null, .null, .null, .null, .int 0, .null, .int 0, .null, .int 0])), (a1, .inl (d1, 24, .inl (fun _ => 0))), (a2, .inl (d2, 24, .inl (fun _ => 0))), (a3, .inl (d3, 24, .inl (fun _ => 0))), (a4, .inl (d4, 24, .inl (fun _ => 0))), (a5, .inl (d5, 24, .inl (fun _ => 0))), (a6, .inl (d6, 96, .inl (fun _ => 0)))] := hD
  refine va_putF (D := D) (ci := 0) (v := .ref a6) (ty := .array .int) (C := RX0) (T := TX0) (N := 19) hx hb hts in_X0 tyX0 tyX0_ok nmX0 hown hK hP hD hS 0 rfl rfl 6 (by decide) (hts _ q47) (fun _ h9 => h9) rfl hin rfl (by decide +kernel) rfl rfl (Nat.le_of_ble_eq_true rfl) dX0_init_49 (fun H locs hP hD hS => ?_)
  have hP : va_P D vwCl [(h0, .inr (0, [.int 0, .ref a1, .ref a2, .ref a3, .ref a4, .ref a5, .ref a6, .null, .null, .null, .null, .null, .null, .null, .int 0, .null, .int 0, .null, .int 0])), (a1, .inl (d1, 24, .inl (fun _ => 0))), (a2, .inl (d2, 24, .inl (fun _ => 0))), (a3, .inl (d3, 24, .inl (fun _ => 0))), (a4, .inl (d4, 24, .inl (fun _ => 0))), (a5, .inl (d5, 24, .inl (fun _ => 0))), (a6, .inl (d6, 96, .inl (fun _ => 0)))] H := hP
  have hD : va_D A [(h0, .inr (0, [.int 0, .ref a1, .ref a2, .ref a3, .ref a4, .ref a5, .ref a6, .null, .null, .null, .null, .null, .null, .null, .int 0, .null, .int 0, .null, .int 0])), (a1, .inl (d1, 24, .inl (fun _ => 0))), (a2, .inl (d2, 24, .inl (fun _ => 0))), (a3, .inl (d3, 24, .inl (fun _ => 0))), (a4, .inl (d4, 24, .inl (fun _ => 0))), (a5, .inl (d5, 24, .inl (fun _ => 0))), (a6, .inl (d6, 96, .inl (fun _ => 0)))] := hD
  refine lv_aload_n hx hb dX0_init_52 rfl (lv_at hl 0 rfl) ?_
  refine lv_bipush (v := 24) hx hb dX0_init_53 (by decide) ?_
  refine va_newa (a0 := (24, .inl (fun _ => 0))) (N' := 24) (atype := .int) (ty := .int) hx hb (hts _ q100) rfl hK hP hD hS hA (fun cA => rfl) (by decide) (by decide) (by decide) (Nat.le_of_ble_eq_true rfl) (Nat.le_of_ble_eq_true rfl) dX0_init_55 (fun a7 d7 H hK hP hD hS => ?_)
  refine W.widen (k := 7) (n := 240) (Nat.le_refl _) (Nat.le_refl _) ?_
  have hK : va_K D vwCl [(d1, .boolean), (d2, .int), (d3, .int), (d4, .int), (d5, .int), (d6, .int), (d7, .int)] s := hK
  have hP : va_P D vwCl [(h0, .inr (0, [.int 0, .ref a1, .ref a2, .ref a3, .ref a4, .ref a5, .ref a6, .null, .null, .null, .null, .null, .null, .null, .int 0, .null, .int 0, .null, .int 0])), (a1, .inl (d1, 24, .inl (fun _ => 0))), (a2, .inl (d2, 24, .inl (fun _ => 0))), (a3, .inl (d3, 24, .inl (fun _ => 0))), (a4, .inl (d4, 24, .inl (fun _ => 0))), (a5, .inl (d5, 24, .inl (fun _ => 0))), (a6, .inl (d6, 96, .inl (fun _ => 0))), (a7, .inl (d7, 24, .inl (fun _ => 0)))] H := hP
  have hD : va_D A [(h0, .inr (0, [.int 0, .ref a1, .ref a2, .ref a3, .ref a4, .ref a5, .ref a6, .null, .null, .null, .null, .null, .null, .null, .int 0, .null, .int 0, .null, .int 0])), (a1, .inl (d1, 24, .inl (fun _ => 0))), (a2, .inl (d2, 24, .inl (fun _ => 0))), (a3, .inl (d3, 24, .inl (fun _ => 0))), (a4, .inl (d4, 24, .inl (fun _ => 0))), (a5, .inl (d5, 24, .inl (fun _ => 0))), (a6, .inl (d6, 96, .inl (fun _ => 0))), (a7, .inl (d7, 24, .inl (fun _ => 0)))] := hD
  refine va_putF (D := D) (ci := 0) (v := .ref a7) (ty := .array .int) (C := RX0) (T := TX0) (N := 19) hx hb hts in_X0 tyX0 tyX0_ok nmX0 hown hK hP hD hS 0 rfl rfl 7 (by decide) (hts _ q48) (fun _ h9 => h9) rfl hin rfl (by decide +kernel) rfl rfl (Nat.le_of_ble_eq_true rfl) dX0_init_57 (fun H locs hP hD hS => ?_)
  have hP : va_P D vwCl [(h0, .inr (0, [.int 0, .ref a1, .ref a2, .ref a3, .ref a4, .ref a5, .ref a6, .ref a7, .null, .null, .null, .null, .null, .null, .int 0, .null, .int 0, .null, .int 0])), (a1, .inl (d1, 24, .inl (fun _ => 0))), (a2, .inl (d2, 24, .inl (fun _ => 0))), (a3, .inl (d3, 24, .inl (fun _ => 0))), (a4, .inl (d4, 24, .inl (fun _ => 0))), (a5, .inl (d5, 24, .inl (fun _ => 0))), (a6, .inl (d6, 96, .inl (fun _ => 0))), (a7, .inl (d7, 24, .inl (fun _ => 0)))] H := hP
  have hD : va_D A [(h0, .inr (0, [.int 0, .ref a1, .ref a2, .ref a3, .ref a4, .ref a5, .ref a6, .ref a7, .null, .null, .null, .null, .null, .null, .int 0, .null, .int 0, .null, .int 0])), (a1, .inl (d1, 24, .inl (fun _ => 0))), (a2, .inl (d2, 24, .inl (fun _ => 0))), (a3, .inl (d3, 24, .inl (fun _ => 0))), (a4, .inl (d4, 24, .inl (fun _ => 0))), (a5, .inl (d5, 24, .inl (fun _ => 0))), (a6, .inl (d6, 96, .inl (fun _ => 0))), (a7, .inl (d7, 24, .inl (fun _ => 0)))] := hD
  refine lv_aload_n hx hb dX0_init_60 rfl (lv_at hl 0 rfl) ?_
  refine lv_bipush (v := 24) hx hb dX0_init_61 (by decide) ?_
  refine va_newa (a0 := (24, .inl (fun _ => 0))) (N' := 24) (atype := .int) (ty := .int) hx hb (hts _ q100) rfl hK hP hD hS hA (fun cA => rfl) (by decide) (by decide) (by decide) (Nat.le_of_ble_eq_true rfl) (Nat.le_of_ble_eq_true rfl) dX0_init_63 (fun a8 d8 H hK hP hD hS => ?_)
  refine W.widen (k := 8) (n := 264) (Nat.le_refl _) (Nat.le_refl _) ?_
  have hK : va_K D vwCl [(d1, .boolean), (d2, .int), (d3, .int), (d4, .int), (d5, .int), (d6, .int), (d7, .int), (d8, .int)] s := hK
  have hP : va_P D vwCl [(h0, .inr (0, [.int 0, .ref a1, .ref a2, .ref a3, .ref a4, .ref a5, .ref a6, .ref a7, .null, .null, .null, .null, .null, .null, .int 0, .null, .int 0, .null, .int 0])), (a1, .inl (d1, 24, .inl (fun _ => 0))), (a2, .inl (d2, 24, .inl (fun _ => 0))), (a3, .inl (d3, 24, .inl (fun _ => 0))), (a4, .inl (d4, 24, .inl (fun _ => 0))), (a5, .inl (d5, 24, .inl (fun _ => 0))), (a6, .inl (d6, 96, .inl (fun _ => 0))), (a7, .inl (d7, 24, .inl (fun _ => 0))), (a8, .inl (d8, 24, .inl (fun _ => 0)))] H := hP
  have hD : va_D A [(h0, .inr (0, [.int 0, .ref a1, .ref a2, .ref a3, .ref a4, .ref a5, .ref a6, .ref a7, .null, .null, .null, .null, .null, .null, .int 0, .null, .int 0, .null, .int 0])), (a1, .inl (d1, 24, .inl (fun _ => 0))), (a2, .inl (d2, 24, .inl (fun _ => 0))), (a3, .inl (d3, 24, .inl (fun _ => 0))), (a4, .inl (d4, 24, .inl (fun _ => 0))), (a5, .inl (d5, 24, .inl (fun _ => 0))), (a6, .inl (d6, 96, .inl (fun _ => 0))), (a7, .inl (d7, 24, .inl (fun _ => 0))), (a8, .inl (d8, 24, .inl (fun _ => 0)))] := hD
  refine va_putF (D := D) (ci := 0) (v := .ref a8) (ty := .array .int) (C := RX0) (T := TX0) (N := 19) hx hb hts in_X0 tyX0 tyX0_ok nmX0 hown hK hP hD hS 0 rfl rfl 8 (by decide) (hts _ q49) (fun _ h9 => h9) rfl hin rfl (by decide +kernel) rfl rfl (Nat.le_of_ble_eq_true rfl) dX0_init_65 (fun H locs hP hD hS => ?_)
  have hP : va_P D vwCl [(h0, .inr (0, [.int 0, .ref a1, .ref a2, .ref a3, .ref a4, .ref a5, .ref a6, .ref a7, .ref a8, .null, .null, .null, .null, .null, .int 0, .null, .int 0, .null, .int 0])), (a1, .inl (d1, 24, .inl (fun _ => 0))), (a2, .inl (d2, 24, .inl (fun _ => 0))), (a3, .inl (d3, 24, .inl (fun _ => 0))), (a4, .inl (d4, 24, .inl (fun _ => 0))), (a5, .inl (d5, 24, .inl (fun _ => 0))), (a6, .inl (d6, 96, .inl (fun _ => 0))), (a7, .inl (d7, 24, .inl (fun _ => 0))), (a8, .inl (d8, 24, .inl (fun _ => 0)))] H := hP
  have hD : va_D A [(h0, .inr (0, [.int 0, .ref a1, .ref a2, .ref a3, .ref a4, .ref a5, .ref a6, .ref a7, .ref a8, .null, .null, .null, .null, .null, .int 0, .null, .int 0, .null, .int 0])), (a1, .inl (d1, 24, .inl (fun _ => 0))), (a2, .inl (d2, 24, .inl (fun _ => 0))), (a3, .inl (d3, 24, .inl (fun _ => 0))), (a4, .inl (d4, 24, .inl (fun _ => 0))), (a5, .inl (d5, 24, .inl (fun _ => 0))), (a6, .inl (d6, 96, .inl (fun _ => 0))), (a7, .inl (d7, 24, .inl (fun _ => 0))), (a8, .inl (d8, 24, .inl (fun _ => 0)))] := hD
  refine lv_aload_n hx hb dX0_init_68 rfl (lv_at hl 0 rfl) ?_
  refine lv_bipush (v := 24) hx hb dX0_init_69 (by decide) ?_
  refine va_newa (a0 := (24, .inl (fun _ => 0))) (N' := 24) (atype := .int) (ty := .int) hx hb (hts _ q100) rfl hK hP hD hS hA (fun cA => rfl) (by decide) (by decide) (by decide) (Nat.le_of_ble_eq_true rfl) (Nat.le_of_ble_eq_true rfl) dX0_init_71 (fun a9 d9 H hK hP hD hS => ?_)
  refine W.widen (k := 9) (n := 288) (Nat.le_refl _) (Nat.le_refl _) ?_
  have hK : va_K D vwCl [(d1, .boolean), (d2, .int), (d3, .int), (d4, .int), (d5, .int), (d6, .int), (d7, .int), (d8, .int), (d9, .int)] s := hK
  have hP : va_P D vwCl [(h0, .inr (0, [.int 0, .ref a1, .ref a2, .ref a3, .ref a4, .ref a5, .ref a6, .ref a7, .ref a8, .null, .null, .null, .null, .null, .int 0, .null, .int 0, .null, .int 0])), (a1, .inl (d1, 24, .inl (fun _ => 0))), (a2, .inl (d2, 24, .inl (fun _ => 0))), (a3, .inl (d3, 24, .inl (fun _ => 0))), (a4, .inl (d4, 24, .inl (fun _ => 0))), (a5, .inl (d5, 24, .inl (fun _ => 0))), (a6, .inl (d6, 96, .inl (fun _ => 0))), (a7, .inl (d7, 24, .inl (fun _ => 0))), (a8, .inl (d8, 24, .inl (fun _ => 0))), (a9, .inl (d9, 24, .inl (fun _ => 0)))] H := hP
  have hD : va_D A [(h0, .inr (0, [.int 0, .ref a1, .ref a2, .ref a3, .ref a4, .ref a5, .ref a6, .ref a7, .ref a8, .null, .null, .null, .null, .null, .int 0, .null, .int 0, .null, .int 0])), (a1, .inl (d1, 24, .inl (fun _ => 0))), (a2, .inl (d2, 24, .inl (fun _ => 0))), (a3, .inl (d3, 24, .inl (fun _ => 0))), (a4, .inl (d4, 24, .inl (fun _ => 0))), (a5, .inl (d5, 24, .inl (fun _ => 0))), (a6, .inl (d6, 96, .inl (fun _ => 0))), (a7, .inl (d7, 24, .inl (fun _ => 0))), (a8, .inl (d8, 24, .inl (fun _ => 0))), (a9, .inl (d9, 24, .inl (fun _ => 0)))] := hD
  refine va_putF (D := D) (ci := 0) (v := .ref a9) (ty := .array .int) (C := RX0) (T := TX0) (N := 19) hx hb hts in_X0 tyX0 tyX0_ok nmX0 hown hK hP hD hS 0 rfl rfl 9 (by decide) (hts _ q50) (fun _ h9 => h9) rfl hin rfl (by decide +kernel) rfl rfl (Nat.le_of_ble_eq_true rfl) dX0_init_73 (fun H locs hP hD hS => ?_)
  have hP : va_P D vwCl [(h0, .inr (0, [.int 0, .ref a1, .ref a2, .ref a3, .ref a4, .ref a5, .ref a6, .ref a7, .ref a8, .ref a9, .null, .null, .null, .null, .int 0, .null, .int 0, .null, .int 0])), (a1, .inl (d1, 24, .inl (fun _ => 0))), (a2, .inl (d2, 24, .inl (fun _ => 0))), (a3, .inl (d3, 24, .inl (fun _ => 0))), (a4, .inl (d4, 24, .inl (fun _ => 0))), (a5, .inl (d5, 24, .inl (fun _ => 0))), (a6, .inl (d6, 96, .inl (fun _ => 0))), (a7, .inl (d7, 24, .inl (fun _ => 0))), (a8, .inl (d8, 24, .inl (fun _ => 0))), (a9, .inl (d9, 24, .inl (fun _ => 0)))] H := hP
  have hD : va_D A [(h0, .inr (0, [.int 0, .ref a1, .ref a2, .ref a3, .ref a4, .ref a5, .ref a6, .ref a7, .ref a8, .ref a9, .null, .null, .null, .null, .int 0, .null, .int 0, .null, .int 0])), (a1, .inl (d1, 24, .inl (fun _ => 0))), (a2, .inl (d2, 24, .inl (fun _ => 0))), (a3, .inl (d3, 24, .inl (fun _ => 0))), (a4, .inl (d4, 24, .inl (fun _ => 0))), (a5, .inl (d5, 24, .inl (fun _ => 0))), (a6, .inl (d6, 96, .inl (fun _ => 0))), (a7, .inl (d7, 24, .inl (fun _ => 0))), (a8, .inl (d8, 24, .inl (fun _ => 0))), (a9, .inl (d9, 24, .inl (fun _ => 0)))] := hD
  refine lv_aload_n hx hb dX0_init_76 rfl (lv_at hl 0 rfl) ?_
  refine lv_bipush (v := 24) hx hb dX0_init_77 (by decide) ?_
  refine va_newa (a0 := (24, .inl (fun _ => 0))) (N' := 24) (atype := .boolean) (ty := .boolean) hx hb (hts _ q99) rfl hK hP hD hS hA (fun cA => rfl) (by decide) (by decide) (by decide) (Nat.le_of_ble_eq_true rfl) (Nat.le_of_ble_eq_true rfl) dX0_init_79 (fun a10 d10 H hK hP hD hS => ?_)
  refine W.widen (k := 10) (n := 312) (Nat.le_refl _) (Nat.le_refl _) ?_
  have hK : va_K D vwCl [(d1, .boolean), (d2, .int), (d3, .int), (d4, .int), (d5, .int), (d6, .int), (d7, .int), (d8, .int), (d9, .int), (d10, .boolean)] s := hK
  have hP : va_P D vwCl [(h0, .inr (0, [.int 0, .ref a1, .ref a2, .ref a3, .ref a4, .ref a5, .ref a6, .ref a7, .ref a8, .ref a9, .null, .null, .null, .null, .int 0, .null, .int 0, .null, .int 0])), (a1, .inl (d1, 24, .inl (fun _ => 0))), (a2, .inl (d2, 24, .inl (fun _ => 0))), (a3, .inl (d3, 24, .inl (fun _ => 0))), (a4, .inl (d4, 24, .inl (fun _ => 0))), (a5, .inl (d5, 24, .inl (fun _ => 0))), (a6, .inl (d6, 96, .inl (fun _ => 0))), (a7, .inl (d7, 24, .inl (fun _ => 0))), (a8, .inl (d8, 24, .inl (fun _ => 0))), (a9, .inl (d9, 24, .inl (fun _ => 0))), (a10, .inl (d10, 24, .inl (fun _ => 0)))] H := hP
  have hD : va_D A [(h0, .inr (0, [.int 0, .ref a1, .ref a2, .ref a3, .ref a4, .ref a5, .ref a6, .ref a7, .ref a8, .ref a9, .null, .null, .null, .null, .int 0, .null, .int 0, .null, .int 0])), (a1, .inl (d1, 24, .inl (fun _ => 0))), (a2, .inl (d2, 24, .inl (fun _ => 0))), (a3, .inl (d3, 24, .inl (fun _ => 0))), (a4, .inl (d4, 24, .inl (fun _ => 0))), (a5, .inl (d5, 24, .inl (fun _ => 0))), (a6, .inl (d6, 96, .inl (fun _ => 0))), (a7, .inl (d7, 24, .inl (fun _ => 0))), (a8, .inl (d8, 24, .inl (fun _ => 0))), (a9, .inl (d9, 24, .inl (fun _ => 0))), (a10, .inl (d10, 24, .inl (fun _ => 0)))] := hD
  refine va_putF (D := D) (ci := 0) (v := .ref a10) (ty := .array .boolean) (C := RX0) (T := TX0) (N := 19) hx hb hts in_X0 tyX0 tyX0_ok nmX0 hown hK hP hD hS 0 rfl rfl 10 (by decide) (hts _ q51) (fun _ h9 => h9) rfl hin rfl (by decide +kernel) rfl rfl (Nat.le_of_ble_eq_true rfl) dX0_init_81 (fun H locs hP hD hS => ?_)
  have hP : va_P D vwCl [(h0, .inr (0, [.int 0, .ref a1, .ref a2, .ref a3, .ref a4, .ref a5, .ref a6, .ref a7, .ref a8, .ref a9, .ref a10, .null, .null, .null, .int 0, .null, .int 0, .null, .int 0])), (a1, .inl (d1, 24, .inl (fun _ => 0))), (a2, .inl (d2, 24, .inl (fun _ => 0))), (a3, .inl (d3, 24, .inl (fun _ => 0))), (a4, .inl (d4, 24, .inl (fun _ => 0))), (a5, .inl (d5, 24, .inl (fun _ => 0))), (a6, .inl (d6, 96, .inl (fun _ => 0))), (a7, .inl (d7, 24, .inl (fun _ => 0))), (a8, .inl (d8, 24, .inl (fun _ => 0))), (a9, .inl (d9, 24, .inl (fun _ => 0))), (a10, .inl (d10, 24, .inl (fun _ => 0)))] H := hP
  have hD : va_D A [(h0, .inr (0, [.int 0, .ref a1, .ref a2, .ref a3, .ref a4, .ref a5, .ref a6, .ref a7, .ref a8, .ref a9, .ref a10, .null, .null, .null, .int 0, .null, .int 0, .null, .int 0])), (a1, .inl (d1, 24, .inl (fun _ => 0))), (a2, .inl (d2, 24, .inl (fun _ => 0))), (a3, .inl (d3, 24, .inl (fun _ => 0))), (a4, .inl (d4, 24, .inl (fun _ => 0))), (a5, .inl (d5, 24, .inl (fun _ => 0))), (a6, .inl (d6, 96, .inl (fun _ => 0))), (a7, .inl (d7, 24, .inl (fun _ => 0))), (a8, .inl (d8, 24, .inl (fun _ => 0))), (a9, .inl (d9, 24, .inl (fun _ => 0))), (a10, .inl (d10, 24, .inl (fun _ => 0)))] := hD
  refine lv_aload_n hx hb dX0_init_84 rfl (lv_at hl 0 rfl) ?_
  refine lv_bipush (v := 24) hx hb dX0_init_85 (by decide) ?_
  refine va_newa (a0 := (24, .inl (fun _ => 0))) (N' := 24) (atype := .int) (ty := .int) hx hb (hts _ q100) rfl hK hP hD hS hA (fun cA => rfl) (by decide) (by decide) (by decide) (Nat.le_of_ble_eq_true rfl) (Nat.le_of_ble_eq_true rfl) dX0_init_87 (fun a11 d11 H hK hP hD hS => ?_)
  refine W.widen (k := 11) (n := 336) (Nat.le_refl _) (Nat.le_refl _) ?_
  have hK : va_K D vwCl [(d1, .boolean), (d2, .int), (d3, .int), (d4, .int), (d5, .int), (d6, .int), (d7, .int), (d8, .int), (d9, .int), (d10, .boolean), (d11, .int)] s := hK
  have hP : va_P D vwCl [(h0, .inr (0, [.int 0, .ref a1, .ref a2, .ref a3, .ref a4, .ref a5, .ref a6, .ref a7, .ref a8, .ref a9, .ref a10, .null, .null, .null, .int 0, .null, .int 0, .null, .int 0])), (a1, .inl (d1, 24, .inl (fun _ => 0))), (a2, .inl (d2, 24, .inl (fun _ => 0))), (a3, .inl (d3, 24, .inl (fun _ => 0))), (a4, .inl (d4, 24, .inl (fun _ => 0))), (a5, .inl (d5, 24, .inl (fun _ => 0))), (a6, .inl (d6, 96, .inl (fun _ => 0))), (a7, .inl (d7, 24, .inl (fun _ => 0))), (a8, .inl (d8, 24, .inl (fun _ => 0))), (a9, .inl (d9, 24, .inl (fun _ => 0))), (a10, .inl (d10, 24, .inl (fun _ => 0))), (a11, .inl (d11, 24, .inl (fun _ => 0)))] H := hP
  have hD : va_D A [(h0, .inr (0, [.int 0, .ref a1, .ref a2, .ref a3, .ref a4, .ref a5, .ref a6, .ref a7, .ref a8, .ref a9, .ref a10, .null, .null, .null, .int 0, .null, .int 0, .null, .int 0])), (a1, .inl (d1, 24, .inl (fun _ => 0))), (a2, .inl (d2, 24, .inl (fun _ => 0))), (a3, .inl (d3, 24, .inl (fun _ => 0))), (a4, .inl (d4, 24, .inl (fun _ => 0))), (a5, .inl (d5, 24, .inl (fun _ => 0))), (a6, .inl (d6, 96, .inl (fun _ => 0))), (a7, .inl (d7, 24, .inl (fun _ => 0))), (a8, .inl (d8, 24, .inl (fun _ => 0))), (a9, .inl (d9, 24, .inl (fun _ => 0))), (a10, .inl (d10, 24, .inl (fun _ => 0))), (a11, .inl (d11, 24, .inl (fun _ => 0)))] := hD
  refine va_putF (D := D) (ci := 0) (v := .ref a11) (ty := .array .int) (C := RX0) (T := TX0) (N := 19) hx hb hts in_X0 tyX0 tyX0_ok nmX0 hown hK hP hD hS 0 rfl rfl 11 (by decide) (hts _ q52) (fun _ h9 => h9) rfl hin rfl (by decide +kernel) rfl rfl (Nat.le_of_ble_eq_true rfl) dX0_init_89 (fun H locs hP hD hS => ?_)
  have hP : va_P D vwCl [(h0, .inr (0, [.int 0, .ref a1, .ref a2, .ref a3, .ref a4, .ref a5, .ref a6, .ref a7, .ref a8, .ref a9, .ref a10, .ref a11, .null, .null, .int 0, .null, .int 0, .null, .int 0])), (a1, .inl (d1, 24, .inl (fun _ => 0))), (a2, .inl (d2, 24, .inl (fun _ => 0))), (a3, .inl (d3, 24, .inl (fun _ => 0))), (a4, .inl (d4, 24, .inl (fun _ => 0))), (a5, .inl (d5, 24, .inl (fun _ => 0))), (a6, .inl (d6, 96, .inl (fun _ => 0))), (a7, .inl (d7, 24, .inl (fun _ => 0))), (a8, .inl (d8, 24, .inl (fun _ => 0))), (a9, .inl (d9, 24, .inl (fun _ => 0))), (a10, .inl (d10, 24, .inl (fun _ => 0))), (a11, .inl (d11, 24, .inl (fun _ => 0)))] H := hP
  have hD : va_D A [(h0, .inr (0, [.int 0, .ref a1, .ref a2, .ref a3, .ref a4, .ref a5, .ref a6, .ref a7, .ref a8, .ref a9, .ref a10, .ref a11, .null, .null, .int 0, .null, .int 0, .null, .int 0])), (a1, .inl (d1, 24, .inl (fun _ => 0))), (a2, .inl (d2, 24, .inl (fun _ => 0))), (a3, .inl (d3, 24, .inl (fun _ => 0))), (a4, .inl (d4, 24, .inl (fun _ => 0))), (a5, .inl (d5, 24, .inl (fun _ => 0))), (a6, .inl (d6, 96, .inl (fun _ => 0))), (a7, .inl (d7, 24, .inl (fun _ => 0))), (a8, .inl (d8, 24, .inl (fun _ => 0))), (a9, .inl (d9, 24, .inl (fun _ => 0))), (a10, .inl (d10, 24, .inl (fun _ => 0))), (a11, .inl (d11, 24, .inl (fun _ => 0)))] := hD
  refine lv_aload_n hx hb dX0_init_92 rfl (lv_at hl 0 rfl) ?_
  refine lv_bipush (v := 96) hx hb dX0_init_93 (by decide) ?_
  refine va_newa (a0 := (96, .inl (fun _ => 0))) (N' := 96) (atype := .int) (ty := .int) hx hb (hts _ q100) rfl hK hP hD hS hA (fun cA => rfl) (by decide) (by decide) (by decide) (Nat.le_of_ble_eq_true rfl) (Nat.le_of_ble_eq_true rfl) dX0_init_95 (fun a12 d12 H hK hP hD hS => ?_)
  refine W.widen (k := 12) (n := 432) (Nat.le_refl _) (Nat.le_refl _) ?_
  have hK : va_K D vwCl [(d1, .boolean), (d2, .int), (d3, .int), (d4, .int), (d5, .int), (d6, .int), (d7, .int), (d8, .int), (d9, .int), (d10, .boolean), (d11, .int), (d12, .int)] s := hK
  have hP : va_P D vwCl [(h0, .inr (0, [.int 0, .ref a1, .ref a2, .ref a3, .ref a4, .ref a5, .ref a6, .ref a7, .ref a8, .ref a9, .ref a10, .ref a11, .null, .null, .int 0, .null, .int 0, .null, .int 0])), (a1, .inl (d1, 24, .inl (fun _ => 0))), (a2, .inl (d2, 24, .inl (fun _ => 0))), (a3, .inl (d3, 24, .inl (fun _ => 0))), (a4, .inl (d4, 24, .inl (fun _ => 0))), (a5, .inl (d5, 24, .inl (fun _ => 0))), (a6, .inl (d6, 96, .inl (fun _ => 0))), (a7, .inl (d7, 24, .inl (fun _ => 0))), (a8, .inl (d8, 24, .inl (fun _ => 0))), (a9, .inl (d9, 24, .inl (fun _ => 0))), (a10, .inl (d10, 24, .inl (fun _ => 0))), (a11, .inl (d11, 24, .inl (fun _ => 0))), (a12, .inl (d12, 96, .inl (fun _ => 0)))] H := hP
  have hD : va_D A [(h0, .inr (0, [.int 0, .ref a1, .ref a2, .ref a3, .ref a4, .ref a5, .ref a6, .ref a7, .ref a8, .ref a9, .ref a10, .ref a11, .null, .null, .int 0, .null, .int 0, .null, .int 0])), (a1, .inl (d1, 24, .inl (fun _ => 0))), (a2, .inl (d2, 24, .inl (fun _ => 0))), (a3, .inl (d3, 24, .inl (fun _ => 0))), (a4, .inl (d4, 24, .inl (fun _ => 0))), (a5, .inl (d5, 24, .inl (fun _ => 0))), (a6, .inl (d6, 96, .inl (fun _ => 0))), (a7, .inl (d7, 24, .inl (fun _ => 0))), (a8, .inl (d8, 24, .inl (fun _ => 0))), (a9, .inl (d9, 24, .inl (fun _ => 0))), (a10, .inl (d10, 24, .inl (fun _ => 0))), (a11, .inl (d11, 24, .inl (fun _ => 0))), (a12, .inl (d12, 96, .inl (fun _ => 0)))] := hD
  refine va_putF (D := D) (ci := 0) (v := .ref a12) (ty := .array .int) (C := RX0) (T := TX0) (N := 19) hx hb hts in_X0 tyX0 tyX0_ok nmX0 hown hK hP hD hS 0 rfl rfl 12 (by decide) (hts _ q53) (fun _ h9 => h9) rfl hin rfl (by decide +kernel) rfl rfl (Nat.le_of_ble_eq_true rfl) dX0_init_97 (fun H locs hP hD hS => ?_)
  have hP : va_P D vwCl [(h0, .inr (0, [.int 0, .ref a1, .ref a2, .ref a3, .ref a4, .ref a5, .ref a6, .ref a7, .ref a8, .ref a9, .ref a10, .ref a11, .ref a12, .null, .int 0, .null, .int 0, .null, .int 0])), (a1, .inl (d1, 24, .inl (fun _ => 0))), (a2, .inl (d2, 24, .inl (fun _ => 0))), (a3, .inl (d3, 24, .inl (fun _ => 0))), (a4, .inl (d4, 24, .inl (fun _ => 0))), (a5, .inl (d5, 24, .inl (fun _ => 0))), (a6, .inl (d6, 96, .inl (fun _ => 0))), (a7, .inl (d7, 24, .inl (fun _ => 0))), (a8, .inl (d8, 24, .inl (fun _ => 0))), (a9, .inl (d9, 24, .inl (fun _ => 0))), (a10, .inl (d10, 24, .inl (fun _ => 0))), (a11, .inl (d11, 24, .inl (fun _ => 0))), (a12, .inl (d12, 96, .inl (fun _ => 0)))] H := hP
  have hD : va_D A [(h0, .inr (0, [.int 0, .ref a1, .ref a2, .ref a3, .ref a4, .ref a5, .ref a6, .ref a7, .ref a8, .ref a9, .ref a10, .ref a11, .ref a12, .null, .int 0, .null, .int 0, .null, .int 0])), (a1, .inl (d1, 24, .inl (fun _ => 0))), (a2, .inl (d2, 24, .inl (fun _ => 0))), (a3, .inl (d3, 24, .inl (fun _ => 0))), (a4, .inl (d4, 24, .inl (fun _ => 0))), (a5, .inl (d5, 24, .inl (fun _ => 0))), (a6, .inl (d6, 96, .inl (fun _ => 0))), (a7, .inl (d7, 24, .inl (fun _ => 0))), (a8, .inl (d8, 24, .inl (fun _ => 0))), (a9, .inl (d9, 24, .inl (fun _ => 0))), (a10, .inl (d10, 24, .inl (fun _ => 0))), (a11, .inl (d11, 24, .inl (fun _ => 0))), (a12, .inl (d12, 96, .inl (fun _ => 0)))] := hD
  refine lv_aload_n hx hb dX0_init_100 rfl (lv_at hl 0 rfl) ?_
  refine lv_bipush (v := 24) hx hb dX0_init_101 (by decide) ?_
  refine va_newa (a0 := (24, .inl (fun _ => 0))) (N' := 24) (atype := .int) (ty := .int) hx hb (hts _ q100) rfl hK hP hD hS hA (fun cA => rfl) (by decide) (by decide) (by decide) (Nat.le_of_ble_eq_true rfl) (Nat.le_of_ble_eq_true rfl) dX0_init_103 (fun a13 d13 H hK hP hD hS => ?_)
  refine W.widen (k := 13) (n := 456) (Nat.le_refl _) (Nat.le_refl _) ?_
  have hK : va_K D vwCl [(d1, .boolean), (d2, .int), (d3, .int), (d4, .int), (d5, .int), (d6, .int), (d7, .int), (d8, .int), (d9, .int), (d10, .boolean), (d11, .int), (d12, .int), (d13, .int)] s := hK
  have hP : va_P D vwCl [(h0, .inr (0, [.int 0, .ref a1, .ref a2, .ref a3, .ref a4, .ref a5, .ref a6, .ref a7, .ref a8, .ref a9, .ref a10, .ref a11, .ref a12, .null, .int 0, .null, .int 0, .null, .int 0])), (a1, .inl (d1, 24, .inl (fun _ => 0))), (a2, .inl (d2, 24, .inl (fun _ => 0))), (a3, .inl (d3, 24, .inl (fun _ => 0))), (a4, .inl (d4, 24, .inl (fun _ => 0))), (a5, .inl (d5, 24, .inl (fun _ => 0))), (a6, .inl (d6, 96, .inl (fun _ => 0))), (a7, .inl (d7, 24, .inl (fun _ => 0))), (a8, .inl (d8, 24, .inl (fun _ => 0))), (a9, .inl (d9, 24, .inl (fun _ => 0))), (a10, .inl (d10, 24, .inl (fun _ => 0))), (a11, .inl (d11, 24, .inl (fun _ => 0))), (a12, .inl (d12, 96, .inl (fun _ => 0))), (a13, .inl (d13, 24, .inl (fun _ => 0)))] H := hP
  have hD : va_D A [(h0, .inr (0, [.int 0, .ref a1, .ref a2, .ref a3, .ref a4, .ref a5, .ref a6, .ref a7, .ref a8, .ref a9, .ref a10, .ref a11, .ref a12, .null, .int 0, .null, .int 0, .null, .int 0])), (a1, .inl (d1, 24, .inl (fun _ => 0))), (a2, .inl (d2, 24, .inl (fun _ => 0))), (a3, .inl (d3, 24, .inl (fun _ => 0))), (a4, .inl (d4, 24, .inl (fun _ => 0))), (a5, .inl (d5, 24, .inl (fun _ => 0))), (a6, .inl (d6, 96, .inl (fun _ => 0))), (a7, .inl (d7, 24, .inl (fun _ => 0))), (a8, .inl (d8, 24, .inl (fun _ => 0))), (a9, .inl (d9, 24, .inl (fun _ => 0))), (a10, .inl (d10, 24, .inl (fun _ => 0))), (a11, .inl (d11, 24, .inl (fun _ => 0))), (a12, .inl (d12, 96, .inl (fun _ => 0))), (a13, .inl (d13, 24, .inl (fun _ => 0)))] := hD
  refine va_putF (D := D) (ci := 0) (v := .ref a13) (ty := .array .int) (C := RX0) (T := TX0) (N := 19) hx hb hts in_X0 tyX0 tyX0_ok nmX0 hown hK hP hD hS 0 rfl rfl 13 (by decide) (hts _ q54) (fun _ h9 => h9) rfl hin rfl (by decide +kernel) rfl rfl (Nat.le_of_ble_eq_true rfl) dX0_init_105 (fun H locs hP hD hS => ?_)
  have hP : va_P D vwCl [(h0, .inr (0, [.int 0, .ref a1, .ref a2, .ref a3, .ref a4, .ref a5, .ref a6, .ref a7, .ref a8, .ref a9, .ref a10, .ref a11, .ref a12, .ref a13, .int 0, .null, .int 0, .null, .int 0])), (a1, .inl (d1, 24, .inl (fun _ => 0))), (a2, .inl (d2, 24, .inl (fun _ => 0))), (a3, .inl (d3, 24, .inl (fun _ => 0))), (a4, .inl (d4, 24, .inl (fun _ => 0))), (a5, .inl (d5, 24, .inl (fun _ => 0))), (a6, .inl (d6, 96, .inl (fun _ => 0))), (a7, .inl (d7, 24, .inl (fun _ => 0))), (a8, .inl (d8, 24, .inl (fun _ => 0))), (a9, .inl (d9, 24, .inl (fun _ => 0))), (a10, .inl (d10, 24, .inl (fun _ => 0))), (a11, .inl (d11, 24, .inl (fun _ => 0))), (a12, .inl (d12, 96, .inl (fun _ => 0))), (a13, .inl (d13, 24, .inl (fun _ => 0)))] H := hP
  have hD : va_D A [(h0, .inr (0, [.int 0, .ref a1, .ref a2, .ref a3, .ref a4, .ref a5, .ref a6, .ref a7, .ref a8, .ref a9, .ref a10, .ref a11, .ref a12, .ref a13, .int 0, .null, .int 0, .null, .int 0])), (a1, .inl (d1, 24, .inl (fun _ => 0))), (a2, .inl (d2, 24, .inl (fun _ => 0))), (a3, .inl (d3, 24, .inl (fun _ => 0))), (a4, .inl (d4, 24, .inl (fun _ => 0))), (a5, .inl (d5, 24, .inl (fun _ => 0))), (a6, .inl (d6, 96, .inl (fun _ => 0))), (a7, .inl (d7, 24, .inl (fun _ => 0))), (a8, .inl (d8, 24, .inl (fun _ => 0))), (a9, .inl (d9, 24, .inl (fun _ => 0))), (a10, .inl (d10, 24, .inl (fun _ => 0))), (a11, .inl (d11, 24, .inl (fun _ => 0))), (a12, .inl (d12, 96, .inl (fun _ => 0))), (a13, .inl (d13, 24, .inl (fun _ => 0)))] := hD
  refine lv_aload_n hx hb dX0_init_108 rfl (lv_at hl 0 rfl) ?_
  refine lv_bipush (v := 24) hx hb dX0_init_109 (by decide) ?_
  refine va_newa (a0 := (24, .inl (fun _ => 0))) (N' := 24) (atype := .boolean) (ty := .boolean) hx hb (hts _ q99) rfl hK hP hD hS hA (fun cA => rfl) (by decide) (by decide) (by decide) (Nat.le_of_ble_eq_true rfl) (Nat.le_of_ble_eq_true rfl) dX0_init_111 (fun a15 d15 H hK hP hD hS => ?_)
  refine W.widen (k := 14) (n := 480) (Nat.le_refl _) (Nat.le_refl _) ?_
  have hK : va_K D vwCl [(d1, .boolean), (d2, .int), (d3, .int), (d4, .int), (d5, .int), (d6, .int), (d7, .int), (d8, .int), (d9, .int), (d10, .boolean), (d11, .int), (d12, .int), (d13, .int), (d15, .boolean)] s := hK
  have hP : va_P D vwCl [(h0, .inr (0, [.int 0, .ref a1, .ref a2, .ref a3, .ref a4, .ref a5, .ref a6, .ref a7, .ref a8, .ref a9, .ref a10, .ref a11, .ref a12, .ref a13, .int 0, .null, .int 0, .null, .int 0])), (a1, .inl (d1, 24, .inl (fun _ => 0))), (a2, .inl (d2, 24, .inl (fun _ => 0))), (a3, .inl (d3, 24, .inl (fun _ => 0))), (a4, .inl (d4, 24, .inl (fun _ => 0))), (a5, .inl (d5, 24, .inl (fun _ => 0))), (a6, .inl (d6, 96, .inl (fun _ => 0))), (a7, .inl (d7, 24, .inl (fun _ => 0))), (a8, .inl (d8, 24, .inl (fun _ => 0))), (a9, .inl (d9, 24, .inl (fun _ => 0))), (a10, .inl (d10, 24, .inl (fun _ => 0))), (a11, .inl (d11, 24, .inl (fun _ => 0))), (a12, .inl (d12, 96, .inl (fun _ => 0))), (a13, .inl (d13, 24, .inl (fun _ => 0))), (a15, .inl (d15, 24, .inl (fun _ => 0)))] H := hP
  have hD : va_D A [(h0, .inr (0, [.int 0, .ref a1, .ref a2, .ref a3, .ref a4, .ref a5, .ref a6, .ref a7, .ref a8, .ref a9, .ref a10, .ref a11, .ref a12, .ref a13, .int 0, .null, .int 0, .null, .int 0])), (a1, .inl (d1, 24, .inl (fun _ => 0))), (a2, .inl (d2, 24, .inl (fun _ => 0))), (a3, .inl (d3, 24, .inl (fun _ => 0))), (a4, .inl (d4, 24, .inl (fun _ => 0))), (a5, .inl (d5, 24, .inl (fun _ => 0))), (a6, .inl (d6, 96, .inl (fun _ => 0))), (a7, .inl (d7, 24, .inl (fun _ => 0))), (a8, .inl (d8, 24, .inl (fun _ => 0))), (a9, .inl (d9, 24, .inl (fun _ => 0))), (a10, .inl (d10, 24, .inl (fun _ => 0))), (a11, .inl (d11, 24, .inl (fun _ => 0))), (a12, .inl (d12, 96, .inl (fun _ => 0))), (a13, .inl (d13, 24, .inl (fun _ => 0))), (a15, .inl (d15, 24, .inl (fun _ => 0)))] := hD
  refine va_putF (D := D) (ci := 0) (v := .ref a15) (ty := .array .boolean) (C := RX0) (T := TX0) (N := 19) hx hb hts in_X0 tyX0 tyX0_ok nmX0 hown hK hP hD hS 0 rfl rfl 15 (by decide) (hts _ q56) (fun _ h9 => h9) rfl hin rfl (by decide +kernel) rfl rfl (Nat.le_of_ble_eq_true rfl) dX0_init_113 (fun H locs hP hD hS => ?_)
  have hP : va_P D vwCl [(h0, .inr (0, [.int 0, .ref a1, .ref a2, .ref a3, .ref a4, .ref a5, .ref a6, .ref a7, .ref a8, .ref a9, .ref a10, .ref a11, .ref a12, .ref a13, .int 0, .ref a15, .int 0, .null, .int 0])), (a1, .inl (d1, 24, .inl (fun _ => 0))), (a2, .inl (d2, 24, .inl (fun _ => 0))), (a3, .inl (d3, 24, .inl (fun _ => 0))), (a4, .inl (d4, 24, .inl (fun _ => 0))), (a5, .inl (d5, 24, .inl (fun _ => 0))), (a6, .inl (d6, 96, .inl (fun _ => 0))), (a7, .inl (d7, 24, .inl (fun _ => 0))), (a8, .inl (d8, 24, .inl (fun _ => 0))), (a9, .inl (d9, 24, .inl (fun _ => 0))), (a10, .inl (d10, 24, .inl (fun _ => 0))), (a11, .inl (d11, 24, .inl (fun _ => 0))), (a12, .inl (d12, 96, .inl (fun _ => 0))), (a13, .inl (d13, 24, .inl (fun _ => 0))), (a15, .inl (d15, 24, .inl (fun _ => 0)))] H := hP
  have hD : va_D A [(h0, .inr (0, [.int 0, .ref a1, .ref a2, .ref a3, .ref a4, .ref a5, .ref a6, .ref a7, .ref a8, .ref a9, .ref a10, .ref a11, .ref a12, .ref a13, .int 0, .ref a15, .int 0, .null, .int 0])), (a1, .inl (d1, 24, .inl (fun _ => 0))), (a2, .inl (d2, 24, .inl (fun _ => 0))), (a3, .inl (d3, 24, .inl (fun _ => 0))), (a4, .inl (d4, 24, .inl (fun _ => 0))), (a5, .inl (d5, 24, .inl (fun _ => 0))), (a6, .inl (d6, 96, .inl (fun _ => 0))), (a7, .inl (d7, 24, .inl (fun _ => 0))), (a8, .inl (d8, 24, .inl (fun _ => 0))), (a9, .inl (d9, 24, .inl (fun _ => 0))), (a10, .inl (d10, 24, .inl (fun _ => 0))), (a11, .inl (d11, 24, .inl (fun _ => 0))), (a12, .inl (d12, 96, .inl (fun _ => 0))), (a13, .inl (d13, 24, .inl (fun _ => 0))), (a15, .inl (d15, 24, .inl (fun _ => 0)))] := hD
  refine lv_aload_n hx hb dX0_init_116 rfl (lv_at hl 0 rfl) ?_
  refine lv_bipush (v := 24) hx hb dX0_init_117 (by decide) ?_
  refine va_newa (a0 := (24, .inl (fun _ => 0))) (N' := 24) (atype := .int) (ty := .int) hx hb (hts _ q100) rfl hK hP hD hS hA (fun cA => rfl) (by decide) (by decide) (by decide) (Nat.le_of_ble_eq_true rfl) (Nat.le_of_ble_eq_true rfl) dX0_init_119 (fun a17 d17 H hK hP hD hS => ?_)
  refine W.widen (k := 15) (n := 504) (Nat.le_refl _) (Nat.le_refl _) ?_
  have hK : va_K D vwCl [(d1, .boolean), (d2, .int), (d3, .int), (d4, .int), (d5, .int), (d6, .int), (d7, .int), (d8, .int), (d9, .int), (d10, .boolean), (d11, .int), (d12, .int), (d13, .int), (d15, .boolean), (d17, .int)] s := hK
  have hP : va_P D vwCl [(h0, .inr (0, [.int 0, .ref a1, .ref a2, .ref a3, .ref a4, .ref a5, .ref a6, .ref a7, .ref a8, .ref a9, .ref a10, .ref a11, .ref a12, .ref a13, .int 0, .ref a15, .int 0, .null, .int 0])), (a1, .inl (d1, 24, .inl (fun _ => 0))), (a2, .inl (d2, 24, .inl (fun _ => 0))), (a3, .inl (d3, 24, .inl (fun _ => 0))), (a4, .inl (d4, 24, .inl (fun _ => 0))), (a5, .inl (d5, 24, .inl (fun _ => 0))), (a6, .inl (d6, 96, .inl (fun _ => 0))), (a7, .inl (d7, 24, .inl (fun _ => 0))), (a8, .inl (d8, 24, .inl (fun _ => 0))), (a9, .inl (d9, 24, .inl (fun _ => 0))), (a10, .inl (d10, 24, .inl (fun _ => 0))), (a11, .inl (d11, 24, .inl (fun _ => 0))), (a12, .inl (d12, 96, .inl (fun _ => 0))), (a13, .inl (d13, 24, .inl (fun _ => 0))), (a15, .inl (d15, 24, .inl (fun _ => 0))), (a17, .inl (d17, 24, .inl (fun _ => 0)))] H := hP
  have hD : va_D A [(h0, .inr (0, [.int 0, .ref a1, .ref a2, .ref a3, .ref a4, .ref a5, .ref a6, .ref a7, .ref a8, .ref a9, .ref a10, .ref a11, .ref a12, .ref a13, .int 0, .ref a15, .int 0, .null, .int 0])), (a1, .inl (d1, 24, .inl (fun _ => 0))), (a2, .inl (d2, 24, .inl (fun _ => 0))), (a3, .inl (d3, 24, .inl (fun _ => 0))), (a4, .inl (d4, 24, .inl (fun _ => 0))), (a5, .inl (d5, 24, .inl (fun _ => 0))), (a6, .inl (d6, 96, .inl (fun _ => 0))), (a7, .inl (d7, 24, .inl (fun _ => 0))), (a8, .inl (d8, 24, .inl (fun _ => 0))), (a9, .inl (d9, 24, .inl (fun _ => 0))), (a10, .inl (d10, 24, .inl (fun _ => 0))), (a11, .inl (d11, 24, .inl (fun _ => 0))), (a12, .inl (d12, 96, .inl (fun _ => 0))), (a13, .inl (d13, 24, .inl (fun _ => 0))), (a15, .inl (d15, 24, .inl (fun _ => 0))), (a17, .inl (d17, 24, .inl (fun _ => 0)))] := hD
  refine va_putF (D := D) (ci := 0) (v := .ref a17) (ty := .array .int) (C := RX0) (T := TX0) (N := 19) hx hb hts in_X0 tyX0 tyX0_ok nmX0 hown hK hP hD hS 0 rfl rfl 17 (by decide) (hts _ q58) (fun _ h9 => h9) rfl hin rfl (by decide +kernel) rfl rfl (Nat.le_of_ble_eq_true rfl) dX0_init_121 (fun H locs hP hD hS => ?_)
  have hP : va_P D vwCl [(h0, .inr (0, [.int 0, .ref a1, .ref a2, .ref a3, .ref a4, .ref a5, .ref a6, .ref a7, .ref a8, .ref a9, .ref a10, .ref a11, .ref a12, .ref a13, .int 0, .ref a15, .int 0, .ref a17, .int 0])), (a1, .inl (d1, 24, .inl (fun _ => 0))), (a2, .inl (d2, 24, .inl (fun _ => 0))), (a3, .inl (d3, 24, .inl (fun _ => 0))), (a4, .inl (d4, 24, .inl (fun _ => 0))), (a5, .inl (d5, 24, .inl (fun _ => 0))), (a6, .inl (d6, 96, .inl (fun _ => 0))), (a7, .inl (d7, 24, .inl (fun _ => 0))), (a8, .inl (d8, 24, .inl (fun _ => 0))), (a9, .inl (d9, 24, .inl (fun _ => 0))), (a10, .inl (d10, 24, .inl (fun _ => 0))), (a11, .inl (d11, 24, .inl (fun _ => 0))), (a12, .inl (d12, 96, .inl (fun _ => 0))), (a13, .inl (d13, 24, .inl (fun _ => 0))), (a15, .inl (d15, 24, .inl (fun _ => 0))), (a17, .inl (d17, 24, .inl (fun _ => 0)))] H := hP
  have hD : va_D A [(h0, .inr (0, [.int 0, .ref a1, .ref a2, .ref a3, .ref a4, .ref a5, .ref a6, .ref a7, .ref a8, .ref a9, .ref a10, .ref a11, .ref a12, .ref a13, .int 0, .ref a15, .int 0, .ref a17, .int 0])), (a1, .inl (d1, 24, .inl (fun _ => 0))), (a2, .inl (d2, 24, .inl (fun _ => 0))), (a3, .inl (d3, 24, .inl (fun _ => 0))), (a4, .inl (d4, 24, .inl (fun _ => 0))), (a5, .inl (d5, 24, .inl (fun _ => 0))), (a6, .inl (d6, 96, .inl (fun _ => 0))), (a7, .inl (d7, 24, .inl (fun _ => 0))), (a8, .inl (d8, 24, .inl (fun _ => 0))), (a9, .inl (d9, 24, .inl (fun _ => 0))), (a10, .inl (d10, 24, .inl (fun _ => 0))), (a11, .inl (d11, 24, .inl (fun _ => 0))), (a12, .inl (d12, 96, .inl (fun _ => 0))), (a13, .inl (d13, 24, .inl (fun _ => 0))), (a15, .inl (d15, 24, .inl (fun _ => 0))), (a17, .inl (d17, 24, .inl (fun _ => 0)))] := hD
  refine lv_aload_n hx hb dX0_init_124 rfl (lv_at hl 0 rfl) ?_
  refine lv_iconst (v := 1) hx hb dX0_init_125 (by decide) ?_
  obtain ⟨h, hh⟩ : ∃ h : Nat → Nat, h = fun k => ([h0, a1, a2, a3, a4, a5, a6, a7, a8, a9, a10, a11, a12, a13, 0, a15, 0, a17, 0] : List Nat).getD k 0 := ⟨_, rfl⟩
  obtain ⟨d, hd⟩ : ∃ d : Nat → ClassId, d = fun k => ([d1, d1, d2, d3, d4, d5, d6, d7, d8, d9, d10, d11, d12, d13, d1, d15, d1, d17, d1] : List ClassId).getD k d1 := ⟨_, rfl⟩
  have h00 : h 0 = h0 := by rw [hh]; rfl
  have hI : bX D A h d tt0 s H locs := by
    subst hh
    subst hd
    exact ⟨hK, hP, hD, hS⟩
  have hl : lv_has ls 1 [(0, .ref (h 0))] := by rw [h00]; exact hl
  refine W.eq (g2 := F0 m 126 ls [.int 1, .ref (h 0)]) (by rw [h00]) ?_
  have S : CallFix p m c cX0_init 1 s _ lw_all RX0 := ⟨hx, hb, hml, hown, hts⟩
  refine x_put_0 S hI dX0_init_126 (fun H locs hI => ?_)
  refine lv_aload_n hx hb dX0_init_129 rfl (lv_at hl 0 rfl) ?_
  refine lv_iconst (v := 0) hx hb dX0_init_130 (by decide) ?_
  refine lv_iconst (v := -1) hx hb dX0_init_131 (by decide) ?_
  refine lv_iconst (v := 0) hx hb dX0_init_132 (by decide) ?_
  refine x_callv (n := 3) S hI hA [.int 0, .int (-1), .int 0] (metX_clearNode l _ 0 (-1) 0 (by decide) rfl) (lw_V q37 q39 qs0 q27 q40) rfl rfl (by decide +kernel) ⟨by decide, by decide⟩ rfl hl.1 rfl (Nat.le_of_ble_eq_true rfl) dX0_init_133 ⟨by decide, by decide⟩ (fun H locs hI => ?_)
  exact W.vret hx hb hr (fun t ht hW => ⟨⟨(h, d), rfl, h00, by rw [ht]; exact hI.2.1, va_K.moved hW.alike hI.1, hI.2.2.1⟩, hI.2.2.2.F ht⟩) hI.2.2.2.2.2 dX0_init_136 hlocks
def yW0 (h0 : Nat) : va_W := [(h0, .inr (1, [.int 0, .null, .null, .null, .null, .null, .null, .null, .null, .null, .null]))]
def rmYi : Room := { frames := 1, cells := 10, slots := 384, locals := 27 }
set_option maxHeartbeats 4000000 in
theorem metY_init (l : Launch) (D : va_G) (h0 sz : Nat) : Met l yX1_init (ws_ yX1_init cX1_init 1 none) rmYi (va_Pc [.ref h0] (fun U => U.heap.size = sz ∧ va_P D vwCl (yW0 h0) U.heap ∧ va_K D vwCl [] U ∧ va_D (fun _ => True) (yW0 h0))) (va_Qv (fun (u : (Nat → Nat) × (Nat → ClassId)) => u.1 0 = h0) (fun u t => ypost D u.1 u.2 (va_A (yW0 h0) sz) yInit t) (va_A (yW0 h0) sz)) 10 384 (va_A (yW0 h0) sz) := by
  refine Met.ofW (cc := cX1_init) (maxL := 1) (ret := none) (by decide) rfl ?_
  intro p e s m args below meth c s₁ B hml hv
  obtain ⟨rfl, hsz, hP, hK, hD0⟩ := hv
  have hx := B.exec
  have hb := B.bytes
  have hr := B.returns
  have hts := atoms_spec (ws := ws_ yX1_init cX1_init 1 none) B.pre
  have hts : ∀ w ∈ lw_all, w.before _ s = true := fun w h => hts w (List.mem_cons_of_mem _ h)
  have hown : s.vm.findClass RX1 = some m.cls := findClass_of_methodNamed B.named
  have hlocks := B.notSynchronized
  have hin : meth.name = "<init>" := (name_of_methodNamed B.named B.method).1
  subst hsz
  have hD := hD0.self (sz := s.heap.size)
  generalize hAe : va_A (yW0 h0) s.heap.size = A at hD ⊢
  have hA : ∀ q : Nat, s.heap.size ≤ q → A q := fun q h => by rw [← hAe]; exact Or.inr h
  have hS : va_S A s.heap s.heap [] := va_S.rf
  have hP : va_P D vwCl [(h0, .inr (1, [.int 0, .null, .null, .null, .null, .null, .null, .null, .null, .null, .null]))] s.heap := hP
  have hD : va_D A [(h0, .inr (1, [.int 0, .null, .null, .null, .null, .null, .null, .null, .null, .null, .null]))] := hD
  have hl := lv_entry ([.ref h0]) (n := 1) (Nat.le_of_ble_eq_true rfl)
  rw [lg_entry_eq]
  generalize (lg_sl ([.ref h0]) ++ List.replicate (1 - (lg_sl ([.ref h0])).length) Slot.unset).toArray = ls at hl ⊢
  have hl : lv_has ls 1 [(0, .ref h0)] := hl
  refine lv_aload_n hx hb dX1_init_0 rfl (lv_at hl 0 rfl) ?_
  refine W.objInit hx hb hown (hts _ q218) (hts _ q35) (hts _ q36) rfl (by rw [hml]; exact hl.1) rfl dX1_init_1 (Nat.le_of_ble_eq_true rfl) (Nat.le_of_ble_eq_true rfl) ?_
  refine W.eq (g2 := F0 m 4 ls []) rfl ?_
  refine lv_aload_n hx hb dX1_init_4 rfl (lv_at hl 0 rfl) ?_
  refine lv_bipush (v := 24) hx hb dX1_init_5 (by decide) ?_
  refine va_newa (a0 := (24, .inl (fun _ => 0))) (N' := 24) (atype := .boolean) (ty := .boolean) hx hb (hts _ q99) rfl hK hP hD hS hA (fun cA => rfl) (by decide) (by decide) (by decide) (Nat.le_of_ble_eq_true rfl) (Nat.le_of_ble_eq_true rfl) dX1_init_7 (fun a1 d1 H hK hP hD hS => ?_)
  refine W.widen (k := 1) (n := 24) (Nat.le_refl _) (Nat.le_refl _) ?_
  have hK : va_K D vwCl [(d1, .boolean)] s := hK
  have hP : va_P D vwCl [(h0, .inr (1, [.int 0, .null, .null, .null, .null, .null, .null, .null, .null, .null, .null])), (a1, .inl (d1, 24, .inl (fun _ => 0)))] H := hP
  have hD : va_D A [(h0, .inr (1, [.int 0, .null, .null, .null, .null, .null, .null, .null, .null, .null, .null])), (a1, .inl (d1, 24, .inl (fun _ => 0)))] := hD
  refine va_putF (D := D) (ci := 1) (v := .ref a1) (ty := .array .boolean) (C := RX1) (T := TX1) (N := 11) hx hb hts in_X1 tyX1 tyX1_ok nmX1 hown hK hP hD hS 0 rfl rfl 1 (by decide) (hts _ q220) (fun _ h9 => h9) rfl hin rfl (by decide +kernel) rfl rfl (Nat.le_of_ble_eq_true rfl) dX1_init_9 (fun H locs hP hD hS => ?_)
  have hP : va_P D vwCl [(h0, .inr (1, [.int 0, .ref a1, .null, .null, .null, .null, .null, .null, .null, .null, .null])), (a1, .inl (d1, 24, .inl (fun _ => 0)))] H := hP
  have hD : va_D A [(h0, .inr (1, [.int 0, .ref a1, .null, .null, .null, .null, .null, .null, .null, .null, .null])), (a1, .inl (d1, 24, .inl (fun _ => 0)))] := hD
  refine lv_aload_n hx hb dX1_init_12 rfl (lv_at hl 0 rfl) ?_
  refine lv_bipush (v := 24) hx hb dX1_init_13 (by decide) ?_
  refine va_newa (a0 := (24, .inl (fun _ => 0))) (N' := 24) (atype := .int) (ty := .int) hx hb (hts _ q100) rfl hK hP hD hS hA (fun cA => rfl) (by decide) (by decide) (by decide) (Nat.le_of_ble_eq_true rfl) (Nat.le_of_ble_eq_true rfl) dX1_init_15 (fun a2 d2 H hK hP hD hS => ?_)
  refine W.widen (k := 2) (n := 48) (Nat.le_refl _) (Nat.le_refl _) ?_
  have hK : va_K D vwCl [(d1, .boolean), (d2, .int)] s := hK
  have hP : va_P D vwCl [(h0, .inr (1, [.int 0, .ref a1, .null, .null, .null, .null, .null, .null, .null, .null, .null])), (a1, .inl (d1, 24, .inl (fun _ => 0))), (a2, .inl (d2, 24, .inl (fun _ => 0)))] H := hP
  have hD : va_D A [(h0, .inr (1, [.int 0, .ref a1, .null, .null, .null, .null, .null, .null, .null, .null, .null])), (a1, .inl (d1, 24, .inl (fun _ => 0))), (a2, .inl (d2, 24, .inl (fun _ => 0)))] := hD
  refine va_putF (D := D) (ci := 1) (v := .ref a2) (ty := .array .int) (C := RX1) (T := TX1) (N := 11) hx hb hts in_X1 tyX1 tyX1_ok nmX1 hown hK hP hD hS 0 rfl rfl 2 (by decide) (hts _ q221) (fun _ h9 => h9) rfl hin rfl (by decide +kernel) rfl rfl (Nat.le_of_ble_eq_true rfl) dX1_init_17 (fun H locs hP hD hS => ?_)
  have hP : va_P D vwCl [(h0, .inr (1, [.int 0, .ref a1, .ref a2, .null, .null, .null, .null, .null, .null, .null, .null])), (a1, .inl (d1, 24, .inl (fun _ => 0))), (a2, .inl (d2, 24, .inl (fun _ => 0)))] H := hP
  have hD : va_D A [(h0, .inr (1, [.int 0, .ref a1, .ref a2, .null, .null, .null, .null, .null, .null, .null, .null])), (a1, .inl (d1, 24, .inl (fun _ => 0))), (a2, .inl (d2, 24, .inl (fun _ => 0)))] := hD
  refine lv_aload_n hx hb dX1_init_20 rfl (lv_at hl 0 rfl) ?_
  refine lv_bipush (v := 24) hx hb dX1_init_21 (by decide) ?_
  refine va_newa (a0 := (24, .inl (fun _ => 0))) (N' := 24) (atype := .boolean) (ty := .boolean) hx hb (hts _ q99) rfl hK hP hD hS hA (fun cA => rfl) (by decide) (by decide) (by decide) (Nat.le_of_ble_eq_true rfl) (Nat.le_of_ble_eq_true rfl) dX1_init_23 (fun a3 d3 H hK hP hD hS => ?_)
  refine W.widen (k := 3) (n := 72) (Nat.le_refl _) (Nat.le_refl _) ?_
  have hK : va_K D vwCl [(d1, .boolean), (d2, .int), (d3, .boolean)] s := hK
  have hP : va_P D vwCl [(h0, .inr (1, [.int 0, .ref a1, .ref a2, .null, .null, .null, .null, .null, .null, .null, .null])), (a1, .inl (d1, 24, .inl (fun _ => 0))), (a2, .inl (d2, 24, .inl (fun _ => 0))), (a3, .inl (d3, 24, .inl (fun _ => 0)))] H := hP
  have hD : va_D A [(h0, .inr (1, [.int 0, .ref a1, .ref a2, .null, .null, .null, .null, .null, .null, .null, .null])), (a1, .inl (d1, 24, .inl (fun _ => 0))), (a2, .inl (d2, 24, .inl (fun _ => 0))), (a3, .inl (d3, 24, .inl (fun _ => 0)))] := hD
  refine va_putF (D := D) (ci := 1) (v := .ref a3) (ty := .array .boolean) (C := RX1) (T := TX1) (N := 11) hx hb hts in_X1 tyX1 tyX1_ok nmX1 hown hK hP hD hS 0 rfl rfl 3 (by decide) (hts _ q222) (fun _ h9 => h9) rfl hin rfl (by decide +kernel) rfl rfl (Nat.le_of_ble_eq_true rfl) dX1_init_25 (fun H locs hP hD hS => ?_)
  have hP : va_P D vwCl [(h0, .inr (1, [.int 0, .ref a1, .ref a2, .ref a3, .null, .null, .null, .null, .null, .null, .null])), (a1, .inl (d1, 24, .inl (fun _ => 0))), (a2, .inl (d2, 24, .inl (fun _ => 0))), (a3, .inl (d3, 24, .inl (fun _ => 0)))] H := hP
  have hD : va_D A [(h0, .inr (1, [.int 0, .ref a1, .ref a2, .ref a3, .null, .null, .null, .null, .null, .null, .null])), (a1, .inl (d1, 24, .inl (fun _ => 0))), (a2, .inl (d2, 24, .inl (fun _ => 0))), (a3, .inl (d3, 24, .inl (fun _ => 0)))] := hD
  refine lv_aload_n hx hb dX1_init_28 rfl (lv_at hl 0 rfl) ?_
  refine lv_bipush (v := 96) hx hb dX1_init_29 (by decide) ?_
  refine va_newa (a0 := (96, .inl (fun _ => 0))) (N' := 96) (atype := .int) (ty := .int) hx hb (hts _ q100) rfl hK hP hD hS hA (fun cA => rfl) (by decide) (by decide) (by decide) (Nat.le_of_ble_eq_true rfl) (Nat.le_of_ble_eq_true rfl) dX1_init_31 (fun a4 d4 H hK hP hD hS => ?_)
  refine W.widen (k := 4) (n := 168) (Nat.le_refl _) (Nat.le_refl _) ?_
  have hK : va_K D vwCl [(d1, .boolean), (d2, .int), (d3, .boolean), (d4, .int)] s := hK
  have hP : va_P D vwCl [(h0, .inr (1, [.int 0, .ref a1, .ref a2, .ref a3, .null, .null, .null, .null, .null, .null, .null])), (a1, .inl (d1, 24, .inl (fun _ => 0))), (a2, .inl (d2, 24, .inl (fun _ => 0))), (a3, .inl (d3, 24, .inl (fun _ => 0))), (a4, .inl (d4, 96, .inl (fun _ => 0)))] H := hP
  have hD : va_D A [(h0, .inr (1, [.int 0, .ref a1, .ref a2, .ref a3, .null, .null, .null, .null, .null, .null, .null])), (a1, .inl (d1, 24, .inl (fun _ => 0))), (a2, .inl (d2, 24, .inl (fun _ => 0))), (a3, .inl (d3, 24, .inl (fun _ => 0))), (a4, .inl (d4, 96, .inl (fun _ => 0)))] := hD
  refine va_putF (D := D) (ci := 1) (v := .ref a4) (ty := .array .int) (C := RX1) (T := TX1) (N := 11) hx hb hts in_X1 tyX1 tyX1_ok nmX1 hown hK hP hD hS 0 rfl rfl 4 (by decide) (hts _ q223) (fun _ h9 => h9) rfl hin rfl (by decide +kernel) rfl rfl (Nat.le_of_ble_eq_true rfl) dX1_init_33 (fun H locs hP hD hS => ?_)
  have hP : va_P D vwCl [(h0, .inr (1, [.int 0, .ref a1, .ref a2, .ref a3, .ref a4, .null, .null, .null, .null, .null, .null])), (a1, .inl (d1, 24, .inl (fun _ => 0))), (a2, .inl (d2, 24, .inl (fun _ => 0))), (a3, .inl (d3, 24, .inl (fun _ => 0))), (a4, .inl (d4, 96, .inl (fun _ => 0)))] H := hP
  have hD : va_D A [(h0, .inr (1, [.int 0, .ref a1, .ref a2, .ref a3, .ref a4, .null, .null, .null, .null, .null, .null])), (a1, .inl (d1, 24, .inl (fun _ => 0))), (a2, .inl (d2, 24, .inl (fun _ => 0))), (a3, .inl (d3, 24, .inl (fun _ => 0))), (a4, .inl (d4, 96, .inl (fun _ => 0)))] := hD
  refine lv_aload_n hx hb dX1_init_36 rfl (lv_at hl 0 rfl) ?_
  refine lv_bipush (v := 24) hx hb dX1_init_37 (by decide) ?_
  refine va_newa (a0 := (24, .inl (fun _ => 0))) (N' := 24) (atype := .int) (ty := .int) hx hb (hts _ q100) rfl hK hP hD hS hA (fun cA => rfl) (by decide) (by decide) (by decide) (Nat.le_of_ble_eq_true rfl) (Nat.le_of_ble_eq_true rfl) dX1_init_39 (fun a5 d5 H hK hP hD hS => ?_)
  refine W.widen (k := 5) (n := 192) (Nat.le_refl _) (Nat.le_refl _) ?_
  have hK : va_K D vwCl [(d1, .boolean), (d2, .int), (d3, .boolean), (d4, .int), (d5, .int)] s := hK
  have hP : va_P D vwCl [(h0, .inr (1, [.int 0, .ref a1, .ref a2, .ref a3, .ref a4, .null, .null, .null, .null, .null, .null])), (a1, .inl (d1, 24, .inl (fun _ => 0))), (a2, .inl (d2, 24, .inl (fun _ => 0))), (a3, .inl (d3, 24, .inl (fun _ => 0))), (a4, .inl (d4, 96, .inl (fun _ => 0))), (a5, .inl (d5, 24, .inl (fun _ => 0)))] H := hP
  have hD : va_D A [(h0, .inr (1, [.int 0, .ref a1, .ref a2, .ref a3, .ref a4, .null, .null, .null, .null, .null, .null])), (a1, .inl (d1, 24, .inl (fun _ => 0))), (a2, .inl (d2, 24, .inl (fun _ => 0))), (a3, .inl (d3, 24, .inl (fun _ => 0))), (a4, .inl (d4, 96, .inl (fun _ => 0))), (a5, .inl (d5, 24, .inl (fun _ => 0)))] := hD
  refine va_putF (D := D) (ci := 1) (v := .ref a5) (ty := .array .int) (C := RX1) (T := TX1) (N := 11) hx hb hts in_X1 tyX1 tyX1_ok nmX1 hown hK hP hD hS 0 rfl rfl 5 (by decide) (hts _ q224) (fun _ h9 => h9) rfl hin rfl (by decide +kernel) rfl rfl (Nat.le_of_ble_eq_true rfl) dX1_init_41 (fun H locs hP hD hS => ?_)
  have hP : va_P D vwCl [(h0, .inr (1, [.int 0, .ref a1, .ref a2, .ref a3, .ref a4, .ref a5, .null, .null, .null, .null, .null])), (a1, .inl (d1, 24, .inl (fun _ => 0))), (a2, .inl (d2, 24, .inl (fun _ => 0))), (a3, .inl (d3, 24, .inl (fun _ => 0))), (a4, .inl (d4, 96, .inl (fun _ => 0))), (a5, .inl (d5, 24, .inl (fun _ => 0)))] H := hP
  have hD : va_D A [(h0, .inr (1, [.int 0, .ref a1, .ref a2, .ref a3, .ref a4, .ref a5, .null, .null, .null, .null, .null])), (a1, .inl (d1, 24, .inl (fun _ => 0))), (a2, .inl (d2, 24, .inl (fun _ => 0))), (a3, .inl (d3, 24, .inl (fun _ => 0))), (a4, .inl (d4, 96, .inl (fun _ => 0))), (a5, .inl (d5, 24, .inl (fun _ => 0)))] := hD
  refine lv_aload_n hx hb dX1_init_44 rfl (lv_at hl 0 rfl) ?_
  refine lv_bipush (v := 24) hx hb dX1_init_45 (by decide) ?_
  refine va_newa (a0 := (24, .inl (fun _ => 0))) (N' := 24) (atype := .int) (ty := .int) hx hb (hts _ q100) rfl hK hP hD hS hA (fun cA => rfl) (by decide) (by decide) (by decide) (Nat.le_of_ble_eq_true rfl) (Nat.le_of_ble_eq_true rfl) dX1_init_47 (fun a6 d6 H hK hP hD hS => ?_)
  refine W.widen (k := 6) (n := 216) (Nat.le_refl _) (Nat.le_refl _) ?_
  have hK : va_K D vwCl [(d1, .boolean), (d2, .int), (d3, .boolean), (d4, .int), (d5, .int), (d6, .int)] s := hK
  have hP : va_P D vwCl [(h0, .inr (1, [.int 0, .ref a1, .ref a2, .ref a3, .ref a4, .ref a5, .null, .null, .null, .null, .null])), (a1, .inl (d1, 24, .inl (fun _ => 0))), (a2, .inl (d2, 24, .inl (fun _ => 0))), (a3, .inl (d3, 24, .inl (fun _ => 0))), (a4, .inl (d4, 96, .inl (fun _ => 0))), (a5, .inl (d5, 24, .inl (fun _ => 0))), (a6, .inl (d6, 24, .inl (fun _ => 0)))] H := hP
  have hD : va_D A [(h0, .inr (1, [.int 0, .ref a1, .ref a2, .ref a3, .ref a4, .ref a5, .null, .null, .null, .null, .null])), (a1, .inl (d1, 24, .inl (fun _ => 0))), (a2, .inl (d2, 24, .inl (fun _ => 0))), (a3, .inl (d3, 24, .inl (fun _ => 0))), (a4, .inl (d4, 96, .inl (fun _ => 0))), (a5, .inl (d5, 24, .inl (fun _ => 0))), (a6, .inl (d6, 24, .inl (fun _ => 0)))] := hD
  refine va_putF (D := D) (ci := 1) (v := .ref a6) (ty := .array .int) (C := RX1) (T := TX1) (N := 11) hx hb hts in_X1 tyX1 tyX1_ok nmX1 hown hK hP hD hS 0 rfl rfl 6 (by decide) (hts _ q225) (fun _ h9 => h9) rfl hin rfl (by decide +kernel) rfl rfl (Nat.le_of_ble_eq_true rfl) dX1_init_49 (fun H locs hP hD hS => ?_)
  have hP : va_P D vwCl [(h0, .inr (1, [.int 0, .ref a1, .ref a2, .ref a3, .ref a4, .ref a5, .ref a6, .null, .null, .null, .null])), (a1, .inl (d1, 24, .inl (fun _ => 0))), (a2, .inl (d2, 24, .inl (fun _ => 0))), (a3, .inl (d3, 24, .inl (fun _ => 0))), (a4, .inl (d4, 96, .inl (fun _ => 0))), (a5, .inl (d5, 24, .inl (fun _ => 0))), (a6, .inl (d6, 24, .inl (fun _ => 0)))] H := hP
  have hD : va_D A [(h0, .inr (1, [.int 0, .ref a1, .ref a2, .ref a3, .ref a4, .ref a5, .ref a6, .null, .null, .null, .null])), (a1, .inl (d1, 24, .inl (fun _ => 0))), (a2, .inl (d2, 24, .inl (fun _ => 0))), (a3, .inl (d3, 24, .inl (fun _ => 0))), (a4, .inl (d4, 96, .inl (fun _ => 0))), (a5, .inl (d5, 24, .inl (fun _ => 0))), (a6, .inl (d6, 24, .inl (fun _ => 0)))] := hD
  refine lv_aload_n hx hb dX1_init_52 rfl (lv_at hl 0 rfl) ?_
  refine lv_bipush (v := 24) hx hb dX1_init_53 (by decide) ?_
  refine va_newa (a0 := (24, .inl (fun _ => 0))) (N' := 24) (atype := .int) (ty := .int) hx hb (hts _ q100) rfl hK hP hD hS hA (fun cA => rfl) (by decide) (by decide) (by decide) (Nat.le_of_ble_eq_true rfl) (Nat.le_of_ble_eq_true rfl) dX1_init_55 (fun a7 d7 H hK hP hD hS => ?_)
  refine W.widen (k := 7) (n := 240) (Nat.le_refl _) (Nat.le_refl _) ?_
  have hK : va_K D vwCl [(d1, .boolean), (d2, .int), (d3, .boolean), (d4, .int), (d5, .int), (d6, .int), (d7, .int)] s := hK
  have hP : va_P D vwCl [(h0, .inr (1, [.int 0, .ref a1, .ref a2, .ref a3, .ref a4, .ref a5, .ref a6, .null, .null, .null, .null])), (a1, .inl (d1, 24, .inl (fun _ => 0))), (a2, .inl (d2, 24, .inl (fun _ => 0))), (a3, .inl (d3, 24, .inl (fun _ => 0))), (a4, .inl (d4, 96, .inl (fun _ => 0))), (a5, .inl (d5, 24, .inl (fun _ => 0))), (a6, .inl (d6, 24, .inl (fun _ => 0))), (a7, .inl (d7, 24, .inl (fun _ => 0)))] H := hP
  have hD : va_D A [(h0, .inr (1, [.int 0, .ref a1, .ref a2, .ref a3, .ref a4, .ref a5, .ref a6, .null, .null, .null, .null])), (a1, .inl (d1, 24, .inl (fun _ => 0))), (a2, .inl (d2, 24, .inl (fun _ => 0))), (a3, .inl (d3, 24, .inl (fun _ => 0))), (a4, .inl (d4, 96, .inl (fun _ => 0))), (a5, .inl (d5, 24, .inl (fun _ => 0))), (a6, .inl (d6, 24, .inl (fun _ => 0))), (a7, .inl (d7, 24, .inl (fun _ => 0)))] := hD
  refine va_putF (D := D) (ci := 1) (v := .ref a7) (ty := .array .int) (C := RX1) (T := TX1) (N := 11) hx hb hts in_X1 tyX1 tyX1_ok nmX1 hown hK hP hD hS 0 rfl rfl 7 (by decide) (hts _ q226) (fun _ h9 => h9) rfl hin rfl (by decide +kernel) rfl rfl (Nat.le_of_ble_eq_true rfl) dX1_init_57 (fun H locs hP hD hS => ?_)
  have hP : va_P D vwCl [(h0, .inr (1, [.int 0, .ref a1, .ref a2, .ref a3, .ref a4, .ref a5, .ref a6, .ref a7, .null, .null, .null])), (a1, .inl (d1, 24, .inl (fun _ => 0))), (a2, .inl (d2, 24, .inl (fun _ => 0))), (a3, .inl (d3, 24, .inl (fun _ => 0))), (a4, .inl (d4, 96, .inl (fun _ => 0))), (a5, .inl (d5, 24, .inl (fun _ => 0))), (a6, .inl (d6, 24, .inl (fun _ => 0))), (a7, .inl (d7, 24, .inl (fun _ => 0)))] H := hP
  have hD : va_D A [(h0, .inr (1, [.int 0, .ref a1, .ref a2, .ref a3, .ref a4, .ref a5, .ref a6, .ref a7, .null, .null, .null])), (a1, .inl (d1, 24, .inl (fun _ => 0))), (a2, .inl (d2, 24, .inl (fun _ => 0))), (a3, .inl (d3, 24, .inl (fun _ => 0))), (a4, .inl (d4, 96, .inl (fun _ => 0))), (a5, .inl (d5, 24, .inl (fun _ => 0))), (a6, .inl (d6, 24, .inl (fun _ => 0))), (a7, .inl (d7, 24, .inl (fun _ => 0)))] := hD
  refine lv_aload_n hx hb dX1_init_60 rfl (lv_at hl 0 rfl) ?_
  refine lv_bipush (v := 24) hx hb dX1_init_61 (by decide) ?_
  refine va_newa (a0 := (24, .inl (fun _ => 0))) (N' := 24) (atype := .int) (ty := .int) hx hb (hts _ q100) rfl hK hP hD hS hA (fun cA => rfl) (by decide) (by decide) (by decide) (Nat.le_of_ble_eq_true rfl) (Nat.le_of_ble_eq_true rfl) dX1_init_63 (fun a8 d8 H hK hP hD hS => ?_)
  refine W.widen (k := 8) (n := 264) (Nat.le_refl _) (Nat.le_refl _) ?_
  have hK : va_K D vwCl [(d1, .boolean), (d2, .int), (d3, .boolean), (d4, .int), (d5, .int), (d6, .int), (d7, .int), (d8, .int)] s := hK
  have hP : va_P D vwCl [(h0, .inr (1, [.int 0, .ref a1, .ref a2, .ref a3, .ref a4, .ref a5, .ref a6, .ref a7, .null, .null, .null])), (a1, .inl (d1, 24, .inl (fun _ => 0))), (a2, .inl (d2, 24, .inl (fun _ => 0))), (a3, .inl (d3, 24, .inl (fun _ => 0))), (a4, .inl (d4, 96, .inl (fun _ => 0))), (a5, .inl (d5, 24, .inl (fun _ => 0))), (a6, .inl (d6, 24, .inl (fun _ => 0))), (a7, .inl (d7, 24, .inl (fun _ => 0))), (a8, .inl (d8, 24, .inl (fun _ => 0)))] H := hP
  have hD : va_D A [(h0, .inr (1, [.int 0, .ref a1, .ref a2, .ref a3, .ref a4, .ref a5, .ref a6, .ref a7, .null, .null, .null])), (a1, .inl (d1, 24, .inl (fun _ => 0))), (a2, .inl (d2, 24, .inl (fun _ => 0))), (a3, .inl (d3, 24, .inl (fun _ => 0))), (a4, .inl (d4, 96, .inl (fun _ => 0))), (a5, .inl (d5, 24, .inl (fun _ => 0))), (a6, .inl (d6, 24, .inl (fun _ => 0))), (a7, .inl (d7, 24, .inl (fun _ => 0))), (a8, .inl (d8, 24, .inl (fun _ => 0)))] := hD
  refine va_putF (D := D) (ci := 1) (v := .ref a8) (ty := .array .int) (C := RX1) (T := TX1) (N := 11) hx hb hts in_X1 tyX1 tyX1_ok nmX1 hown hK hP hD hS 0 rfl rfl 8 (by decide) (hts _ q227) (fun _ h9 => h9) rfl hin rfl (by decide +kernel) rfl rfl (Nat.le_of_ble_eq_true rfl) dX1_init_65 (fun H locs hP hD hS => ?_)
  have hP : va_P D vwCl [(h0, .inr (1, [.int 0, .ref a1, .ref a2, .ref a3, .ref a4, .ref a5, .ref a6, .ref a7, .ref a8, .null, .null])), (a1, .inl (d1, 24, .inl (fun _ => 0))), (a2, .inl (d2, 24, .inl (fun _ => 0))), (a3, .inl (d3, 24, .inl (fun _ => 0))), (a4, .inl (d4, 96, .inl (fun _ => 0))), (a5, .inl (d5, 24, .inl (fun _ => 0))), (a6, .inl (d6, 24, .inl (fun _ => 0))), (a7, .inl (d7, 24, .inl (fun _ => 0))), (a8, .inl (d8, 24, .inl (fun _ => 0)))] H := hP
  have hD : va_D A [(h0, .inr (1, [.int 0, .ref a1, .ref a2, .ref a3, .ref a4, .ref a5, .ref a6, .ref a7, .ref a8, .null, .null])), (a1, .inl (d1, 24, .inl (fun _ => 0))), (a2, .inl (d2, 24, .inl (fun _ => 0))), (a3, .inl (d3, 24, .inl (fun _ => 0))), (a4, .inl (d4, 96, .inl (fun _ => 0))), (a5, .inl (d5, 24, .inl (fun _ => 0))), (a6, .inl (d6, 24, .inl (fun _ => 0))), (a7, .inl (d7, 24, .inl (fun _ => 0))), (a8, .inl (d8, 24, .inl (fun _ => 0)))] := hD
  refine lv_aload_n hx hb dX1_init_68 rfl (lv_at hl 0 rfl) ?_
  refine lv_bipush (v := 96) hx hb dX1_init_69 (by decide) ?_
  refine va_newa (a0 := (96, .inl (fun _ => 0))) (N' := 96) (atype := .int) (ty := .int) hx hb (hts _ q100) rfl hK hP hD hS hA (fun cA => rfl) (by decide) (by decide) (by decide) (Nat.le_of_ble_eq_true rfl) (Nat.le_of_ble_eq_true rfl) dX1_init_71 (fun a9 d9 H hK hP hD hS => ?_)
  refine W.widen (k := 9) (n := 360) (Nat.le_refl _) (Nat.le_refl _) ?_
  have hK : va_K D vwCl [(d1, .boolean), (d2, .int), (d3, .boolean), (d4, .int), (d5, .int), (d6, .int), (d7, .int), (d8, .int), (d9, .int)] s := hK
  have hP : va_P D vwCl [(h0, .inr (1, [.int 0, .ref a1, .ref a2, .ref a3, .ref a4, .ref a5, .ref a6, .ref a7, .ref a8, .null, .null])), (a1, .inl (d1, 24, .inl (fun _ => 0))), (a2, .inl (d2, 24, .inl (fun _ => 0))), (a3, .inl (d3, 24, .inl (fun _ => 0))), (a4, .inl (d4, 96, .inl (fun _ => 0))), (a5, .inl (d5, 24, .inl (fun _ => 0))), (a6, .inl (d6, 24, .inl (fun _ => 0))), (a7, .inl (d7, 24, .inl (fun _ => 0))), (a8, .inl (d8, 24, .inl (fun _ => 0))), (a9, .inl (d9, 96, .inl (fun _ => 0)))] H := hP
  have hD : va_D A [(h0, .inr (1, [.int 0, .ref a1, .ref a2, .ref a3, .ref a4, .ref a5, .ref a6, .ref a7, .ref a8, .null, .null])), (a1, .inl (d1, 24, .inl (fun _ => 0))), (a2, .inl (d2, 24, .inl (fun _ => 0))), (a3, .inl (d3, 24, .inl (fun _ => 0))), (a4, .inl (d4, 96, .inl (fun _ => 0))), (a5, .inl (d5, 24, .inl (fun _ => 0))), (a6, .inl (d6, 24, .inl (fun _ => 0))), (a7, .inl (d7, 24, .inl (fun _ => 0))), (a8, .inl (d8, 24, .inl (fun _ => 0))), (a9, .inl (d9, 96, .inl (fun _ => 0)))] := hD
  refine va_putF (D := D) (ci := 1) (v := .ref a9) (ty := .array .int) (C := RX1) (T := TX1) (N := 11) hx hb hts in_X1 tyX1 tyX1_ok nmX1 hown hK hP hD hS 0 rfl rfl 9 (by decide) (hts _ q228) (fun _ h9 => h9) rfl hin rfl (by decide +kernel) rfl rfl (Nat.le_of_ble_eq_true rfl) dX1_init_73 (fun H locs hP hD hS => ?_)
  have hP : va_P D vwCl [(h0, .inr (1, [.int 0, .ref a1, .ref a2, .ref a3, .ref a4, .ref a5, .ref a6, .ref a7, .ref a8, .ref a9, .null])), (a1, .inl (d1, 24, .inl (fun _ => 0))), (a2, .inl (d2, 24, .inl (fun _ => 0))), (a3, .inl (d3, 24, .inl (fun _ => 0))), (a4, .inl (d4, 96, .inl (fun _ => 0))), (a5, .inl (d5, 24, .inl (fun _ => 0))), (a6, .inl (d6, 24, .inl (fun _ => 0))), (a7, .inl (d7, 24, .inl (fun _ => 0))), (a8, .inl (d8, 24, .inl (fun _ => 0))), (a9, .inl (d9, 96, .inl (fun _ => 0)))] H := hP
  have hD : va_D A [(h0, .inr (1, [.int 0, .ref a1, .ref a2, .ref a3, .ref a4, .ref a5, .ref a6, .ref a7, .ref a8, .ref a9, .null])), (a1, .inl (d1, 24, .inl (fun _ => 0))), (a2, .inl (d2, 24, .inl (fun _ => 0))), (a3, .inl (d3, 24, .inl (fun _ => 0))), (a4, .inl (d4, 96, .inl (fun _ => 0))), (a5, .inl (d5, 24, .inl (fun _ => 0))), (a6, .inl (d6, 24, .inl (fun _ => 0))), (a7, .inl (d7, 24, .inl (fun _ => 0))), (a8, .inl (d8, 24, .inl (fun _ => 0))), (a9, .inl (d9, 96, .inl (fun _ => 0)))] := hD
  refine lv_aload_n hx hb dX1_init_76 rfl (lv_at hl 0 rfl) ?_
  refine lv_bipush (v := 24) hx hb dX1_init_77 (by decide) ?_
  refine va_newa (a0 := (24, .inl (fun _ => 0))) (N' := 24) (atype := .int) (ty := .int) hx hb (hts _ q100) rfl hK hP hD hS hA (fun cA => rfl) (by decide) (by decide) (by decide) (Nat.le_of_ble_eq_true rfl) (Nat.le_of_ble_eq_true rfl) dX1_init_79 (fun a10 d10 H hK hP hD hS => ?_)
  refine W.widen (k := 10) (n := 384) (Nat.le_refl _) (Nat.le_refl _) ?_
  have hK : va_K D vwCl [(d1, .boolean), (d2, .int), (d3, .boolean), (d4, .int), (d5, .int), (d6, .int), (d7, .int), (d8, .int), (d9, .int), (d10, .int)] s := hK
  have hP : va_P D vwCl [(h0, .inr (1, [.int 0, .ref a1, .ref a2, .ref a3, .ref a4, .ref a5, .ref a6, .ref a7, .ref a8, .ref a9, .null])), (a1, .inl (d1, 24, .inl (fun _ => 0))), (a2, .inl (d2, 24, .inl (fun _ => 0))), (a3, .inl (d3, 24, .inl (fun _ => 0))), (a4, .inl (d4, 96, .inl (fun _ => 0))), (a5, .inl (d5, 24, .inl (fun _ => 0))), (a6, .inl (d6, 24, .inl (fun _ => 0))), (a7, .inl (d7, 24, .inl (fun _ => 0))), (a8, .inl (d8, 24, .inl (fun _ => 0))), (a9, .inl (d9, 96, .inl (fun _ => 0))), (a10, .inl (d10, 24, .inl (fun _ => 0)))] H := hP
  have hD : va_D A [(h0, .inr (1, [.int 0, .ref a1, .ref a2, .ref a3, .ref a4, .ref a5, .ref a6, .ref a7, .ref a8, .ref a9, .null])), (a1, .inl (d1, 24, .inl (fun _ => 0))), (a2, .inl (d2, 24, .inl (fun _ => 0))), (a3, .inl (d3, 24, .inl (fun _ => 0))), (a4, .inl (d4, 96, .inl (fun _ => 0))), (a5, .inl (d5, 24, .inl (fun _ => 0))), (a6, .inl (d6, 24, .inl (fun _ => 0))), (a7, .inl (d7, 24, .inl (fun _ => 0))), (a8, .inl (d8, 24, .inl (fun _ => 0))), (a9, .inl (d9, 96, .inl (fun _ => 0))), (a10, .inl (d10, 24, .inl (fun _ => 0)))] := hD
  refine va_putF (D := D) (ci := 1) (v := .ref a10) (ty := .array .int) (C := RX1) (T := TX1) (N := 11) hx hb hts in_X1 tyX1 tyX1_ok nmX1 hown hK hP hD hS 0 rfl rfl 10 (by decide) (hts _ q229) (fun _ h9 => h9) rfl hin rfl (by decide +kernel) rfl rfl (Nat.le_of_ble_eq_true rfl) dX1_init_81 (fun H locs hP hD hS => ?_)
  have hP : va_P D vwCl [(h0, .inr (1, [.int 0, .ref a1, .ref a2, .ref a3, .ref a4, .ref a5, .ref a6, .ref a7, .ref a8, .ref a9, .ref a10])), (a1, .inl (d1, 24, .inl (fun _ => 0))), (a2, .inl (d2, 24, .inl (fun _ => 0))), (a3, .inl (d3, 24, .inl (fun _ => 0))), (a4, .inl (d4, 96, .inl (fun _ => 0))), (a5, .inl (d5, 24, .inl (fun _ => 0))), (a6, .inl (d6, 24, .inl (fun _ => 0))), (a7, .inl (d7, 24, .inl (fun _ => 0))), (a8, .inl (d8, 24, .inl (fun _ => 0))), (a9, .inl (d9, 96, .inl (fun _ => 0))), (a10, .inl (d10, 24, .inl (fun _ => 0)))] H := hP
  have hD : va_D A [(h0, .inr (1, [.int 0, .ref a1, .ref a2, .ref a3, .ref a4, .ref a5, .ref a6, .ref a7, .ref a8, .ref a9, .ref a10])), (a1, .inl (d1, 24, .inl (fun _ => 0))), (a2, .inl (d2, 24, .inl (fun _ => 0))), (a3, .inl (d3, 24, .inl (fun _ => 0))), (a4, .inl (d4, 96, .inl (fun _ => 0))), (a5, .inl (d5, 24, .inl (fun _ => 0))), (a6, .inl (d6, 24, .inl (fun _ => 0))), (a7, .inl (d7, 24, .inl (fun _ => 0))), (a8, .inl (d8, 24, .inl (fun _ => 0))), (a9, .inl (d9, 96, .inl (fun _ => 0))), (a10, .inl (d10, 24, .inl (fun _ => 0)))] := hD
  refine lv_aload_n hx hb dX1_init_84 rfl (lv_at hl 0 rfl) ?_
  refine lv_iconst (v := 1) hx hb dX1_init_85 (by decide) ?_
  obtain ⟨h, hh⟩ : ∃ h : Nat → Nat, h = fun k => ([h0, a1, a2, a3, a4, a5, a6, a7, a8, a9, a10] : List Nat).getD k 0 := ⟨_, rfl⟩
  obtain ⟨d, hd⟩ : ∃ d : Nat → ClassId, d = fun k => ([d1, d1, d2, d3, d4, d5, d6, d7, d8, d9, d10] : List ClassId).getD k d1 := ⟨_, rfl⟩
  have h00 : h 0 = h0 := by rw [hh]; rfl
  have hI : bY D A h d tt0 s H locs := by
    subst hh
    subst hd
    exact ⟨hK, hP, hD, hS⟩
  have hl : lv_has ls 1 [(0, .ref (h 0))] := by rw [h00]; exact hl
  refine W.eq (g2 := F0 m 86 ls [.int 1, .ref (h 0)]) (by rw [h00]) ?_
  have S : CallFix p m c cX1_init 1 s _ lw_all RX1 := ⟨hx, hb, hml, hown, hts⟩
  refine y_put_0 S hI dX1_init_86 (fun H locs hI => ?_)
  refine lv_aload_n hx hb dX1_init_89 rfl (lv_at hl 0 rfl) ?_
  refine y_get_2 S hI dX1_init_90 ?_
  refine lv_iconst (v := 0) hx hb dX1_init_93 (by decide) ?_
  refine lv_iconst (v := -1) hx hb dX1_init_94 (by decide) ?_
  refine y_asn_2 S hI (j := 0) (by decide) dX1_init_95 (fun H locs hI => ?_)
  exact W.vret hx hb hr (fun t ht hW => ⟨⟨(h, d), rfl, h00, by rw [ht]; exact hI.2.1, va_K.moved hW.alike hI.1, hI.2.2.1⟩, hI.2.2.2.F ht⟩) hI.2.2.2.2.2 dX1_init_96 hlocks
end
section
/-! the relation between the component's cells and the reference's; what the simple calls do to it -/
theorem tt_ap (σ : ttS) (k j : Nat) (v : Int32) (a b : Nat) : ttU σ k j v a b = if a = k ∧ b = j then v else σ a b := by
  unfold ttU upd
  by_cases h : a = k
  · subst h
    by_cases g : b = j <;> simp [g]
  · simp [h]
theorem ySum_c {σ τ : ttS} (h : σ 9 = τ 9) (n : Nat) : ySum σ n = ySum τ n := by
  induction n with
  | zero => rfl
  | succ n ih => rw [ySum, ySum, ih, h]
/-- the tree: N nodes, p: the parents -/
def trS (N : Nat) (p : Nat → Nat) (σ : ttS) : Prop := σ 0 0 = nI N ∧ 1 ≤ N ∧ N ≤ 24 ∧ (∀ j, 0 < j → j < N → p j < j ∧ σ 2 j = nI (p j) ∧ σ 1 (p j) = 0) ∧ σ 1 0 = 0
/-- first and last child, next sibling -/
def trC (N : Nat) (p : Nat → Nat) (σ : ttS) : Prop :=
  (∀ c, c < N → (σ 3 c = -1 ∧ σ 4 c = -1 ∧ ∀ j, 0 < j → j < N → p j ≠ c) ∨ ∃ a b : Nat, σ 3 c = nI a ∧ σ 4 c = nI b ∧ 0 < a ∧ a < N ∧ 0 < b ∧ b < N ∧ p a = c ∧ p b = c ∧ ∀ j, 0 < j → j < N → p j = c → a ≤ j ∧ j ≤ b) ∧
  (∀ c, 0 < c → c < N → (σ 5 c = -1 ∧ ∀ j, 0 < j → j < N → p j = p c → j ≤ c) ∨ ∃ b : Nat, σ 5 c = nI b ∧ c < b ∧ b < N ∧ p b = p c ∧ ∀ j, 0 < j → j < N → p j = p c → c < j → b ≤ j) ∧ σ 5 0 = -1
def trB (σ : ttS) : Prop := ∀ j, j < 24 → (0 ≤ σ 3 j → vp_in (σ 3 j) 24) ∧ (0 ≤ σ 4 j → vp_in (σ 4 j) 24) ∧ (0 ≤ σ 5 j → vp_in (σ 5 j) 24) ∧ (0 < j → vp_in (σ 2 j) 24) ∧ ∃ K : Nat, K ≤ 4 ∧ σ 7 j = nI K
def trY (N : Nat) (p : Nat → Nat) (τ : ttS) : Prop := τ 0 0 = nI N ∧ (∀ j, 0 < j → j < N → τ 2 j = nI (p j)) ∧ τ 2 0 = -1 ∧ (∀ j, j < 24 → 0 ≤ τ 2 j → vp_in (τ 2 j) 24) ∧ (∀ j, j < 24 → ∃ K : Nat, K ≤ 4 ∧ τ 5 j = nI K) ∧ (∀ j, N ≤ j → j < 24 → τ 6 j = 0)
def trE (N : Nat) (σ τ : ttS) : Prop := (∀ j, j < 24 → σ 1 j = τ 1 j) ∧ (∀ j, j < 24 → σ 10 j = τ 3 j) ∧ (∀ j, j < 96 → σ 6 j = τ 4 j ∧ ∃ q : Nat, q ≤ 3 ∧ σ 6 j = nI q) ∧ (∀ j, j < N → ¬ σ 1 j = 0 → σ 7 j = τ 5 j ∧ σ 9 j = τ 7 j ∧ (σ 8 j = τ 6 j ∨ (σ 8 j = 1 ∧ τ 6 j = 0)))
def trR (σ τ : ttS) : Prop := (∀ j, j < 24 → σ 11 j = τ 8 j ∧ σ 13 j = τ 10 j ∧ ∃ q : Nat, q ≤ 3 ∧ σ 11 j = nI q) ∧ (∀ j, j < 96 → σ 12 j = τ 9 j) ∧ σ 14 0 = ySum τ 96
theorem trR_keep {σ τ σ' τ' : ttS} (h : trR σ τ) (h1 : σ' 11 = σ 11) (h2 : σ' 13 = σ 13) (h3 : σ' 12 = σ 12) (h4 : σ' 14 0 = σ 14 0) (g1 : τ' 8 = τ 8) (g2 : τ' 10 = τ 10) (g3 : τ' 9 = τ 9) : trR σ' τ' := by
  unfold trR at h ⊢
  rw [h1, h2, h3, h4, g1, g2, g3, ySum_c g3]
  exact h
def TR0 (N : Nat) (p : Nat → Nat) (σ τ : ttS) : Prop := trS N p σ ∧ trC N p σ ∧ trB σ ∧ trY N p τ ∧ trE N σ τ ∧ trR σ τ
def TR (σ τ : ttS) : Prop := ∃ (N : Nat) (p : Nat → Nat), TR0 N p σ τ
theorem tr_nn {N : Nat} {p : Nat → Nat} {σ τ : ttS} (T : TR0 N p σ τ) (x : Int32) : xNoNode τ x = xNoNode σ x := by
  unfold xNoNode
  rw [T.1.1, T.2.2.2.1.1]
theorem tr_ix {N : Nat} {p : Nat → Nat} {σ τ : ttS} (T : TR0 N p σ τ) {x : Int32} (h : xNoNode σ x = 0) : ∃ u, u < N ∧ x = nI u ∧ x.toNatClampNeg = u := by
  have h24 := T.1.2.2.1
  obtain ⟨h1, h2⟩ := tt_NN h
  obtain ⟨j, hj, rfl⟩ := nI_of h1
  rw [T.1.1] at h2
  exact ⟨j, (nI_ltI hj (by omega)).mp h2, rfl, nI_clamp hj⟩
theorem tr_init : TR xInit yInit := by
  refine ⟨1, fun _ => 0, ⟨rfl, Nat.le_refl _, by decide, fun j h1 h2 => absurd h2 (by omega), rfl⟩, ⟨fun c hc => ?_, fun c h1 h2 => absurd h2 (by omega), rfl⟩, fun j hj => ?_, ⟨rfl, fun j h1 h2 => absurd h2 (by omega), rfl, fun j hj h => ?_, fun j hj => ⟨0, by decide, rfl⟩, fun j _ _ => rfl⟩, ⟨fun j hj => ?_, fun j hj => rfl, fun j hj => ⟨rfl, 0, by decide, rfl⟩, fun j h1 h2 => ?_⟩, ⟨fun j hj => ⟨rfl, rfl, 0, by decide, rfl⟩, fun j hj => rfl, ?_⟩⟩
  · obtain rfl : c = 0 := by omega
    exact Or.inl ⟨rfl, rfl, fun j h1 h2 => absurd h2 (by omega)⟩
  · have e3 : xInit 3 j = if j = 0 then -1 else 0 := by show upd _ 0 (-1) j = _; simp [upd, ttU, tt0]
    have e4 : xInit 4 j = if j = 0 then -1 else 0 := by show upd _ 0 (-1) j = _; simp [upd, ttU, tt0]
    have e5 : xInit 5 j = if j = 0 then -1 else 0 := by show upd _ 0 (-1) j = _; simp [upd, ttU, tt0]
    have e2 : xInit 2 j = if j = 0 then -1 else 0 := by show upd _ 0 (-1) j = _; simp [upd, ttU, tt0]
    have e7 : xInit 7 j = if j = 0 then 1 else 0 := by show upd _ 0 1 j = _; simp [upd, ttU, tt0]
    rw [e2, e3, e4, e5, e7]
    have v0 : vp_in 0 24 := vp_in_nI (n := 0) (by decide) (by decide)
    by_cases h : j = 0
    · simp only [if_pos h]
      exact ⟨fun q => absurd q (by decide), fun q => absurd q (by decide), fun q => absurd q (by decide), fun q => absurd q (by omega), 1, by decide, rfl⟩
    · simp only [if_neg h]
      exact ⟨fun _ => v0, fun _ => v0, fun _ => v0, fun _ => v0, 0, by decide, rfl⟩
  · have e2 : yInit 2 j = if j = 0 then -1 else 0 := by show upd _ 0 (-1) j = _; simp [upd, ttU, tt0]
    rw [e2] at h ⊢
    by_cases q : j = 0
    · simp only [if_pos q] at h; exact absurd h (by decide)
    · simp only [if_neg q]; exact vp_in_nI (n := 0) (by decide) (by decide)
  · show upd _ 0 0 j = _
    simp [upd, ttU, tt0, yInit]
  · exact absurd (show xInit 1 j = 0 by show upd _ 0 0 j = _; simp [upd, ttU, tt0]) h2
  · have : ∀ n, ySum yInit n = 0 := by
      intro n
      induction n with
      | zero => rfl
      | succ n ih => rw [ySum, ih]; rfl
    rw [this]; rfl
theorem tr_res {N : Nat} {p : Nat → Nat} {σ τ : ttS} (T : TR0 N p σ τ) (x : Int32) : xResR σ x = yResR τ x := by
  unfold xResR yResR
  rw [tr_nn T]
  by_cases h : xNoNode σ x = 0
  · obtain ⟨u, hu, -, e⟩ := tr_ix T h
    have h24 := T.1.2.2.1
    rw [if_pos h, if_pos h, e, (T.2.2.2.2.2.1 u (by omega)).1]
  · rw [if_neg h, if_neg h]
theorem tr_att {N : Nat} {p : Nat → Nat} {σ τ : ttS} (T : TR0 N p σ τ) (x : Int32) : xAttR σ x = yAttR τ x := by
  unfold xAttR yAttR
  rw [tr_nn T]
  by_cases h : xNoNode σ x = 0
  · obtain ⟨u, hu, -, e⟩ := tr_ix T h
    have h24 := T.1.2.2.1
    rw [if_pos h, if_pos h, e, (T.2.2.2.2.2.1 u (by omega)).2.1]
  · rw [if_neg h, if_neg h]
theorem tt_w4 {w : Int32} (h1 : ¬ w < 0) (h2 : w ≤ 3) : ∃ k, k < 4 ∧ w = nI k := by
  obtain ⟨k, hk, rfl⟩ := nI_of h1
  have hk3 : k ≤ 3 := (nI_leI hk (by decide)).mp h2
  exact ⟨k, by omega, rfl⟩
theorem tt_x4 (u k : Nat) (h : u * 4 + k < 2 ^ 31) : (nI u * 4 + nI k).toNatClampNeg = u * 4 + k := by
  rw [tt_mul4, nI_add, nI_clamp h]
theorem tr_tim {N : Nat} {p : Nat → Nat} {σ τ : ttS} (T : TR0 N p σ τ) (x w : Int32) : xTimR σ x w = yTimR τ x w := by
  unfold xTimR yTimR
  rw [tr_nn T]
  by_cases h : xNoNode σ x = 0
  · obtain ⟨u, hu, rfl, e⟩ := tr_ix T h
    have h24 := T.1.2.2.1
    rw [if_pos h, if_pos h]
    by_cases h1 : w < 0
    · rw [if_pos h1, if_pos h1]
    · rw [if_neg h1, if_neg h1]
      by_cases h2 : w ≤ 3
      · obtain ⟨k, hk, rfl⟩ := tt_w4 h1 h2
        rw [if_pos h2, if_pos h2, tt_x4 _ _ (by omega), T.2.2.2.2.2.2.1 _ (by omega)]
      · rw [if_neg h2, if_neg h2]
  · rw [if_neg h, if_neg h]
theorem tr_cnt {N : Nat} {p : Nat → Nat} {σ τ : ttS} (T : TR0 N p σ τ) (r : Int32) : xCntR σ N r = yCnt τ r N := by
  have h24 := T.1.2.2.1
  have hE := T.2.2.2.2.1.1
  have hR := T.2.2.2.2.2.1
  unfold xCntR
  by_cases h1 : r < 1
  · rw [if_pos h1]
    have : ∀ n, n ≤ 24 → yCnt τ r n = 0 := by
      intro n
      induction n with
      | zero => intro _; rfl
      | succ n ih =>
        intro hn
        rw [yCnt, ih (by omega)]
        by_cases a : τ 1 n = 0
        · rw [if_pos a]
        · rw [if_neg a]
          by_cases b : τ 8 n = r
          · rw [if_pos b]
            by_cases c : r = 0
            · rw [if_pos c]
            · obtain ⟨e, -, q, hq, e2⟩ := hR n (by omega)
              exfalso
              rw [← b, ← e, e2] at h1
              have : q < 1 := (nI_ltI (b := 1) (by omega) (by decide)).mp h1
              apply c
              rw [← b, ← e, e2, show q = 0 by omega]
              rfl
          · rw [if_neg b]
    exact (this N h24).symm
  · rw [if_neg h1]
    have hr0 : ¬ r = 0 := fun z => h1 (by rw [z]; decide)
    by_cases h3 : r ≤ 3
    · rw [if_pos h3]
      have : ∀ n, n ≤ 24 → xCnt σ r n = yCnt τ r n := by
        intro n
        induction n with
        | zero => intro _; rfl
        | succ n ih =>
          intro hn
          rw [xCnt, yCnt, ih (by omega), hE n (by omega), (hR n (by omega)).1, if_neg hr0]
      exact this N h24
    · rw [if_neg h3]
      have : ∀ n, n ≤ 24 → yCnt τ r n = 0 := by
        intro n
        induction n with
        | zero => intro _; rfl
        | succ n ih =>
          intro hn
          rw [yCnt, ih (by omega)]
          by_cases a : τ 1 n = 0
          · rw [if_pos a]
          · rw [if_neg a]
            by_cases b : τ 8 n = r
            · obtain ⟨e, -, q, hq, e2⟩ := hR n (by omega)
              exfalso
              apply h3
              rw [← b, ← e, e2]
              exact nI_le (b := 3) hq (by decide)
            · rw [if_neg b]
      exact (this N h24).symm
theorem tr_dis {N : Nat} {p : Nat → Nat} {σ τ : ttS} (T : TR0 N p σ τ) (x b : Int32) : xDisR σ x = yDisR τ x ∧ TR (xDisS σ x b) (yDisS τ x b) := by
  unfold xDisR yDisR xDisS yDisS
  rw [tr_nn T]
  by_cases h : xNoNode σ x = 0
  · obtain ⟨u, hu, -, e⟩ := tr_ix T h
    have h24 := T.1.2.2.1
    simp only [if_pos h]
    obtain ⟨hS, hC, hB, hY, ⟨e1, e2, e3, e4⟩, hR⟩ := T
    rw [e, e2 u (by omega)]
    refine ⟨rfl, N, p, hS, hC, hB, hY, ⟨e1, fun j hj => ?_, e3, e4⟩, trR_keep hR rfl rfl rfl rfl rfl rfl rfl⟩
    rw [tt_ap, tt_ap]
    simp only [true_and]
    by_cases q : j = u
    · rw [if_pos q, if_pos q]
    · rw [if_neg q, if_neg q]; exact e2 j hj
  · simp only [if_neg h]
    exact ⟨trivial, N, p, T⟩
theorem tr_NC {N : Nat} {p : Nat → Nat} {σ τ : ttS} (T : TR0 N p σ τ) {x : Int32} (h : xNoNode σ x = 0) : τ 1 x.toNatClampNeg = σ 1 x.toNatClampNeg := by
  obtain ⟨u, hu, -, e⟩ := tr_ix T h
  have h24 := T.1.2.2.1
  rw [e]
  exact (T.2.2.2.2.1.1 u (by omega)).symm
theorem tr_hook {N : Nat} {p : Nat → Nat} {σ τ : ttS} (T : TR0 N p σ τ) (x w o : Int32) : xHookR σ x w o = yHookR τ x w o ∧ TR (xHookS σ x w o) (yHookS τ x w o) := by
  unfold xHookR yHookR xHookS yHookS xNoCont
  rw [tr_nn T]
  by_cases h : xNoNode σ x = 0
  · rw [tr_NC T h]
    simp only [if_pos h]
    by_cases h0 : σ 1 x.toNatClampNeg = 0
    · simp only [if_pos h0, if_true]
      by_cases h1 : w < 0
      · simp only [if_pos h1]; exact ⟨trivial, N, p, T⟩
      · simp only [if_neg h1]
        by_cases h2 : 3 < w
        · simp only [if_pos h2]; exact ⟨trivial, N, p, T⟩
        · simp only [if_neg h2]
          by_cases h3 : o < 0
          · simp only [if_pos h3]; exact ⟨trivial, N, p, T⟩
          · simp only [if_neg h3]
            by_cases h4 : o ≤ 3
            · simp only [if_pos h4]
              obtain ⟨u, hu, rfl, e⟩ := tr_ix T h
              have h24 := T.1.2.2.1
              obtain ⟨k, hk, rfl⟩ := tt_w4 h1 (Int32.not_lt.mp h2)
              obtain ⟨q, hq, rfl⟩ := tt_w4 h3 h4
              rw [tt_x4 _ _ (by omega)]
              obtain ⟨hS, hC, hB, hY, ⟨e1, e2, e3, e4⟩, hR⟩ := T
              refine ⟨(e3 _ (by omega)).1, N, p, hS, hC, hB, hY, ⟨e1, e2, fun j hj => ?_, e4⟩, trR_keep hR rfl rfl rfl rfl rfl rfl rfl⟩
              rw [tt_ap, tt_ap]
              simp only [true_and]
              by_cases z : j = u * 4 + k
              · rw [if_pos z, if_pos z]; exact ⟨rfl, q, by omega, rfl⟩
              · rw [if_neg z, if_neg z]; exact e3 j hj
            · simp only [if_neg h4]; exact ⟨trivial, N, p, T⟩
    · simp only [if_neg h0, show ¬ (1 : Int32) = 0 by decide, if_false]
      exact ⟨trivial, N, p, T⟩
  · simp only [if_neg h, show ¬ (1 : Int32) = 0 by decide, if_false]
    exact ⟨trivial, N, p, T⟩
theorem tt_a4 {a : Int32} (h1 : ¬ a < 1) (h2 : a ≤ 4) : ∃ k, k ≤ 4 ∧ a = nI k := by
  obtain ⟨k, hk, rfl⟩ := nI_of (x := a) (fun z => h1 (Int32.lt_trans z (by decide)))
  exact ⟨k, (nI_leI (b := 4) hk (by decide)).mp h2, rfl⟩
theorem tr_body {N : Nat} {p : Nat → Nat} {σ τ : ttS} (T : TR0 N p σ τ) (x a o : Int32) : xBodyR σ x a = yBodyR τ x a ∧ TR (xBodyS σ x a o) (yBodyS τ x a o) := by
  unfold xBodyR yBodyR xBodyS yBodyS xNoTest
  rw [tr_nn T]
  by_cases h : xNoNode σ x = 0
  · rw [tr_NC T h]
    simp only [if_pos h]
    by_cases h0 : σ 1 x.toNatClampNeg = 0
    · simp only [if_pos h0, show ¬ (1 : Int32) = 0 by decide, if_false]; exact ⟨trivial, N, p, T⟩
    · simp only [if_neg h0, if_true]
      by_cases h1 : a < 1
      · simp only [if_pos h1]; exact ⟨trivial, N, p, T⟩
      · simp only [if_neg h1]
        by_cases h4 : a ≤ 4
        · simp only [if_pos h4]
          obtain ⟨u, hu, -, e⟩ := tr_ix T h
          have h24 := T.1.2.2.1
          obtain ⟨k, hk, rfl⟩ := tt_a4 h1 h4
          rw [e]
          obtain ⟨hS, hC, hB, ⟨y1, y2, y3, y4, y5, y6⟩, ⟨e1, e2, e3, e4⟩, hR⟩ := T
          refine ⟨trivial, N, p, hS, hC, fun j hj => ?_, ⟨y1, y2, y3, y4, fun j hj => ?_, fun j h5 h6 => ?_⟩, ⟨e1, e2, e3, fun j hj hT => ?_⟩, trR_keep hR rfl rfl rfl rfl rfl rfl rfl⟩
          · obtain ⟨b1, b2, b3, b4, b5⟩ := hB j hj
            refine ⟨b1, b2, b3, b4, ?_⟩
            show ∃ K : Nat, K ≤ 4 ∧ ttU σ 7 u (nI k) 7 j = nI K
            rw [tt_ap]
            simp only [true_and]
            by_cases z : j = u
            · rw [if_pos z]; exact ⟨k, hk, rfl⟩
            · rw [if_neg z]; exact b5
          · show ∃ K : Nat, K ≤ 4 ∧ ttU τ 5 u (nI k) 5 j = nI K
            rw [tt_ap]
            simp only [true_and]
            by_cases z : j = u
            · rw [if_pos z]; exact ⟨k, hk, rfl⟩
            · rw [if_neg z]; exact y5 j hj
          · rw [tt_ap]
            simp only [true_and]
            rw [if_neg (by omega)]
            exact y6 j h5 h6
          · obtain ⟨g1, g2, g3⟩ := e4 j hj hT
            refine ⟨?_, g2, ?_⟩
            · show ttU σ 7 u (nI k) 7 j = ttU τ 5 u (nI k) 5 j
              rw [tt_ap, tt_ap]
              simp only [true_and]
              by_cases z : j = u
              · rw [if_pos z, if_pos z]
              · rw [if_neg z, if_neg z]; exact g1
            · rw [show ttU (ttU σ 7 u (nI k)) 8 u o 8 j = if j = u then o else σ 8 j by simp [tt_ap], show ttU (ttU τ 5 u (nI k)) 6 u o 6 j = if j = u then o else τ 6 j by simp [tt_ap]]
              by_cases z : j = u
              · rw [if_pos z, if_pos z]; exact Or.inl rfl
              · rw [if_neg z, if_neg z]; exact g3
        · simp only [if_neg h4]; exact ⟨trivial, N, p, T⟩
  · simp only [if_neg h, show ¬ (1 : Int32) = 0 by decide, if_false]
    exact ⟨trivial, N, p, T⟩
theorem tr_tags {N : Nat} {p : Nat → Nat} {σ τ : ttS} (T : TR0 N p σ τ) (x g : Int32) : xTagsR σ x = yTagsR τ x ∧ TR (xTagsS σ x g) (yTagsS τ x g) := by
  unfold xTagsR yTagsR xTagsS yTagsS xNoTest
  rw [tr_nn T]
  by_cases h : xNoNode σ x = 0
  · rw [tr_NC T h]
    simp only [if_pos h]
    by_cases h0 : σ 1 x.toNatClampNeg = 0
    · simp only [if_pos h0, show ¬ (1 : Int32) = 0 by decide, if_false]; exact ⟨trivial, N, p, T⟩
    · simp only [if_neg h0, if_true]
      obtain ⟨u, hu, -, e⟩ := tr_ix T h
      have h24 := T.1.2.2.1
      rw [e]
      obtain ⟨hS, hC, hB, hY, ⟨e1, e2, e3, e4⟩, hR⟩ := T
      refine ⟨trivial, N, p, hS, hC, hB, hY, ⟨e1, e2, e3, fun j hj hT => ?_⟩, trR_keep hR rfl rfl rfl rfl rfl rfl rfl⟩
      obtain ⟨g1, g2, g3⟩ := e4 j hj hT
      refine ⟨g1, ?_, g3⟩
      rw [tt_ap, tt_ap]
      simp only [true_and]
      by_cases z : j = u
      · rw [if_pos z, if_pos z]
      · rw [if_neg z, if_neg z]; exact g2
  · simp only [if_neg h, show ¬ (1 : Int32) = 0 by decide, if_false]
    exact ⟨trivial, N, p, T⟩
end
section
/-! a new node -/
theorem tr_addA {σ : ttS} {N u : Nat} {t : Int32} (hN : σ 0 0 = nI N) (hu : u < N) (h24 : N ≤ 24) (h4 : σ 4 u = -1) : xAdd2 (xClear σ N (nI u) t) N (nI u) = ttU (ttU (ttU (xClear σ N (nI u) t) 3 u (nI N)) 4 u (nI N)) 0 0 (nI (N + 1)) := by
  have e : (nI u).toNatClampNeg = u := nI_clamp (by omega)
  have e4 : xClear σ N (nI u) t 4 u = -1 := by rw [tt_clear4 _ _ _ _ _ (by omega), h4]
  have e0 : xClear σ N (nI u) t 0 0 = nI N := hN
  unfold xAdd2
  simp only [e, e4, show ¬ (0 : Int32) ≤ -1 by decide, if_false]
  rw [show ttU (ttU (xClear σ N (nI u) t) 3 u (nI N)) 4 u (nI N) 0 0 = xClear σ N (nI u) t 0 0 from rfl, e0, nI_1]
theorem tr_addB {σ : ttS} {N u b : Nat} {t : Int32} (hN : σ 0 0 = nI N) (hu : u < N) (h24 : N ≤ 24) (hb : b < N) (h4 : σ 4 u = nI b) : xAdd2 (xClear σ N (nI u) t) N (nI u) = ttU (ttU (ttU (xClear σ N (nI u) t) 5 b (nI N)) 4 u (nI N)) 0 0 (nI (N + 1)) := by
  have e : (nI u).toNatClampNeg = u := nI_clamp (by omega)
  have e4 : xClear σ N (nI u) t 4 u = nI b := by rw [tt_clear4 _ _ _ _ _ (by omega), h4]
  have e0 : xClear σ N (nI u) t 0 0 = nI N := hN
  have eb : (nI b).toNatClampNeg = b := nI_clamp (by omega)
  unfold xAdd2
  simp only [e, e4, show (0 : Int32) ≤ nI b from nI_pos' (by omega), if_true, eb]
  rw [show ttU (ttU (xClear σ N (nI u) t) 5 b (nI N)) 4 u (nI N) 0 0 = xClear σ N (nI u) t 0 0 from rfl, e0, nI_1]
/-- what a call of add leaves of the component's tree -/
def trNew (N u : Nat) (t : Int32) (σ σ' : ttS) : Prop :=
  σ' 0 0 = nI (N + 1) ∧ (∀ j, σ' 1 j = if j = N then t else σ 1 j) ∧ (∀ j, σ' 2 j = if j = N then nI u else σ 2 j) ∧ (∀ j, σ' 7 j = if j = N then 1 else σ 7 j) ∧ (∀ j, σ' 8 j = if j = N then 1 else σ 8 j) ∧ (∀ j, σ' 9 j = if j = N then 1 else σ 9 j) ∧ (∀ j, σ' 4 j = if j = u then nI N else if j = N then -1 else σ 4 j) ∧ σ' 6 = σ 6 ∧ σ' 10 = σ 10 ∧ σ' 11 = σ 11 ∧ σ' 12 = σ 12 ∧ σ' 13 = σ 13 ∧ σ' 14 = σ 14
theorem tr_newA (N u : Nat) (t : Int32) (σ : ttS) : trNew N u t σ (ttU (ttU (ttU (xClear σ N (nI u) t) 3 u (nI N)) 4 u (nI N)) 0 0 (nI (N + 1))) ∧ (∀ j, ttU (ttU (ttU (xClear σ N (nI u) t) 3 u (nI N)) 4 u (nI N)) 0 0 (nI (N + 1)) 3 j = if j = u then nI N else if j = N then -1 else σ 3 j) ∧ (∀ j, ttU (ttU (ttU (xClear σ N (nI u) t) 3 u (nI N)) 4 u (nI N)) 0 0 (nI (N + 1)) 5 j = if j = N then -1 else σ 5 j) := by
  refine ⟨⟨by simp [tt_ap], ?_, ?_, ?_, ?_, ?_, ?_, rfl, rfl, rfl, rfl, rfl, rfl⟩, ?_, ?_⟩ <;> (intro j; simp [tt_ap, xClear])
theorem tr_newB (N u b : Nat) (t : Int32) (σ : ttS) : trNew N u t σ (ttU (ttU (ttU (xClear σ N (nI u) t) 5 b (nI N)) 4 u (nI N)) 0 0 (nI (N + 1))) ∧ (∀ j, ttU (ttU (ttU (xClear σ N (nI u) t) 5 b (nI N)) 4 u (nI N)) 0 0 (nI (N + 1)) 3 j = if j = N then -1 else σ 3 j) ∧ (∀ j, ttU (ttU (ttU (xClear σ N (nI u) t) 5 b (nI N)) 4 u (nI N)) 0 0 (nI (N + 1)) 5 j = if j = b then nI N else if j = N then -1 else σ 5 j) := by
  refine ⟨⟨by simp [tt_ap], ?_, ?_, ?_, ?_, ?_, ?_, rfl, rfl, rfl, rfl, rfl, rfl⟩, ?_, ?_⟩ <;> (intro j; simp [tt_ap, xClear])
theorem tr_newY (N u : Nat) (t : Int32) (τ : ttS) : yAdd2 τ N (nI u) t 0 0 = nI (N + 1) ∧ (∀ j, yAdd2 τ N (nI u) t 1 j = if j = N then t else τ 1 j) ∧ (∀ j, yAdd2 τ N (nI u) t 2 j = if j = N then nI u else τ 2 j) ∧ (∀ j, yAdd2 τ N (nI u) t 5 j = if j = N then 1 else τ 5 j) ∧ (∀ j, yAdd2 τ N (nI u) t 7 j = if j = N then 1 else τ 7 j) := by
  refine ⟨by simp [tt_ap, yAdd2], ?_, ?_, ?_, ?_⟩ <;> (intro j; simp [tt_ap, yAdd2])
/-- all but the child lists -/
theorem tr_new0 {N u : Nat} {p p' : Nat → Nat} {t : Int32} {σ τ σ' : ttS} (T : TR0 N p σ τ) (hp' : ∀ j, p' j = if j = N then u else p j) (hu : u < N) (hN : N < 24) (h1 : σ 1 u = 0) (hn : trNew N u t σ σ') (hC : trC (N + 1) p' σ') (h3 : ∀ j, j < 24 → 0 ≤ σ' 3 j → vp_in (σ' 3 j) 24) (h5 : ∀ j, j < 24 → 0 ≤ σ' 5 j → vp_in (σ' 5 j) 24) : TR0 (N + 1) p' σ' (yAdd2 τ N (nI u) t) := by
  obtain ⟨⟨s1, s2, s3, s4, s5⟩, -, hB, ⟨y1, y2, y3, y4, y5, y6⟩, ⟨e1, e2, e3, e4⟩, hR⟩ := T
  obtain ⟨f0, f1, f2, f7, f8, f9, f4, f6, f10, f11, f12, f13, f14⟩ := hn
  obtain ⟨g0, g1, g2, g5, g7⟩ := tr_newY N u t τ
  refine ⟨⟨f0, by omega, by omega, fun j h0 hj => ?_, ?_⟩, hC, fun j hj => ⟨h3 j hj, ?_, h5 j hj, fun h0 => ?_, ?_⟩, ⟨g0, fun j h0 hj => ?_, ?_, fun j hj h0 => ?_, fun j hj => ?_, fun j h6 hj => y6 j (by omega) hj⟩, ⟨fun j hj => ?_, ?_, ?_, fun j hj hT => ?_⟩, trR_keep hR f11 f13 f12 (by rw [f14]) rfl rfl rfl⟩
  · rw [f1, f2, hp']
    by_cases z : j = N
    · rw [if_pos z, if_pos z, if_neg (by omega)]
      exact ⟨by omega, rfl, h1⟩
    · rw [if_neg z, if_neg z]
      obtain ⟨a1, a2, a3⟩ := s4 j h0 (by omega)
      rw [if_neg (by omega)]
      exact ⟨a1, a2, a3⟩
  · rw [f1, if_neg (by omega)]; exact s5
  · rw [f4]
    by_cases z : j = u
    · rw [if_pos z]; exact fun _ => vp_in_nI hN (by decide)
    · rw [if_neg z]
      by_cases w : j = N
      · rw [if_pos w]; exact fun q => absurd q (by decide)
      · rw [if_neg w]; exact (hB j hj).2.1
  · rw [f2]
    by_cases z : j = N
    · rw [if_pos z]; exact vp_in_nI (by omega) (by decide)
    · rw [if_neg z]; exact (hB j hj).2.2.2.1 h0
  · rw [f7]
    by_cases z : j = N
    · rw [if_pos z]; exact ⟨1, by decide, rfl⟩
    · rw [if_neg z]; exact (hB j hj).2.2.2.2
  · rw [g2, hp']
    by_cases z : j = N
    · rw [if_pos z, if_pos z]
    · rw [if_neg z, if_neg z]; exact y2 j h0 (by omega)
  · rw [g2, if_neg (by omega)]; exact y3
  · rw [g2] at h0 ⊢
    by_cases z : j = N
    · rw [if_pos z]; exact vp_in_nI (by omega) (by decide)
    · rw [if_neg z] at h0 ⊢; exact y4 j hj h0
  · rw [g5]
    by_cases z : j = N
    · rw [if_pos z]; exact ⟨1, by decide, rfl⟩
    · rw [if_neg z]; exact y5 j hj
  · rw [f1, g1, e1 j hj]
  · rw [f10]; exact e2
  · rw [f6]; exact e3
  · rw [f1] at hT
    rw [f7, f8, f9, g5, g7]
    by_cases z : j = N
    · simp only [if_pos z]
      exact ⟨trivial, trivial, Or.inr ⟨trivial, by rw [z]; exact y6 N (Nat.le_refl N) hN⟩⟩
    · simp only [if_neg z] at hT ⊢
      exact e4 j (by omega) hT
theorem tr_add {N : Nat} {p : Nat → Nat} {σ τ : ttS} (T : TR0 N p σ τ) (x t : Int32) : xAddR σ N x = yAddR τ N x ∧ TR (xAddS σ N x t) (yAddS τ N x t) := by
  unfold xAddR yAddR xAddS yAddS xNoCont
  rw [tr_nn T]
  by_cases h : xNoNode σ x = 0
  · rw [tr_NC T h]
    simp only [if_pos h]
    by_cases h0 : σ 1 x.toNatClampNeg = 0
    · simp only [if_pos h0, if_true]
      have h24 := T.1.2.2.1
      have hN := T.1.1
      rw [T.2.2.2.1.1]
      by_cases hf : N < 24
      · have c1 : σ 0 0 < 24 := by rw [hN]; exact nI_lt (b := 24) hf (by decide)
        have c2 : ¬ nI N = 24 := fun z => by have := (nI_eq (b := 24) (by omega) (by decide)).mp z; omega
        simp only [if_pos c1, if_neg c2]
        obtain ⟨u, hu, rfl, e⟩ := tr_ix T h
        rw [e] at h0
        obtain ⟨p', hp'⟩ : ∃ p' : Nat → Nat, ∀ j, p' j = if j = N then u else p j := ⟨_, fun _ => rfl⟩
        refine ⟨trivial, N + 1, p', ?_⟩
        obtain ⟨C1, C2, C3⟩ := T.2.1
        have hp : ∀ j, 0 < j → j < N → p j < j := fun j a b => (T.1.2.2.2.1 j a b).1
        rcases C1 u hu with ⟨k3, k4, kn⟩ | ⟨a, b, k3, k4, ha0, ha, hb0, hb, pa, pb, kk⟩
        · rw [tr_addA hN hu h24 k4]
          obtain ⟨hn, n3, n5⟩ := tr_newA N u t σ
          have n4 := hn.2.2.2.2.2.2.1
          refine tr_new0 T hp' hu hf h0 hn ⟨fun c hc => ?_, fun c hc0 hc => ?_, ?_⟩ (fun j hj => ?_) (fun j hj => ?_)
          · rw [n3, n4]
            by_cases z : c = u
            · subst z
              refine Or.inr ⟨N, N, by rw [if_pos rfl], by rw [if_pos rfl], by omega, by omega, by omega, by omega, by rw [hp', if_pos rfl], by rw [hp', if_pos rfl], fun j j0 j1 j2 => ?_⟩
              by_cases w : j = N
              · omega
              · rw [hp', if_neg w] at j2
                exact absurd j2 (kn j j0 (by omega))
            · rw [if_neg z, if_neg z]
              by_cases w : c = N
              · refine Or.inl ⟨by rw [if_pos w], by rw [if_pos w], fun j j0 j1 => ?_⟩
                by_cases v : j = N
                · rw [hp', if_pos v]; omega
                · rw [hp', if_neg v]; have := hp j j0 (by omega); omega
              · rw [if_neg w, if_neg w]
                rcases C1 c (by omega) with ⟨l3, l4, ln⟩ | ⟨a', b', l3, l4, la0, la, lb0, lb, lpa, lpb, lk⟩
                · refine Or.inl ⟨l3, l4, fun j j0 j1 => ?_⟩
                  by_cases v : j = N
                  · rw [hp', if_pos v]; omega
                  · rw [hp', if_neg v]; exact ln j j0 (by omega)
                · refine Or.inr ⟨a', b', l3, l4, la0, by omega, lb0, by omega, by rw [hp', if_neg (by omega)]; exact lpa, by rw [hp', if_neg (by omega)]; exact lpb, fun j j0 j1 j2 => ?_⟩
                  by_cases v : j = N
                  · rw [hp', if_pos v] at j2; omega
                  · rw [hp', if_neg v] at j2; exact lk j j0 (by omega) j2
          · rw [n5]
            by_cases w : c = N
            · refine Or.inl ⟨by rw [if_pos w], fun j j0 j1 j2 => by omega⟩
            · rw [if_neg w, show p' c = p c by rw [hp', if_neg w]]
              have hpc : p c ≠ u := kn c hc0 (by omega)
              rcases C2 c hc0 (by omega) with ⟨l5, lk⟩ | ⟨b', l5, lb1, lb2, lpb, lk⟩
              · refine Or.inl ⟨l5, fun j j0 j1 j2 => ?_⟩
                by_cases v : j = N
                · rw [hp', if_pos v] at j2; exact absurd j2.symm hpc
                · rw [hp', if_neg v] at j2; exact lk j j0 (by omega) j2
              · refine Or.inr ⟨b', l5, lb1, by omega, by rw [hp', if_neg (by omega)]; exact lpb, fun j j0 j1 j2 j3 => ?_⟩
                by_cases v : j = N
                · omega
                · rw [hp', if_neg v] at j2; exact lk j j0 (by omega) j2 j3
          · rw [n5, if_neg (by omega)]; exact C3
          · rw [n3]
            by_cases z : j = u
            · rw [if_pos z]; exact fun _ => vp_in_nI hf (by decide)
            · rw [if_neg z]
              by_cases w : j = N
              · rw [if_pos w]; exact fun q => absurd q (by decide)
              · rw [if_neg w]; exact (T.2.2.1 j hj).1
          · rw [n5]
            by_cases w : j = N
            · rw [if_pos w]; exact fun q => absurd q (by decide)
            · rw [if_neg w]; exact (T.2.2.1 j hj).2.2.1
        · rw [tr_addB hN hu h24 hb k4]
          obtain ⟨hn, n3, n5⟩ := tr_newB N u b t σ
          have n4 := hn.2.2.2.2.2.2.1
          refine tr_new0 T hp' hu hf h0 hn ⟨fun c hc => ?_, fun c hc0 hc => ?_, ?_⟩ (fun j hj => ?_) (fun j hj => ?_)
          · rw [n3, n4]
            by_cases z : c = u
            · subst z
              refine Or.inr ⟨a, N, by rw [if_neg (by omega)]; exact k3, by rw [if_pos rfl], ha0, by omega, by omega, by omega, by rw [hp', if_neg (by omega)]; exact pa, by rw [hp', if_pos rfl], fun j j0 j1 j2 => ?_⟩
              by_cases w : j = N
              · omega
              · rw [hp', if_neg w] at j2
                have := kk j j0 (by omega) j2
                omega
            · rw [if_neg z]
              by_cases w : c = N
              · refine Or.inl ⟨by rw [if_pos w], by rw [if_pos w], fun j j0 j1 => ?_⟩
                by_cases v : j = N
                · rw [hp', if_pos v]; omega
                · rw [hp', if_neg v]; have := hp j j0 (by omega); omega
              · rw [if_neg w, if_neg w]
                rcases C1 c (by omega) with ⟨l3, l4, ln⟩ | ⟨a', b', l3, l4, la0, la, lb0, lb, lpa, lpb, lk⟩
                · refine Or.inl ⟨l3, l4, fun j j0 j1 => ?_⟩
                  by_cases v : j = N
                  · rw [hp', if_pos v]; omega
                  · rw [hp', if_neg v]; exact ln j j0 (by omega)
                · refine Or.inr ⟨a', b', l3, l4, la0, by omega, lb0, by omega, by rw [hp', if_neg (by omega)]; exact lpa, by rw [hp', if_neg (by omega)]; exact lpb, fun j j0 j1 j2 => ?_⟩
                  by_cases v : j = N
                  · rw [hp', if_pos v] at j2; omega
                  · rw [hp', if_neg v] at j2; exact lk j j0 (by omega) j2
          · rw [n5]
            by_cases y : c = b
            · refine Or.inr ⟨N, by rw [if_pos y], by omega, by omega, by rw [hp', hp', if_pos rfl, if_neg (by omega), y, pb], fun j j0 j1 j2 j3 => ?_⟩
              by_cases v : j = N
              · omega
              · rw [hp', hp', if_neg v, if_neg (by omega), y, pb] at j2
                have := kk j j0 (by omega) j2
                omega
            · rw [if_neg y]
              by_cases w : c = N
              · refine Or.inl ⟨by rw [if_pos w], fun j j0 j1 j2 => by omega⟩
              · rw [if_neg w, show p' c = p c by rw [hp', if_neg w]]
                rcases C2 c hc0 (by omega) with ⟨l5, lk⟩ | ⟨b', l5, lb1, lb2, lpb, lk⟩
                · have hpc : p c ≠ u := fun z => by
                    have q1 := lk b hb0 hb (by rw [z, pb])
                    have q2 := kk c hc0 (by omega) z
                    omega
                  refine Or.inl ⟨l5, fun j j0 j1 j2 => ?_⟩
                  by_cases v : j = N
                  · rw [hp', if_pos v] at j2; exact absurd j2.symm hpc
                  · rw [hp', if_neg v] at j2; exact lk j j0 (by omega) j2
                · refine Or.inr ⟨b', l5, lb1, by omega, by rw [hp', if_neg (by omega)]; exact lpb, fun j j0 j1 j2 j3 => ?_⟩
                  by_cases v : j = N
                  · omega
                  · rw [hp', if_neg v] at j2; exact lk j j0 (by omega) j2 j3
          · rw [n5, if_neg (by omega), if_neg (by omega)]; exact C3
          · rw [n3]
            by_cases w : j = N
            · rw [if_pos w]; exact fun q => absurd q (by decide)
            · rw [if_neg w]; exact (T.2.2.1 j hj).1
          · rw [n5]
            by_cases z : j = b
            · rw [if_pos z]; exact fun _ => vp_in_nI hf (by decide)
            · rw [if_neg z]
              by_cases w : j = N
              · rw [if_pos w]; exact fun q => absurd q (by decide)
              · rw [if_neg w]; exact (T.2.2.1 j hj).2.2.1
      · obtain rfl : N = 24 := by omega
        have c1 : ¬ σ 0 0 < 24 := by rw [hN]; decide
        have c2 : nI 24 = 24 := rfl
        simp only [if_neg c1, if_pos c2]
        exact ⟨trivial, 24, p, T⟩
    · simp only [if_neg h0, show ¬ (1 : Int32) = 0 by decide, if_false]
      exact ⟨trivial, N, p, T⟩
  · simp only [if_neg h, show ¬ (1 : Int32) = 0 by decide, if_false]
    exact ⟨trivial, N, p, T⟩
end
section
/-! trees by their parents, and what the reference's loops say of them -/
/-- c is a proper ancestor of x -/
def AB (p : Nat → Nat) (c x : Nat) : Prop := if h : 0 < x ∧ p x < x then (p x = c ∨ AB p c (p x)) else False
termination_by x
decreasing_by exact h.2
theorem AB_iff {p : Nat → Nat} {c x : Nat} (h0 : 0 < x) (hx : p x < x) : AB p c x ↔ p x = c ∨ AB p c (p x) := by
  rw [AB]
  simp [h0, hx]
theorem AB_0 {p : Nat → Nat} {c : Nat} : ¬ AB p c 0 := by
  rw [AB]
  simp
theorem AB_un {p : Nat → Nat} {c x : Nat} (h : AB p c x) : 0 < x ∧ p x < x ∧ (p x = c ∨ AB p c (p x)) := by
  rw [AB] at h
  by_cases q : 0 < x ∧ p x < x
  · rw [dif_pos q] at h; exact ⟨q.1, q.2, h⟩
  · rw [dif_neg q] at h; exact h.elim
theorem AB_lt {p : Nat → Nat} {c : Nat} (x : Nat) : AB p c x → c < x := by
  induction x using Nat.strongRecOn with
  | _ x ih =>
    intro h
    obtain ⟨h0, hx, h | h⟩ := AB_un h
    · omega
    · have := ih _ hx h; omega
theorem AB_trans {p : Nat → Nat} {a b : Nat} (hab : AB p a b) (x : Nat) : AB p b x → AB p a x := by
  induction x using Nat.strongRecOn with
  | _ x ih =>
    intro h
    obtain ⟨h0, hx, h | h⟩ := AB_un h
    · rw [AB_iff h0 hx, h]; exact Or.inr hab
    · rw [AB_iff h0 hx]; exact Or.inr (ih _ hx h)
theorem AB_cmp {p : Nat → Nat} {a b : Nat} (x : Nat) : AB p a x → AB p b x → a = b ∨ AB p a b ∨ AB p b a := by
  induction x using Nat.strongRecOn with
  | _ x ih =>
    intro ha hb
    obtain ⟨h0, hx, ha⟩ := AB_un ha
    obtain ⟨-, -, hb⟩ := AB_un hb
    rcases ha with ha | ha
    · rcases hb with hb | hb
      · exact Or.inl (ha.symm.trans hb)
      · rw [ha] at hb; exact Or.inr (Or.inr hb)
    · rcases hb with hb | hb
      · rw [hb] at ha; exact Or.inr (Or.inl ha)
      · exact ih _ hx ha hb
theorem AB_root {p : Nat → Nat} {N : Nat} (hp : ∀ j, 0 < j → j < N → p j < j) (x : Nat) : 0 < x → x < N → AB p 0 x := by
  induction x using Nat.strongRecOn with
  | _ x ih =>
    intro h0 hN
    have hx := hp x h0 hN
    rw [AB_iff h0 hx]
    rcases Nat.eq_zero_or_pos (p x) with q | q
    · exact Or.inl q
    · exact Or.inr (ih _ hx q (by omega))
/-- above a node there are containers alone -/
theorem AB_cont {p : Nat → Nat} {N : Nat} {f : Nat → Int32} (hf : ∀ j, 0 < j → j < N → f (p j) = 0) {c : Nat} (x : Nat) : x < N → AB p c x → f c = 0 := by
  induction x using Nat.strongRecOn with
  | _ x ih =>
    intro hN h
    obtain ⟨h0, hx, h | h⟩ := AB_un h
    · rw [← h]; exact hf x h0 hN
    · exact ih _ hx (by omega) h
/-- the reference's tree -/
def yTree (N : Nat) (p : Nat → Nat) (τ : ttS) : Prop := N ≤ 24 ∧ (∀ j, 0 < j → j < N → p j < j) ∧ (∀ j, 0 < j → j < N → τ 2 j = nI (p j)) ∧ τ 2 0 = -1
theorem yUp_spec {N : Nat} {p : Nat → Nat} {τ : ttS} (h : yTree N p τ) (c : Nat) (hc : c < 2 ^ 31) (f : Nat) : ∀ a, a < N → a < f → (¬ yUpP τ c f (nI a) = 0 ↔ (a = c ∨ AB p c a)) := by
  obtain ⟨h24, hp, h2, h20⟩ := h
  induction f with
  | zero => intro a _ h; omega
  | succ f ih =>
    intro a ha hf
    rw [yUpP, if_neg (nI_pos (by omega))]
    by_cases e : a = c
    · rw [if_pos (by rw [e])]
      simp [e]
    · rw [if_neg (fun q => e ((nI_eq (by omega) hc).mp q)), nI_clamp (by omega)]
      rcases Nat.eq_zero_or_pos a with q | q
      · subst q
        rw [h20]
        have : yUpP τ c f (-1) = 0 := by
          cases f with
          | zero => rfl
          | succ f => rw [yUpP, if_pos (by decide)]
        simp [this, e, AB_0]
      · have hx := hp a q ha
        rw [h2 a q ha, ih (p a) (by omega) (by omega), AB_iff q hx]
        simp [e]
theorem yAb_spec {N : Nat} {p : Nat → Nat} {τ : ttS} (h : yTree N p τ) {c n : Nat} (hc : c < 2 ^ 31) (hn : n < N) : ¬ yAb τ c n = 0 ↔ AB p c n := by
  have h' := h
  obtain ⟨h24, hp, h2, h20⟩ := h'
  unfold yAb
  rcases Nat.eq_zero_or_pos n with q | q
  · subst q
    rw [h20, yUpP, if_pos (by decide)]
    simp [AB_0]
  · have hx := hp n q hn
    rw [h2 n q hn, yUp_spec h c hc 24 (p n) (by omega) (by omega), AB_iff q hx]
theorem yAb_spec0 {N : Nat} {p : Nat → Nat} {τ : ttS} (h : yTree N p τ) {c n : Nat} (hc : c < 2 ^ 31) (hn : n < N) : yAb τ c n = 0 ↔ ¬ AB p c n := by
  rw [← yAb_spec h hc hn]
  exact Decidable.not_not.symm
theorem ySelL_spec {N : Nat} {p : Nat → Nat} {τ : ttS} (h : yTree N p τ) {t : Nat} (ht : t < N) (f : Nat) : ∀ c, c + f ≤ N → (¬ ySelL τ t f c = 0 ↔ ∀ k, c ≤ k → k < c + f → AB p k t → τ 3 k = 0) := by
  have h24 := h.1
  induction f with
  | zero =>
    intro c _
    rw [ySelL]
    exact ⟨fun _ k h1 h2 => by omega, fun _ => by decide⟩
  | succ f ih =>
    intro c hc
    rw [ySelL]
    have hh : (∀ k, c ≤ k → k < c + (f + 1) → AB p k t → τ 3 k = 0) ↔ ((AB p c t → τ 3 c = 0) ∧ ∀ k, c + 1 ≤ k → k < c + 1 + f → AB p k t → τ 3 k = 0) := by
      refine ⟨fun q => ⟨q c (Nat.le_refl c) (by omega), fun k a b => q k (by omega) (by omega)⟩, fun q k a b => ?_⟩
      rcases Nat.eq_or_lt_of_le a with e | e
      · rw [← e]; exact q.1
      · exact q.2 k (by omega) (by omega)
    rw [hh]
    by_cases z : τ 3 c = 0
    · rw [if_pos z, ih (c + 1) (by omega)]
      simp [z]
    · rw [if_neg z]
      by_cases y : yAb τ c t = 0
      · rw [if_pos y, ih (c + 1) (by omega)]
        have := (yAb_spec0 h (by omega) ht).mp y
        simp [this]
      · rw [if_neg y]
        have := (yAb_spec h (by omega) ht).mp y
        simp [this, z]
theorem ySel_spec {N : Nat} {p : Nat → Nat} {τ : ttS} (h : yTree N p τ) {t : Nat} (ht : t < N) (tg : Int32) : ¬ ySel τ N t tg = 0 ↔ (¬ τ 1 t = 0 ∧ ¬ τ 7 t &&& tg = 0 ∧ τ 3 t = 0 ∧ ∀ k, k < N → AB p k t → τ 3 k = 0) := by
  unfold ySel
  by_cases a : τ 1 t = 0
  · rw [if_pos a]; simp [a]
  · rw [if_neg a]
    by_cases b : τ 7 t &&& tg = 0
    · rw [if_pos b]; simp [b]
    · rw [if_neg b]
      by_cases c : τ 3 t = 0
      · rw [if_pos c, ySelL_spec h ht N 0 (by omega)]
        simp only [Nat.zero_le, Nat.zero_add, true_implies]
        exact ⟨fun q => ⟨a, b, c, q⟩, fun q => q.2.2.2⟩
      · rw [if_neg c]; simp [c]
theorem yPasL_spec {N : Nat} {p : Nat → Nat} {τ : ttS} (h : yTree N p τ) {n : Nat} (w : Nat) (hn : n < N) (f : Nat) : ∀ c, c + f ≤ N → (¬ yPasL τ n w f c = 0 ↔ ∀ k, c ≤ k → k < c + f → AB p k n → τ 4 (k * 4 + w) ≤ 1) := by
  have h24 := h.1
  induction f with
  | zero =>
    intro c _
    rw [yPasL]
    exact ⟨fun _ k h1 h2 => by omega, fun _ => by decide⟩
  | succ f ih =>
    intro c hc
    rw [yPasL]
    have hh : (∀ k, c ≤ k → k < c + (f + 1) → AB p k n → τ 4 (k * 4 + w) ≤ 1) ↔ ((AB p c n → τ 4 (c * 4 + w) ≤ 1) ∧ ∀ k, c + 1 ≤ k → k < c + 1 + f → AB p k n → τ 4 (k * 4 + w) ≤ 1) := by
      refine ⟨fun q => ⟨q c (Nat.le_refl c) (by omega), fun k a b => q k (by omega) (by omega)⟩, fun q k a b => ?_⟩
      rcases Nat.eq_or_lt_of_le a with e | e
      · rw [← e]; exact q.1
      · exact q.2 k (by omega) (by omega)
    rw [hh]
    by_cases y : yAb τ c n = 0
    · rw [if_pos y, ih (c + 1) (by omega)]
      have := (yAb_spec0 h (by omega) hn).mp y
      simp [this]
    · rw [if_neg y]
      have := (yAb_spec h (by omega) hn).mp y
      by_cases z : τ 4 (c * 4 + w) ≤ 1
      · rw [if_pos z, ih (c + 1) (by omega)]
        simp [z]
      · rw [if_neg z]
        simp [this, z]
theorem yPas_spec {N : Nat} {p : Nat → Nat} {τ : ttS} (h : yTree N p τ) {n : Nat} (w : Nat) (hn : n < N) : ¬ yPas τ N n w = 0 ↔ ∀ k, k < N → AB p k n → τ 4 (k * 4 + w) ≤ 1 := by
  unfold yPas
  rw [yPasL_spec h w hn N 0 (by omega)]
  simp only [Nat.zero_le, Nat.zero_add, true_implies]
theorem yUseL_spec {N : Nat} {p : Nat → Nat} {τ : ttS} (h : yTree N p τ) {c : Nat} (hc : c < N) (tg : Int32) (f : Nat) : ∀ t, t + f ≤ N → (¬ yUseL τ N c tg f t = 0 ↔ ∃ k, t ≤ k ∧ k < t + f ∧ AB p c k ∧ ¬ ySel τ N k tg = 0) := by
  have h24 := h.1
  induction f with
  | zero =>
    intro t _
    rw [yUseL]
    exact ⟨fun q => absurd rfl q, fun ⟨k, h1, h2, _⟩ => by omega⟩
  | succ f ih =>
    intro t ht
    rw [yUseL]
    have hh : (∃ k, t ≤ k ∧ k < t + (f + 1) ∧ AB p c k ∧ ¬ ySel τ N k tg = 0) ↔ ((AB p c t ∧ ¬ ySel τ N t tg = 0) ∨ ∃ k, t + 1 ≤ k ∧ k < t + 1 + f ∧ AB p c k ∧ ¬ ySel τ N k tg = 0) := by
      constructor
      · rintro ⟨k, a, b, q⟩
        rcases Nat.eq_or_lt_of_le a with e | e
        · rw [← e] at q; exact Or.inl q
        · exact Or.inr ⟨k, by omega, by omega, q⟩
      · rintro (q | ⟨k, a, b, q⟩)
        · exact ⟨t, Nat.le_refl t, by omega, q⟩
        · exact ⟨k, by omega, by omega, q⟩
    rw [hh]
    by_cases y : yAb τ c t = 0
    · rw [if_pos y, ih (t + 1) (by omega)]
      have := (yAb_spec0 h (by omega) (by omega)).mp y
      simp [this]
    · rw [if_neg y]
      have := (yAb_spec h (by omega) (by omega)).mp y
      by_cases z : ySel τ N t tg = 0
      · rw [if_pos z, ih (t + 1) (by omega)]
        simp [z]
      · rw [if_neg z]
        simp [this, z]
theorem yUse_spec {N : Nat} {p : Nat → Nat} {τ : ttS} (h : yTree N p τ) {c : Nat} (hc : c < N) (tg : Int32) : ¬ yUse τ N c tg = 0 ↔ ∃ k, k < N ∧ AB p c k ∧ ¬ ySel τ N k tg = 0 := by
  unfold yUse
  rw [yUseL_spec h hc tg N 0 (by omega)]
  simp only [Nat.zero_le, Nat.zero_add, true_and]
theorem yHasL_spec {N : Nat} {p : Nat → Nat} {τ : ttS} (h : yTree N p τ) {t : Nat} (ht : t < N) (own out : Int32) (f : Nat) : ∀ c, c + f ≤ N → (¬ yHasL τ N t own out f c = 0 ↔ (∃ k, c ≤ k ∧ k < c + f ∧ AB p k t ∧ ¬ yPas τ N k 2 = 0 ∧ (τ 4 (k * 4 + 2) = out ∨ τ 4 (k * 4 + 3) = out)) ∨ (own = out ∧ ¬ yPas τ N t 2 = 0)) := by
  have h24 := h.1
  induction f with
  | zero =>
    intro c _
    rw [yHasL]
    by_cases a : own = out
    · rw [if_pos a]
      by_cases b : yPas τ N t 2 = 0
      · rw [if_pos b]
        exact ⟨fun q => absurd rfl q, fun q => by rcases q with ⟨k, h1, h2, _⟩ | ⟨_, q⟩ <;> first | omega | exact absurd b q⟩
      · rw [if_neg b]
        exact ⟨fun _ => Or.inr ⟨a, b⟩, fun _ => by decide⟩
    · rw [if_neg a]
      exact ⟨fun q => absurd rfl q, fun q => by rcases q with ⟨k, h1, h2, _⟩ | ⟨q, _⟩ <;> first | omega | exact absurd q a⟩
  | succ f ih =>
    intro c hc
    rw [yHasL]
    have hh : (∃ k, c ≤ k ∧ k < c + (f + 1) ∧ AB p k t ∧ ¬ yPas τ N k 2 = 0 ∧ (τ 4 (k * 4 + 2) = out ∨ τ 4 (k * 4 + 3) = out)) ↔ ((AB p c t ∧ ¬ yPas τ N c 2 = 0 ∧ (τ 4 (c * 4 + 2) = out ∨ τ 4 (c * 4 + 3) = out)) ∨ ∃ k, c + 1 ≤ k ∧ k < c + 1 + f ∧ AB p k t ∧ ¬ yPas τ N k 2 = 0 ∧ (τ 4 (k * 4 + 2) = out ∨ τ 4 (k * 4 + 3) = out)) := by
      constructor
      · rintro ⟨k, a, b, q⟩
        rcases Nat.eq_or_lt_of_le a with e | e
        · rw [← e] at q; exact Or.inl q
        · exact Or.inr ⟨k, by omega, by omega, q⟩
      · rintro (q | ⟨k, a, b, q⟩)
        · exact ⟨c, Nat.le_refl c, by omega, q⟩
        · exact ⟨k, by omega, by omega, q⟩
    rw [hh, or_assoc, ← ih (c + 1) (by omega)]
    by_cases y : yAb τ c t = 0
    · rw [if_pos y]
      have := (yAb_spec0 h (by omega) ht).mp y
      simp [this]
    · rw [if_neg y]
      have := (yAb_spec h (by omega) ht).mp y
      by_cases z : yPas τ N c 2 = 0
      · rw [if_pos z]; simp [z]
      · rw [if_neg z]
        by_cases a : τ 4 (c * 4 + 2) = out
        · rw [if_pos a]; simp [this, z, a]
        · rw [if_neg a]
          by_cases b : τ 4 (c * 4 + 3) = out
          · rw [if_pos b]; simp [this, z, b]
          · rw [if_neg b]; simp [a, b]
theorem yHas_spec {N : Nat} {p : Nat → Nat} {τ : ttS} (h : yTree N p τ) {t : Nat} (ht : t < N) (own out : Int32) : ¬ yHas τ N t own out = 0 ↔ (∃ k, k < N ∧ AB p k t ∧ ¬ yPas τ N k 2 = 0 ∧ (τ 4 (k * 4 + 2) = out ∨ τ 4 (k * 4 + 3) = out)) ∨ (own = out ∧ ¬ yPas τ N t 2 = 0) := by
  unfold yHas
  rw [yHasL_spec h ht own out N 0 (by omega)]
  simp only [Nat.zero_le, Nat.zero_add, true_and]
end
section
/-! the reference's run, node by node -/
/-- agree on the tree and what was said of its nodes -/
def yS (σ τ : ttS) : Prop := ∀ k, k < 8 → σ k = τ k
theorem yUpP_c {σ τ : ttS} (h : yS σ τ) (c f : Nat) : ∀ x, yUpP σ c f x = yUpP τ c f x := by
  induction f with
  | zero => intro x; rfl
  | succ f ih => intro x; rw [yUpP, yUpP, h 2 (by decide), ih]
theorem yAb_c {σ τ : ttS} (h : yS σ τ) (c n : Nat) : yAb σ c n = yAb τ c n := by
  unfold yAb
  rw [yUpP_c h, h 2 (by decide)]
theorem ySelL_c {σ τ : ttS} (h : yS σ τ) (t f : Nat) : ∀ c, ySelL σ t f c = ySelL τ t f c := by
  induction f with
  | zero => intro c; rfl
  | succ f ih => intro c; rw [ySelL, ySelL, h 3 (by decide), ih, yAb_c h]
theorem ySel_c {σ τ : ttS} (h : yS σ τ) (N t : Nat) (tg : Int32) : ySel σ N t tg = ySel τ N t tg := by
  unfold ySel
  rw [h 1 (by decide), h 7 (by decide), h 3 (by decide), ySelL_c h]
theorem yPasL_c {σ τ : ttS} (h : yS σ τ) (n w f : Nat) : ∀ c, yPasL σ n w f c = yPasL τ n w f c := by
  induction f with
  | zero => intro c; rfl
  | succ f ih => intro c; rw [yPasL, yPasL, h 4 (by decide), ih, yAb_c h]
theorem yPas_c {σ τ : ttS} (h : yS σ τ) (N n w : Nat) : yPas σ N n w = yPas τ N n w := yPasL_c h n w N 0
theorem yUseL_c {σ τ : ttS} (h : yS σ τ) (N c : Nat) (tg : Int32) (f : Nat) : ∀ t, yUseL σ N c tg f t = yUseL τ N c tg f t := by
  induction f with
  | zero => intro t; rfl
  | succ f ih => intro t; rw [yUseL, yUseL, ih, yAb_c h, ySel_c h]
theorem yUse_c {σ τ : ttS} (h : yS σ τ) (N c : Nat) (tg : Int32) : yUse σ N c tg = yUse τ N c tg := yUseL_c h N c tg N 0
theorem yHasL_c {σ τ : ttS} (h : yS σ τ) (N t : Nat) (own out : Int32) (f : Nat) : ∀ c, yHasL σ N t own out f c = yHasL τ N t own out f c := by
  induction f with
  | zero => intro c; rw [yHasL, yHasL, yPas_c h]
  | succ f ih => intro c; rw [yHasL, yHasL, ih, yAb_c h, yPas_c h, h 4 (by decide)]
theorem yHas_c {σ τ : ttS} (h : yS σ τ) (N t : Nat) (own out : Int32) : yHas σ N t own out = yHas τ N t own out := yHasL_c h N t own out N 0
theorem yOwn_c {σ τ : ttS} (h : yS σ τ) (t i : Nat) : yOwn σ t i = yOwn τ t i := by
  unfold yOwn
  rw [h 6 (by decide)]
theorem yOut_c {σ τ : ttS} (h : yS σ τ) (N t i : Nat) : yOut σ N t i = yOut τ N t i := by
  unfold yOut
  rw [yHas_c h, yHas_c h, yOwn_c h]
theorem yTry_c {σ τ : ttS} (h : yS σ τ) (N t f : Nat) : ∀ i n r, yTry σ N t f i n r = yTry τ N t f i n r := by
  induction f with
  | zero => intro i n r; rfl
  | succ f ih => intro i n r; rw [yTry, yTry, ih, ih, yOut_c h]
/-- whether the run comes to the node -/
def yRan (τ : ttS) (N : Nat) (tg : Int32) (x : Nat) : Bool := !(yPas τ N x 0 == 0) && (if τ 1 x = 0 then !(yUse τ N x tg == 0) else !(ySel τ N x tg == 0))
def yRes (τ : ttS) (N x : Nat) : Int32 := if τ 1 x = 0 then xW (xW 1 (τ 4 (x * 4))) (τ 4 (x * 4 + 1)) else (yTry τ N x (τ 5 x).toNatClampNeg 0 0 2).2
def yMad (τ : ttS) (N x : Nat) : Nat := if τ 1 x = 0 then 0 else (yTry τ N x (τ 5 x).toNatClampNeg 0 0 2).1
/-- what the first loop of the reference counts at the node's own places -/
def yOwnC (τ : ttS) (N x w : Nat) : Int32 := if τ 1 x = 0 then (if w = 0 ∨ w = 1 then (if τ 4 (x * 4 + w) = 0 then 0 else 1) else 0) else (if w = 0 then (if yPas τ N x 2 = 0 then 0 else nI (yMad τ N x)) else 0)
theorem yRan_t {τ : ttS} {N : Nat} {tg : Int32} {x : Nat} (h : ¬ τ 1 x = 0) : yRan τ N tg x = true ↔ (¬ yPas τ N x 0 = 0 ∧ ¬ ySel τ N x tg = 0) := by
  unfold yRan
  rw [if_neg h]
  simp
theorem yRan_c {τ : ttS} {N : Nat} {tg : Int32} {x : Nat} (h : τ 1 x = 0) : yRan τ N tg x = true ↔ (¬ yPas τ N x 0 = 0 ∧ ¬ yUse τ N x tg = 0) := by
  unfold yRan
  rw [if_pos h]
  simp
theorem yRC_res (τ : ttS) (c : Nat) : yRC τ c 8 c = xW (xW 1 (τ 4 (c * 4))) (τ 4 (c * 4 + 1)) := by
  have h1 : yRC1 τ c 8 c = 1 := by simp [yRC1, tt_ap]
  unfold yRC yRC3 yRC2 xW
  generalize τ 4 (c * 4) = a at *
  generalize τ 4 (c * 4 + 1) = b at *
  by_cases a2 : a = 2
  · simp [a2, tt_ap]
  · by_cases b2 : b = 2
    · simp [a2, b2, tt_ap]
    · by_cases a3 : a = 3
      · simp [a3, b2, tt_ap]
      · by_cases b3 : b = 3
        · simp [a2, a3, b3, tt_ap]
        · simp [a2, a3, b2, b3, h1]
theorem yRC_o (τ : ttS) (c : Nat) : (∀ x, x ≠ c → yRC τ c 8 x = τ 8 x) ∧ yRC τ c 10 = τ 10 ∧ ∀ j, yRC τ c 9 j = if j = c * 4 + 1 then (if τ 4 (c * 4 + 1) = 0 then 0 else 1) else if j = c * 4 then (if τ 4 (c * 4) = 0 then 0 else 1) else τ 9 j := by
  have h1 : (∀ x, x ≠ c → yRC1 τ c 8 x = τ 8 x) ∧ yRC1 τ c 10 = τ 10 ∧ ∀ j, yRC1 τ c 9 j = if j = c * 4 + 1 then (if τ 4 (c * 4 + 1) = 0 then 0 else 1) else if j = c * 4 then (if τ 4 (c * 4) = 0 then 0 else 1) else τ 9 j := by
    refine ⟨fun x hx => by simp [yRC1, tt_ap, hx], rfl, fun j => by simp [yRC1, tt_ap]⟩
  have k1 : ∀ (ρ : ttS) (v : Int32), ((∀ x, x ≠ c → ρ 8 x = τ 8 x) ∧ ρ 10 = τ 10 ∧ ∀ j, ρ 9 j = if j = c * 4 + 1 then (if τ 4 (c * 4 + 1) = 0 then 0 else 1) else if j = c * 4 then (if τ 4 (c * 4) = 0 then 0 else 1) else τ 9 j) → ((∀ x, x ≠ c → ttU ρ 8 c v 8 x = τ 8 x) ∧ ttU ρ 8 c v 10 = τ 10 ∧ ∀ j, ttU ρ 8 c v 9 j = if j = c * 4 + 1 then (if τ 4 (c * 4 + 1) = 0 then 0 else 1) else if j = c * 4 then (if τ 4 (c * 4) = 0 then 0 else 1) else τ 9 j) := by
    intro ρ v ⟨a, b, q⟩
    refine ⟨fun x hx => ?_, b, q⟩
    rw [tt_ap, if_neg (fun z => hx z.2)]
    exact a x hx
  have h2 := h1
  have h3 : (∀ x, x ≠ c → yRC2 τ (yRC1 τ c) c 8 x = τ 8 x) ∧ yRC2 τ (yRC1 τ c) c 10 = τ 10 ∧ ∀ j, yRC2 τ (yRC1 τ c) c 9 j = if j = c * 4 + 1 then (if τ 4 (c * 4 + 1) = 0 then 0 else 1) else if j = c * 4 then (if τ 4 (c * 4) = 0 then 0 else 1) else τ 9 j := by
    unfold yRC2
    split
    · exact k1 _ _ h1
    · split
      · exact k1 _ _ h1
      · exact h1
  unfold yRC yRC3
  split
  · exact k1 _ _ h3
  · split
    · exact k1 _ _ h3
    · exact h3
theorem yRT_o (τ : ttS) (N K t : Nat) : (∀ x, yRT τ N K t 8 x = if x = t then (yTry τ N t K 0 0 2).2 else τ 8 x) ∧ (∀ x, yRT τ N K t 10 x = if x = t then nI (yTry τ N t K 0 0 2).1 else τ 10 x) ∧ ∀ j, yRT τ N K t 9 j = if j = t * 4 then (if yPas τ N t 2 = 0 then 0 else nI (yTry τ N t K 0 0 2).1) else τ 9 j := by
  have e : yPas (yRT1 τ t (yTry τ N t K 0 0 2).1 (yTry τ N t K 0 0 2).2) N t 2 = yPas τ N t 2 := yPas_c (fun k hk => by unfold yRT1; rw [ttU_ne _ _ _ (by omega), ttU_ne _ _ _ (by omega)]) N t 2
  refine ⟨fun x => ?_, fun x => ?_, fun j => ?_⟩
  · simp [yRT, yRT2, yRT1, tt_ap]
  · simp [yRT, yRT2, yRT1, tt_ap]
  · unfold yRT yRT2
    rw [e, tt_ap]
    simp [yRT1, tt_ap]
/-- the first loop: the nodes below n are settled -/
theorem yM1_spec {τ ρ : ttS} {N : Nat} (tg : Int32) (hS : yS ρ τ) (h8 : ∀ x, x < 24 → ρ 8 x = 0) (h10 : ∀ x, x < 24 → ρ 10 x = 0) (h9 : ∀ j, j < 96 → ρ 9 j = 0) (hN : N ≤ 24) (n : Nat) : n ≤ N → (∀ x, x < 24 → yM1 tg N ρ n 8 x = if x < n ∧ yRan τ N tg x = true then yRes τ N x else 0) ∧ (∀ x, x < 24 → yM1 tg N ρ n 10 x = if x < n ∧ yRan τ N tg x = true then nI (yMad τ N x) else 0) ∧ (∀ x w, x < 24 → w < 4 → yM1 tg N ρ n 9 (x * 4 + w) = if x < n ∧ yRan τ N tg x = true then yOwnC τ N x w else 0) := by
  induction n with
  | zero =>
    intro _
    refine ⟨fun x hx => ?_, fun x hx => ?_, fun x w hx hw => ?_⟩
    · rw [if_neg (by omega)]; exact h8 x hx
    · rw [if_neg (by omega)]; exact h10 x hx
    · rw [if_neg (by omega)]; exact h9 _ (by omega)
  | succ n ih =>
    intro hn
    obtain ⟨i8, i10, i9⟩ := ih (by omega)
    have hs : yS (yM1 tg N ρ n) τ := fun k hk => (yM1_k tg N ρ n hk).trans (hS k hk)
    have e1 : yM1 tg N ρ n 1 n = τ 1 n := by rw [hs 1 (by decide)]
    have e5 : yM1 tg N ρ n 5 n = τ 5 n := by rw [hs 5 (by decide)]
    have e4 : yM1 tg N ρ n 4 = τ 4 := hs 4 (by decide)
    have skip : yRan τ N tg n = false → yNode tg N (yM1 tg N ρ n) n = yM1 tg N ρ n → (∀ x, x < 24 → yM1 tg N ρ (n + 1) 8 x = if x < n + 1 ∧ yRan τ N tg x = true then yRes τ N x else 0) ∧ (∀ x, x < 24 → yM1 tg N ρ (n + 1) 10 x = if x < n + 1 ∧ yRan τ N tg x = true then nI (yMad τ N x) else 0) ∧ (∀ x w, x < 24 → w < 4 → yM1 tg N ρ (n + 1) 9 (x * 4 + w) = if x < n + 1 ∧ yRan τ N tg x = true then yOwnC τ N x w else 0) := by
      intro hr hq
      have hc : ∀ x, (x < n + 1 ∧ yRan τ N tg x = true) ↔ (x < n ∧ yRan τ N tg x = true) := by
        intro x
        constructor
        · rintro ⟨a, b⟩
          refine ⟨?_, b⟩
          rcases Nat.lt_or_ge x n with q | q
          · exact q
          · rw [show x = n by omega, hr] at b; cases b
        · rintro ⟨a, b⟩; exact ⟨by omega, b⟩
      rw [yM1, hq]
      refine ⟨fun x hx => ?_, fun x hx => ?_, fun x w hx hw => ?_⟩
      · rw [i8 x hx]; simp only [hc x]
      · rw [i10 x hx]; simp only [hc x]
      · rw [i9 x w hx hw]; simp only [hc x]
    have hlt : ∀ x, x ≠ n → ((x < n + 1 ∧ yRan τ N tg x = true) ↔ (x < n ∧ yRan τ N tg x = true)) := fun x hx => ⟨fun q => ⟨by omega, q.2⟩, fun q => ⟨by omega, q.2⟩⟩
    by_cases t : τ 1 n = 0
    · by_cases r : yRan τ N tg n = true
      · obtain ⟨r1, r2⟩ := (yRan_c t).mp r
        have hq : yNode tg N (yM1 tg N ρ n) n = yRC (yM1 tg N ρ n) n := by
          unfold yNode
          rw [e1, if_pos t, yPas_c hs, if_neg r1, yUse_c hs, if_neg r2]
        obtain ⟨o8, o10, o9⟩ := yRC_o (yM1 tg N ρ n) n
        have o8n := yRC_res (yM1 tg N ρ n) n
        rw [yM1, hq]
        refine ⟨fun x hx => ?_, fun x hx => ?_, fun x w hx hw => ?_⟩
        · by_cases z : x = n
          · rw [z, o8n, if_pos ⟨by omega, r⟩, e4]
            unfold yRes
            rw [if_pos t]
          · rw [o8 x z, i8 x hx]; simp only [hlt x z]
        · rw [o10, i10 x hx]
          by_cases z : x = n
          · rw [z, if_neg (by omega), if_pos ⟨by omega, r⟩]
            unfold yMad
            rw [if_pos t]; rfl
          · simp only [hlt x z]
        · rw [o9, e4]
          by_cases z : x = n
          · rw [z, if_pos (show n < n + 1 ∧ yRan τ N tg n = true from ⟨by omega, r⟩)]
            unfold yOwnC
            rw [if_pos t]
            rcases (show w = 0 ∨ w = 1 ∨ 2 ≤ w by omega) with rfl | rfl | q
            · rw [if_neg (by omega), if_pos (by omega), if_pos (Or.inl rfl)]; rfl
            · rw [if_pos rfl, if_pos (Or.inr rfl)]
            · rw [if_neg (by omega), if_neg (by omega), if_neg (by omega), i9 n w (by omega) hw, if_neg (by omega)]
          · rw [if_neg (by omega), if_neg (by omega), i9 x w hx hw]; simp only [hlt x z]
      · have r : yRan τ N tg n = false := by simpa using r
        refine skip r ?_
        unfold yNode
        rw [e1, if_pos t, yPas_c hs, yUse_c hs]
        by_cases a : yPas τ N n 0 = 0
        · rw [if_pos a]
        · rw [if_neg a]
          by_cases b : yUse τ N n tg = 0
          · rw [if_pos b]
          · exfalso
            have := (yRan_c t).mpr ⟨a, b⟩
            rw [r] at this; cases this
    · by_cases r : yRan τ N tg n = true
      · obtain ⟨r1, r2⟩ := (yRan_t t).mp r
        have hq : yNode tg N (yM1 tg N ρ n) n = yRT (yM1 tg N ρ n) N (τ 5 n).toNatClampNeg n := by
          unfold yNode
          rw [e1, if_neg t, yPas_c hs, if_neg r1, ySel_c hs, if_neg r2, e5]
        obtain ⟨o8, o10, o9⟩ := yRT_o (yM1 tg N ρ n) N (τ 5 n).toNatClampNeg n
        rw [yM1, hq]
        refine ⟨fun x hx => ?_, fun x hx => ?_, fun x w hx hw => ?_⟩
        · rw [o8, yTry_c hs]
          by_cases z : x = n
          · rw [if_pos z, z, if_pos ⟨by omega, r⟩]
            unfold yRes
            rw [if_neg t]
          · rw [if_neg z, i8 x hx]; simp only [hlt x z]
        · rw [o10, yTry_c hs]
          by_cases z : x = n
          · rw [if_pos z, z, if_pos ⟨by omega, r⟩]
            unfold yMad
            rw [if_neg t]
          · rw [if_neg z, i10 x hx]; simp only [hlt x z]
        · rw [o9, yTry_c hs, yPas_c hs]
          by_cases z : x = n
          · rw [z, if_pos (show n < n + 1 ∧ yRan τ N tg n = true from ⟨by omega, r⟩)]
            unfold yOwnC
            rw [if_neg t]
            rcases (show w = 0 ∨ 1 ≤ w by omega) with rfl | q
            · rw [if_pos (by omega), if_pos rfl]
              unfold yMad
              rw [if_neg t]
            · rw [if_neg (by omega), if_neg (by omega), i9 n w (by omega) hw, if_neg (by omega)]
          · rw [if_neg (by omega), i9 x w hx hw]; simp only [hlt x z]
      · have r : yRan τ N tg n = false := by simpa using r
        refine skip r ?_
        unfold yNode
        rw [e1, if_neg t, yPas_c hs, ySel_c hs]
        by_cases a : yPas τ N n 0 = 0
        · rw [if_pos a]
        · rw [if_neg a]
          by_cases b : ySel τ N n tg = 0
          · rw [if_pos b]
          · exfalso
            have := (yRan_t t).mpr ⟨a, b⟩
            rw [r] at this; cases this
/-- sums -/
def sN : Nat → (Nat → Nat) → Nat
  | 0, _ => 0
  | n + 1, g => sN n g + g n
theorem sN_c {g h : Nat → Nat} (n : Nat) : (∀ x, x < n → g x = h x) → sN n g = sN n h := by
  induction n with
  | zero => intro _; rfl
  | succ n ih => intro q; rw [sN, sN, ih (fun x hx => q x (by omega)), q n (by omega)]
theorem sN_0 {g : Nat → Nat} (n : Nat) : (∀ x, x < n → g x = 0) → sN n g = 0 := by
  induction n with
  | zero => intro _; rfl
  | succ n ih => intro q; rw [sN, ih (fun x hx => q x (by omega)), q n (by omega)]
theorem sN_1 {g : Nat → Nat} {c : Nat} (n : Nat) : c < n → (∀ x, x < n → x ≠ c → g x = 0) → sN n g = g c := by
  induction n with
  | zero => intro h _; omega
  | succ n ih =>
    intro h q
    rw [sN]
    by_cases z : c = n
    · rw [sN_0 n (fun x hx => q x (by omega) (by omega)), z]; omega
    · rw [ih (by omega) (fun x hx => q x (by omega)), q n (by omega) (by omega)]; omega
theorem sN_add (g h : Nat → Nat) (n : Nat) : sN n (fun x => g x + h x) = sN n g + sN n h := by
  induction n with
  | zero => rfl
  | succ n ih => rw [sN, sN, sN, ih]; omega
theorem ySumM_spec {τ ρ : ttS} {N : Nat} {G : Nat → Nat} (hS : yS ρ τ) (c : Nat) (h10 : ∀ x, x < N → ρ 10 x = nI (G x)) (n : Nat) : n ≤ N → ySumM ρ c n = nI (sN n (fun i => if yAb τ c i = 0 then 0 else G i)) := by
  induction n with
  | zero => intro _; rfl
  | succ n ih =>
    intro hn
    rw [ySumM, sN, ih (by omega), yAb_c hS]
    by_cases z : yAb τ c n = 0
    · rw [if_pos z, if_pos z]; rfl
    · rw [if_neg z, if_neg z, h10 n (by omega), nI_add]
theorem yE_spec {ρ : ttS} {N : Nat} (n : Nat) : ∀ x w, w < 4 → yE N ρ n 9 (x * 4 + w) = if x < n ∧ ρ 1 x = 0 ∧ 2 ≤ w then yEv ρ N x w else ρ 9 (x * 4 + w) := by
  induction n with
  | zero => intro x w _; rw [if_neg (by omega)]; rfl
  | succ n ih =>
    intro x w hw
    have hs : ∀ k, k ≠ 9 → yE N ρ n k = ρ k := fun k hk => yE_k N ρ n hk
    have hv : ∀ v, yEv (yE N ρ n) N n v = yEv ρ N n v := by
      intro v
      have a : ∀ c i, yAb (yE N ρ n) c i = yAb ρ c i := fun c i => yAb_c (fun k hk => hs k (by omega)) c i
      have b : ∀ m, ySumM (yE N ρ n) n m = ySumM ρ n m := by
        intro m
        induction m with
        | zero => rfl
        | succ m ih2 => rw [ySumM, ySumM, ih2, a, hs 10 (by decide)]
      unfold yEv
      rw [yPas_c (fun k hk => hs k (by omega)), hs 4 (by decide), b]
    rw [yE, show yE N ρ n 1 n = ρ 1 n by rw [hs 1 (by decide)]]
    by_cases t : ρ 1 n = 0
    · rw [if_pos t]
      unfold yEach
      rw [tt_ap, tt_ap, hv, hv]
      simp only [true_and]
      by_cases z : x = n
      · subst z
        rcases (show w < 2 ∨ w = 2 ∨ w = 3 by omega) with q | q | q
        · rw [if_neg (by omega), if_neg (by omega), ih x w hw, if_neg (by omega), if_neg (by omega)]
        · subst q
          rw [if_neg (by omega), if_pos rfl, if_pos ⟨by omega, t, by omega⟩]
        · subst q
          rw [if_pos rfl, if_pos ⟨by omega, t, by omega⟩]
      · rw [if_neg (by omega), if_neg (by omega), ih x w hw]
        have : (x < n + 1 ∧ ρ 1 x = 0 ∧ 2 ≤ w) ↔ (x < n ∧ ρ 1 x = 0 ∧ 2 ≤ w) := ⟨fun q => ⟨by omega, q.2⟩, fun q => ⟨by omega, q.2⟩⟩
        simp only [this]
    · rw [if_neg t, ih x w hw]
      by_cases z : x = n
      · subst z
        rw [if_neg (by omega), if_neg (fun q => t q.2.1)]
      · have : (x < n + 1 ∧ ρ 1 x = 0 ∧ 2 ≤ w) ↔ (x < n ∧ ρ 1 x = 0 ∧ 2 ≤ w) := ⟨fun q => ⟨by omega, q.2⟩, fun q => ⟨by omega, q.2⟩⟩
        simp only [this]
theorem yR_0 (σ : ttS) : (∀ x, x < 24 → yReset σ 8 x = 0) ∧ (∀ x, x < 24 → yReset σ 10 x = 0) ∧ ∀ j, j < 96 → yReset σ 9 j = 0 := by
  have a : ∀ (ρ : ttS) n, ∀ x, x < n → yR2 ρ n 8 x = 0 ∧ yR2 ρ n 10 x = 0 := by
    intro ρ n
    induction n with
    | zero => intro x h; omega
    | succ n ih =>
      intro x hx
      rw [yR2]
      by_cases z : x = n
      · simp [tt_ap, z]
      · obtain ⟨q1, q2⟩ := ih x (by omega)
        simp [tt_ap, z, q1, q2]
  have b : ∀ n, ∀ j, j < n → yR1 σ n 9 j = 0 := by
    intro n
    induction n with
    | zero => intro x h; omega
    | succ n ih =>
      intro x hx
      rw [yR1]
      by_cases z : x = n
      · simp [tt_ap, z]
      · simp [tt_ap, z, ih x (by omega)]
  refine ⟨fun x hx => (a _ _ x hx).1, fun x hx => (a _ _ x hx).2, fun j hj => ?_⟩
  unfold yReset
  rw [yR2_k _ _ (by decide) (by decide)]
  exact b _ j hj
/-- the reference's run in closed form -/
def yFin (τ : ttS) (N : Nat) (tg : Int32) (x w : Nat) : Int32 := if x < N then (if τ 1 x = 0 ∧ 2 ≤ w then (if yPas τ N x 2 = 0 then 0 else if τ 4 (x * 4 + w) = 0 then 0 else nI (sN N (fun i => if yAb τ x i = 0 then 0 else if yRan τ N tg i = true then yMad τ N i else 0))) else if yRan τ N tg x = true then yOwnC τ N x w else 0) else 0
theorem yRunS_spec (τ : ttS) {N : Nat} (tg : Int32) (hN : N ≤ 24) : (∀ x, x < 24 → yRunS τ N tg 8 x = if x < N ∧ yRan τ N tg x = true then yRes τ N x else 0) ∧ (∀ x, x < 24 → yRunS τ N tg 10 x = if x < N ∧ yRan τ N tg x = true then nI (yMad τ N x) else 0) ∧ ∀ x w, x < 24 → w < 4 → yRunS τ N tg 9 (x * 4 + w) = yFin τ N tg x w := by
  have hS : yS (yReset τ) τ := fun k hk => yReset_k τ hk
  obtain ⟨z8, z10, z9⟩ := yR_0 τ
  obtain ⟨m8, m10, m9⟩ := yM1_spec (τ := τ) tg hS z8 z10 z9 hN N (Nat.le_refl N)
  have hs : yS (yM1 tg N (yReset τ) N) τ := fun k hk => (yM1_k tg N _ N hk).trans (hS k hk)
  unfold yRunS
  refine ⟨fun x hx => ?_, fun x hx => ?_, fun x w hx hw => ?_⟩
  · rw [yE_k _ _ _ (by decide)]; exact m8 x hx
  · rw [yE_k _ _ _ (by decide)]; exact m10 x hx
  · rw [yE_spec N x w hw, hs 1 (by decide), m9 x w hx hw]
    unfold yFin
    by_cases a : x < N
    · rw [if_pos a]
      by_cases b : τ 1 x = 0 ∧ 2 ≤ w
      · rw [if_pos ⟨a, b⟩, if_pos b]
        unfold yEv
        rw [yPas_c hs, hs 4 (by decide), ySumM_spec (τ := τ) (N := N) (G := fun i => if yRan τ N tg i = true then yMad τ N i else 0) hs x (fun i hi => ?_) N (Nat.le_refl N)]
        rw [m10 i (by omega)]
        by_cases r : yRan τ N tg i = true
        · rw [if_pos ⟨hi, r⟩, if_pos r]
        · rw [if_neg (fun q => r q.2), if_neg r]; rfl
      · rw [if_neg (fun q => b q.2), if_neg b]
        by_cases r : yRan τ N tg x = true
        · rw [if_pos ⟨a, r⟩, if_pos r]
        · rw [if_neg (fun q => r q.2), if_neg r]
    · rw [if_neg a, if_neg (fun q => a q.1), if_neg (fun q => a q.1)]
end
section
/-! who takes part -/
/-- what the component and the reference agree upon, for any state of the component with the same tree -/
def xTree (N : Nat) (p : Nat → Nat) (σ : ttS) (τ : ttS) : Prop := trS N p σ ∧ trC N p σ ∧ trB σ ∧ trY N p τ ∧ trE N σ τ
theorem xTree_c {N : Nat} {p : Nat → Nat} {σ σ' τ : ttS} (h : xTree N p σ τ) (hk : ∀ k, k < 11 → σ' k = σ k) : xTree N p σ' τ := by
  unfold xTree trS trC trB trE at h ⊢
  rw [hk 0 (by decide), hk 1 (by decide), hk 2 (by decide), hk 3 (by decide), hk 4 (by decide), hk 5 (by decide), hk 6 (by decide), hk 7 (by decide), hk 8 (by decide), hk 9 (by decide), hk 10 (by decide)]
  exact h
theorem xTree_y {N : Nat} {p : Nat → Nat} {σ τ : ttS} (h : xTree N p σ τ) : yTree N p τ := ⟨h.1.2.2.1, fun j a b => (h.1.2.2.2.1 j a b).1, h.2.2.2.1.2.1, h.2.2.2.1.2.2.1⟩
theorem xTree_cont {N : Nat} {p : Nat → Nat} {σ τ : ttS} (h : xTree N p σ τ) {c x : Nat} (hx : x < N) (ha : AB p c x) : τ 1 c = 0 := by
  have h24 := h.1.2.2.1
  have hc := AB_lt x ha
  rw [← h.2.2.2.2.1 c (by omega)]
  exact AB_cont (f := σ 1) (fun j a b => (h.1.2.2.2.1 j a b).2.2) x hx ha
/-- nothing on the way down to it, and not it, is disabled -/
def xOpn (N : Nat) (p : Nat → Nat) (τ : ttS) (x : Nat) : Prop := τ 3 x = 0 ∧ ∀ c, c < N → AB p c x → τ 3 c = 0
def yPart (N : Nat) (τ : ttS) (tg : Int32) (x : Nat) : Prop := (τ 1 x = 0 → ¬ yUse τ N x tg = 0) ∧ (¬ τ 1 x = 0 → ¬ ySel τ N x tg = 0)
theorem xCh1_spec {N : Nat} {p : Nat → Nat} {σ τ : ttS} (h : xTree N p σ τ) (n : Nat) : n ≤ N → ∀ x, x < n → (¬ xCh1 σ n 15 x = 0 ↔ xOpn N p τ x) := by
  have h24 := h.1.2.2.1
  induction n with
  | zero => intro _ x hx; omega
  | succ n ih =>
    intro hn x hx
    rw [xCh1, tt_ap]
    simp only [true_and]
    by_cases z : x = n
    · rw [if_pos z, z]
      unfold xOpen
      rw [xCh1_k σ n (k := 10) (by decide), xCh1_k σ n (k := 2) (by decide), h.2.2.2.2.2.1 n (by omega)]
      by_cases a : τ 3 n = 0
      · rw [if_pos a]
        rcases Nat.eq_zero_or_pos n with q | q
        · subst q
          rw [if_pos (by decide)]
          exact ⟨fun _ => ⟨a, fun c _ hc => absurd hc AB_0⟩, fun _ => by decide⟩
        · obtain ⟨hp, h2, -⟩ := h.1.2.2.2.1 n q (by omega)
          rw [if_neg (nI_nle q (by omega)), h2, nI_clamp (by omega)]
          have hi := ih (by omega) (p n) hp
          have ho : xOpn N p τ n ↔ xOpn N p τ (p n) := by
            unfold xOpn
            refine ⟨fun ⟨_, g⟩ => ⟨g (p n) (by omega) ((AB_iff q hp).mpr (Or.inl rfl)), fun c hc g2 => g c hc ((AB_iff q hp).mpr (Or.inr g2))⟩, fun ⟨g1, g2⟩ => ⟨a, fun c hc g3 => ?_⟩⟩
            rcases (AB_iff q hp).mp g3 with e | e
            · rw [← e]; exact g1
            · exact g2 c hc e
          rw [ho, ← hi]
          by_cases b : xCh1 σ n 15 (p n) = 0
          · rw [if_pos b]; simp [b]
          · rw [if_neg b]; simp [b]
      · rw [if_neg a]
        exact ⟨fun q => absurd rfl q, fun q => absurd q.1 a⟩
    · rw [if_neg z]
      exact ih (by omega) x (by omega)
theorem xSib_spec {N : Nat} {p : Nat → Nat} {σ τ ρ : ttS} (h : xTree N p σ τ) (h5 : ρ 5 = σ 5) (f : Nat) : ∀ c, 0 < c → c < N → N ≤ c + f → (¬ xSib ρ f (nI c) = 0 ↔ ∃ y, c ≤ y ∧ y < N ∧ p y = p c ∧ ¬ ρ 15 y = 0) := by
  have h24 := h.1.2.2.1
  induction f with
  | zero => intro c _ h1 h2; omega
  | succ f ih =>
    intro c h0 hc hf
    rw [xSib, if_neg (nI_pos (by omega)), nI_clamp (by omega)]
    by_cases a : ρ 15 c = 0
    · rw [if_pos a, h5]
      rcases h.2.1.2.1 c h0 hc with ⟨e, g⟩ | ⟨b, e, hb1, hb2, hpb, g⟩
      · rw [e]
        have : xSib ρ f (-1) = 0 := by
          cases f with
          | zero => rfl
          | succ f => rw [xSib, if_pos (by decide)]
        rw [this]
        refine ⟨fun q => absurd rfl q, fun ⟨y, y1, y2, y3, y4⟩ => ?_⟩
        have := g y (by omega) y2 y3
        rw [show y = c by omega] at y4
        exact absurd a y4
      · rw [e, ih b (by omega) hb2 (by omega), hpb]
        refine ⟨fun ⟨y, y1, y2, y3, y4⟩ => ⟨y, by omega, y2, y3, y4⟩, fun ⟨y, y1, y2, y3, y4⟩ => ?_⟩
        rcases Nat.eq_or_lt_of_le y1 with q | q
        · rw [← q] at y4; exact absurd a y4
        · exact ⟨y, g y (by omega) y2 y3 q, y2, y3, y4⟩
    · rw [if_neg a]
      exact ⟨fun _ => ⟨c, Nat.le_refl c, hc, rfl, a⟩, fun _ => by decide⟩
theorem xChild_spec {N : Nat} {p : Nat → Nat} {σ τ ρ : ttS} (h : xTree N p σ τ) (h3 : ρ 3 = σ 3) (h5 : ρ 5 = σ 5) {n : Nat} (hn : n < N) : ¬ xChild ρ n = 0 ↔ ∃ y, 0 < y ∧ y < N ∧ p y = n ∧ ¬ ρ 15 y = 0 := by
  have h24 := h.1.2.2.1
  unfold xChild
  rw [h3]
  rcases h.2.1.1 n hn with ⟨e, -, g⟩ | ⟨a, b, e, -, a0, a1, -, -, pa, -, g⟩
  · rw [e, xSib, if_pos (by decide)]
    exact ⟨fun q => absurd rfl q, fun ⟨y, y1, y2, y3, _⟩ => absurd y3 (g y y1 y2)⟩
  · rw [e, xSib_spec h h5 24 a a0 a1 (by omega), pa]
    exact ⟨fun ⟨y, y1, y2, y3, y4⟩ => ⟨y, by omega, y2, y3, y4⟩, fun ⟨y, y1, y2, y3, y4⟩ => ⟨y, (g y y1 y2 y3).1, y2, y3, y4⟩⟩
/-- between a node and one above it lies a child of the upper one -/
theorem AB_child {p : Nat → Nat} {n : Nat} (k : Nat) : AB p n k → ∃ y, 0 < y ∧ y ≤ k ∧ p y < y ∧ p y = n ∧ (y = k ∨ AB p y k) := by
  induction k using Nat.strongRecOn with
  | _ k ih =>
    intro h
    obtain ⟨h0, hk, h | h⟩ := AB_un h
    · exact ⟨k, h0, Nat.le_refl k, hk, h, Or.inl rfl⟩
    · obtain ⟨y, y0, y1, y2, y3, y4⟩ := ih _ hk h
      refine ⟨y, y0, by omega, y2, y3, Or.inr ?_⟩
      rw [AB_iff h0 hk]
      rcases y4 with q | q
      · exact Or.inl q.symm
      · exact Or.inr q
theorem yPart_cont {N : Nat} {p : Nat → Nat} {σ τ : ttS} (h : xTree N p σ τ) (tg : Int32) {n : Nat} (hn : n < N) (ht : τ 1 n = 0) : yPart N τ tg n ↔ (xOpn N p τ n ∧ ∃ y, 0 < y ∧ y < N ∧ p y = n ∧ yPart N τ tg y) := by
  have hy := xTree_y h
  have hp := hy.2.1
  have e : yPart N τ tg n ↔ ∃ k, k < N ∧ AB p n k ∧ ¬ ySel τ N k tg = 0 := by
    rw [← yUse_spec hy hn tg]
    exact ⟨fun q => q.1 ht, fun q => ⟨fun _ => q, fun z => absurd ht z⟩⟩
  rw [e]
  constructor
  · rintro ⟨k, hk, hab, hs⟩
    obtain ⟨s1, s2, s3, s4⟩ := (ySel_spec hy hk tg).mp hs
    refine ⟨⟨s4 n hn hab, fun c hc g => s4 c hc (AB_trans g k hab)⟩, ?_⟩
    obtain ⟨y, y0, y1, y2, y3, y4⟩ := AB_child k hab
    refine ⟨y, y0, by omega, y3, ?_⟩
    rcases y4 with q | q
    · rw [q]; exact ⟨fun z => absurd z s1, fun _ => hs⟩
    · have hc := xTree_cont h hk q
      exact ⟨fun _ => (yUse_spec hy (by omega) tg).mpr ⟨k, hk, q, hs⟩, fun z => absurd hc z⟩
  · rintro ⟨-, y, y0, y1, y2, y3⟩
    have hab : AB p n y := (AB_iff y0 (hp y y0 y1)).mpr (Or.inl y2)
    by_cases t : τ 1 y = 0
    · obtain ⟨k, k1, k2, k3⟩ := (yUse_spec hy y1 tg).mp (y3.1 t)
      exact ⟨k, k1, AB_trans hab k k2, k3⟩
    · exact ⟨y, y1, hab, y3.2 t⟩
theorem yPart_test {N : Nat} {p : Nat → Nat} {σ τ : ttS} (h : xTree N p σ τ) (tg : Int32) {n : Nat} (hn : n < N) (ht : ¬ τ 1 n = 0) : yPart N τ tg n ↔ (xOpn N p τ n ∧ ¬ σ 9 n &&& tg = 0) := by
  have hy := xTree_y h
  have h24 := h.1.2.2.1
  have e9 : σ 9 n = τ 7 n := (h.2.2.2.2.2.2.2 n hn (by rw [h.2.2.2.2.1 n (by omega)]; exact ht)).2.1
  rw [e9]
  have e : yPart N τ tg n ↔ ¬ ySel τ N n tg = 0 := ⟨fun q => q.2 ht, fun q => ⟨fun z => absurd z ht, fun _ => q⟩⟩
  rw [e, ySel_spec hy hn tg]
  exact ⟨fun ⟨_, b, c, d⟩ => ⟨⟨c, d⟩, b⟩, fun ⟨⟨c, d⟩, b⟩ => ⟨ht, b, c, d⟩⟩
theorem xCh2_spec {N : Nat} {p : Nat → Nat} {σ τ : ttS} (h : xTree N p σ τ) (tg : Int32) (n : Nat) : ∀ ρ : ttS, n ≤ N → (∀ k, k ≠ 15 → ρ k = σ k) → (∀ x, x < n → (¬ ρ 15 x = 0 ↔ xOpn N p τ x)) → (∀ x, n ≤ x → x < N → (¬ ρ 15 x = 0 ↔ yPart N τ tg x)) → ∀ x, x < N → (¬ xCh2 tg n ρ 15 x = 0 ↔ yPart N τ tg x) := by
  have h24 := h.1.2.2.1
  induction n with
  | zero => intro ρ _ _ _ g x hx; exact g x (by omega) hx
  | succ n ih =>
    intro ρ hn hk g1 g2
    rw [xCh2]
    refine ih (xChN tg ρ n) (by omega) (fun k q => by unfold xChN; rw [ttU_ne _ _ _ q, hk k q]) (fun x hx => ?_) (fun x hx hx2 => ?_)
    · unfold xChN
      rw [tt_ap, if_neg (by omega)]
      exact g1 x (by omega)
    · unfold xChN
      rw [tt_ap]
      simp only [true_and]
      by_cases z : x = n
      · subst z
        rw [if_pos rfl, hk 1 (by decide), h.2.2.2.2.1 x (by omega)]
        have ho := g1 x (by omega)
        by_cases t : τ 1 x = 0
        · rw [if_pos t, yPart_cont h tg hx2 t, ← ho]
          have hc := xChild_spec h (hk 3 (by decide)) (hk 5 (by decide)) hx2
          have hc2 : (∃ y, 0 < y ∧ y < N ∧ p y = x ∧ ¬ ρ 15 y = 0) ↔ ∃ y, 0 < y ∧ y < N ∧ p y = x ∧ yPart N τ tg y := by
            constructor
            · rintro ⟨y, y0, y1, y2, y3⟩
              have := (h.1.2.2.2.1 y y0 y1).1
              exact ⟨y, y0, y1, y2, (g2 y (by omega) y1).mp y3⟩
            · rintro ⟨y, y0, y1, y2, y3⟩
              have := (h.1.2.2.2.1 y y0 y1).1
              exact ⟨y, y0, y1, y2, (g2 y (by omega) y1).mpr y3⟩
          rw [← hc2, ← hc]
          by_cases a : ρ 15 x = 0
          · rw [if_pos a]; simp [a]
          · rw [if_neg a]
            by_cases b : xChild ρ x = 0
            · rw [if_pos b]; simp [b]
            · rw [if_neg b]; simp [a, b]
        · rw [if_neg t, yPart_test h tg hx2 t, ← ho, hk 9 (by decide)]
          by_cases a : ρ 15 x = 0
          · rw [if_pos a]; simp [a]
          · rw [if_neg a]
            by_cases b : σ 9 x &&& tg = 0
            · rw [if_pos b]; simp [b]
            · rw [if_neg b]; simp [a, b]
      · rw [if_neg z]
        exact g2 x (by omega) hx2
theorem xChoose_spec {N : Nat} {p : Nat → Nat} {σ τ : ttS} (h : xTree N p σ τ) (tg : Int32) {x : Nat} (hx : x < N) : ¬ xChoose σ N tg 15 x = 0 ↔ yPart N τ tg x := by
  unfold xChoose
  exact xCh2_spec h tg N (xCh1 σ N) (Nat.le_refl N) (fun k q => xCh1_k σ N q) (xCh1_spec h N (Nat.le_refl N)) (fun y h1 h2 => by omega) x hx
end
section
/-! one test: its attempts -/
/-- the open containers, from the root down to q -/
def xPW (N : Nat) (p : Nat → Nat) (d : Nat) (w : Nat → Nat) (q : Nat) : Prop := 0 < d ∧ w 0 = 0 ∧ w (d - 1) = q ∧ (∀ i, i < d → w i < N) ∧ ∀ i, i + 1 < d → 0 < w (i + 1) ∧ p (w (i + 1)) = w i
theorem xPW_AB {N : Nat} {p : Nat → Nat} {d : Nat} {w : Nat → Nat} {q : Nat} (hp : ∀ j, 0 < j → j < N → p j < j) (h : xPW N p d w q) (c : Nat) (i : Nat) : i < d → (AB p c (w i) ↔ ∃ k, k < i ∧ c = w k) := by
  obtain ⟨h0, h1, h2, h3, h4⟩ := h
  induction i with
  | zero =>
    intro _
    rw [h1]
    exact ⟨fun a => absurd a AB_0, fun ⟨k, a, _⟩ => by omega⟩
  | succ i ih =>
    intro hi
    obtain ⟨a, b⟩ := h4 i hi
    have hlt := hp (w (i + 1)) a (h3 _ hi)
    rw [AB_iff a hlt, b, ih (by omega)]
    constructor
    · rintro (e | ⟨k, k1, k2⟩)
      · exact ⟨i, by omega, e.symm⟩
      · exact ⟨k, by omega, k2⟩
    · rintro ⟨k, k1, k2⟩
      rcases Nat.eq_or_lt_of_le (Nat.lt_succ_iff.mp k1) with e | e
      · rw [e] at k2; exact Or.inl k2.symm
      · exact Or.inr ⟨k, e, k2⟩
theorem xPW_x {N : Nat} {p : Nat → Nat} {d : Nat} {w : Nat → Nat} {q x : Nat} (hp : ∀ j, 0 < j → j < N → p j < j) (h : xPW N p d w q) (h0 : 0 < x) (hx : x < N) (hq : p x = q) (c : Nat) : AB p c x ↔ ∃ k, k < d ∧ c = w k := by
  have hd := h.1
  rw [AB_iff h0 (hp x h0 hx), hq, ← h.2.2.1, xPW_AB hp h c (d - 1) (by omega)]
  constructor
  · rintro (e | ⟨k, k1, k2⟩)
    · exact ⟨d - 1, by omega, e.symm⟩
    · exact ⟨k, by omega, k2⟩
  · rintro ⟨k, k1, k2⟩
    rcases Nat.eq_or_lt_of_le (show k ≤ d - 1 by omega) with e | e
    · rw [e] at k2; exact Or.inl k2.symm
    · exact Or.inr ⟨k, e, k2⟩
theorem xPW_lt {N : Nat} {p : Nat → Nat} {d : Nat} {w : Nat → Nat} {q : Nat} (hp : ∀ j, 0 < j → j < N → p j < j) (h : xPW N p d w q) {i k : Nat} (hk : k < d) (hik : i < k) : w i < w k := AB_lt _ ((xPW_AB hp h (w i) k hk).mpr ⟨i, hik, rfl⟩)
theorem xPW_inj {N : Nat} {p : Nat → Nat} {d : Nat} {w : Nat → Nat} {q : Nat} (hp : ∀ j, 0 < j → j < N → p j < j) (h : xPW N p d w q) {i k : Nat} (hi : i < d) (hk : k < d) (e : w i = w k) : i = k := by
  rcases Nat.lt_trichotomy i k with a | a | a
  · have := xPW_lt hp h hk a; omega
  · exact a
  · have := xPW_lt hp h hi a; omega
theorem xPW_le {N : Nat} {p : Nat → Nat} {d : Nat} {w : Nat → Nat} {q : Nat} (hp : ∀ j, 0 < j → j < N → p j < j) (h : xPW N p d w q) (i : Nat) : i < d → i ≤ w i := by
  induction i with
  | zero => intro _; omega
  | succ i ih =>
    intro hi
    have := xPW_lt hp h hi (Nat.lt_succ_self i)
    have := ih (by omega)
    omega
/-- the hooks of the state are the reference's -/
def xHs (τ ρ : ttS) : Prop := ∀ j, j < 96 → ρ 6 j = τ 4 j ∧ ∃ q : Nat, q ≤ 3 ∧ τ 4 j = nI q
theorem xHs_val {τ ρ : ttS} (h : xHs τ ρ) {j : Nat} (hj : j < 96) : τ 4 j = 0 ∨ τ 4 j = 1 ∨ τ 4 j = 2 ∨ τ 4 j = 3 := by
  obtain ⟨-, q, hq, e⟩ := h j hj
  rw [e]
  rcases (show q = 0 ∨ q = 1 ∨ q = 2 ∨ q = 3 by omega) with rfl | rfl | rfl | rfl
  · exact Or.inl rfl
  · exact Or.inr (Or.inl rfl)
  · exact Or.inr (Or.inr (Or.inl rfl))
  · exact Or.inr (Or.inr (Or.inr rfl))
theorem xHk_spec {τ ρ : ttS} (h : xHs τ ρ) {k v c : Nat} (e : ρ 17 k = nI c) (hc : c < 24) (hv : v < 4) : xHk ρ k v 18 0 = xW (ρ 18 0) (τ 4 (c * 4 + v)) ∧ ∀ j, xHk ρ k v 12 j = ρ 12 j + nI (if j = c * 4 + v ∧ ¬ τ 4 (c * 4 + v) = 0 then 1 else 0) := by
  have e6 := (h (c * 4 + v) (by omega)).1
  unfold xHk
  rw [e, nI_clamp (by omega), e6]
  constructor
  · unfold xNote
    rw [tt_ap, xCar_k _ _ _ (by decide) (by decide)]
    simp
  · intro j
    rw [xNote_k _ _ (by decide)]
    unfold xCar
    rw [e6]
    by_cases z : τ 4 (c * 4 + v) = 0
    · rw [if_pos z, if_neg (fun q => q.2 z)]
      show ρ 12 j = ρ 12 j + 0
      rw [Int32.add_zero]
    · rw [if_neg z]
      by_cases y : j = c * 4 + v
      · rw [if_pos ⟨y, z⟩, tt_ap, if_neg (by simp), tt_ap, if_pos ⟨rfl, y⟩, y]; rfl
      · rw [if_neg (fun q => y q.1), tt_ap, if_neg (by simp), tt_ap, if_neg (fun q => y q.2)]
        show ρ 12 j = ρ 12 j + 0
        rw [Int32.add_zero]
/-- how an attempt stands: failed if something failed, else aborted if something aborted, else passed -/
def xStd (s : Int32) (P Q : Prop) : Prop := (P → s = 2) ∧ (¬ P → Q → s = 3) ∧ (¬ P → ¬ Q → s = 1)
theorem xStd_c {s : Int32} {P Q P' Q' : Prop} (h : xStd s P Q) (hP : P ↔ P') (hQ : Q ↔ Q') : xStd s P' Q' := by
  unfold xStd
  rw [← hP, ← hQ]
  exact h
theorem xStd_note {s : Int32} {P Q : Prop} (h : xStd s P Q) (o : Int32) : xStd (xW s o) (P ∨ o = 2) (Q ∨ o = 3) := by
  obtain ⟨h1, h2, h3⟩ := h
  unfold xW
  refine ⟨fun hp => ?_, fun hp hq => ?_, fun hp hq => ?_⟩
  · rcases hp with a | a
    · rw [if_pos (h1 a)]
    · by_cases z : s = 2
      · rw [if_pos z]
      · rw [if_neg z, if_pos a]
  · have np : ¬ P := fun a => hp (Or.inl a)
    have no : ¬ o = 2 := fun a => hp (Or.inr a)
    by_cases q : Q
    · have := h2 np q
      rw [if_neg (by rw [this]; decide), if_neg no, if_pos this]
    · have := h3 np q
      rw [if_neg (by rw [this]; decide), if_neg no, if_neg (by rw [this]; decide)]
      rcases hq with a | a
      · exact absurd a q
      · rw [if_pos a]
  · have np : ¬ P := fun a => hp (Or.inl a)
    have no : ¬ o = 2 := fun a => hp (Or.inr a)
    have nq : ¬ Q := fun a => hq (Or.inl a)
    have no3 : ¬ o = 3 := fun a => hq (Or.inr a)
    have := h3 np nq
    rw [if_neg (by rw [this]; decide), if_neg no, if_neg (by rw [this]; decide), if_neg no3]
theorem xStd_out {s : Int32} {P Q : Prop} (h : xStd s P Q) {a b : Int32} (ha : ¬ a = 0 ↔ P) (hb : ¬ b = 0 ↔ Q) : s = if a = 0 then (if b = 0 then 1 else 3) else 2 := by
  obtain ⟨h1, h2, h3⟩ := h
  by_cases z : a = 0
  · rw [if_pos z]
    have np : ¬ P := fun q => (ha.mpr q) z
    by_cases y : b = 0
    · rw [if_pos y]; exact h3 np (fun q => (hb.mpr q) y)
    · rw [if_neg y]; exact h2 np (hb.mp y)
  · rw [if_neg z]; exact h1 (ha.mp z)
theorem xDown_stop {ρ : ttS} (h : ¬ ρ 18 0 = 1) (f k : Nat) : xDown f k ρ = (k, ρ) := by
  cases f with
  | zero => rfl
  | succ f => rw [xDown, if_neg h]
theorem sN_from (g : Nat → Nat) {k D : Nat} (h : k < D) : sN D (fun i => if k ≤ i then g i else 0) = g k + sN D (fun i => if k + 1 ≤ i then g i else 0) := by
  have e : sN D (fun i => if k ≤ i then g i else 0) = sN D (fun i => (if i = k then g k else 0) + (if k + 1 ≤ i then g i else 0)) := by
    refine sN_c D (fun x _ => ?_)
    show (if k ≤ x then g x else 0) = (if x = k then g k else 0) + (if k + 1 ≤ x then g x else 0)
    rcases Nat.lt_trichotomy x k with a | a | a
    · rw [if_neg (by omega), if_neg (by omega), if_neg (by omega)]
    · rw [if_pos (by omega), if_pos a, if_neg (by omega), a]; omega
    · rw [if_pos (by omega), if_neg (by omega), if_pos (by omega)]; omega
  rw [e, sN_add, sN_1 (c := k) D h (fun x _ hx => by show (if x = k then g k else 0) = 0; rw [if_neg hx])]
  show (if k = k then g k else 0) + _ = _
  rw [if_pos rfl]
theorem tt_c01 {a : Int32} (h : a = 0 ∨ a = 1 ∨ a = 2 ∨ a = 3) : (a ≤ 1 ∧ xW 1 a = 1 ∧ ¬ a = 2 ∧ ¬ a = 3) ∨ (¬ a ≤ 1 ∧ xW 1 a = a ∧ ¬ a = 1 ∧ (a = 2 ∨ a = 3)) := by
  rcases h with rfl | rfl | rfl | rfl
  · exact Or.inl ⟨by decide, by decide, by decide, by decide⟩
  · exact Or.inl ⟨by decide, by decide, by decide, by decide⟩
  · exact Or.inr ⟨by decide, by decide, by decide, by decide⟩
  · exact Or.inr ⟨by decide, by decide, by decide, by decide⟩
/-- how often the hook v of an open container below the number D is counted at the place j -/
def xG (τ : ttS) (w : Nat → Nat) (v j i : Nat) : Nat := if j = w i * 4 + v ∧ ¬ τ 4 (w i * 4 + v) = 0 then 1 else 0
theorem xDown_spec {τ : ttS} {d : Nat} {w : Nat → Nat} (hw24 : ∀ i, i < d → w i < 24) (f : Nat) : ∀ (k : Nat) (ρ : ttS), k + f = d → xHs τ ρ → (∀ i, i < d → ρ 17 i = nI (w i)) → ρ 18 0 = 1 →
    (k ≤ (xDown f k ρ).1 ∧ (xDown f k ρ).1 ≤ d) ∧ (∀ i, k ≤ i → i < d → (i < (xDown f k ρ).1 ↔ ∀ i', k ≤ i' → i' < i → τ 4 (w i' * 4 + 2) ≤ 1)) ∧ ((xDown f k ρ).2 18 0 = 1 ↔ ∀ i, k ≤ i → i < d → τ 4 (w i * 4 + 2) ≤ 1) ∧ xStd ((xDown f k ρ).2 18 0) (∃ i, k ≤ i ∧ i < (xDown f k ρ).1 ∧ τ 4 (w i * 4 + 2) = 2) (∃ i, k ≤ i ∧ i < (xDown f k ρ).1 ∧ τ 4 (w i * 4 + 2) = 3) ∧ ∀ j, (xDown f k ρ).2 12 j = ρ 12 j + nI (sN (xDown f k ρ).1 (fun i => if k ≤ i then xG τ w 2 j i else 0)) := by
  induction f with
  | zero =>
    intro k ρ hk hH hw h1
    show (k ≤ k ∧ k ≤ d) ∧ (∀ i, k ≤ i → i < d → (i < k ↔ _)) ∧ (ρ 18 0 = 1 ↔ _) ∧ xStd (ρ 18 0) (∃ i, k ≤ i ∧ i < k ∧ _) (∃ i, k ≤ i ∧ i < k ∧ _) ∧ ∀ j, ρ 12 j = ρ 12 j + nI (sN k _)
    refine ⟨⟨Nat.le_refl k, by omega⟩, fun i a b => by omega, ⟨fun _ i a b => by omega, fun _ => h1⟩, ⟨fun ⟨i, a, b, _⟩ => by omega, fun _ ⟨i, a, b, _⟩ => by omega, fun _ _ => h1⟩, fun j => ?_⟩
    rw [sN_0 k (fun x hx => by show (if k ≤ x then _ else 0) = 0; rw [if_neg (by omega)])]
    show ρ 12 j = ρ 12 j + 0
    rw [Int32.add_zero]
  | succ f ih =>
    intro k ρ hk hH hw h1
    have hkd : k < d := by omega
    obtain ⟨n18, n12⟩ := xHk_spec hH (v := 2) (hw k hkd) (hw24 k hkd) (by decide)
    have hval := xHs_val hH (j := w k * 4 + 2) (by have := hw24 k hkd; omega)
    rw [h1] at n18
    have e : xDown (f + 1) k ρ = xDown f (k + 1) (xHk ρ k 2) := by rw [xDown, if_pos h1]
    rw [e]
    rcases tt_c01 hval with ⟨o1, o2, o3, o4⟩ | ⟨o1, o2, o3, o4⟩
    · rw [o2] at n18
      obtain ⟨⟨a1, a2⟩, b, c, dd, g⟩ := ih (k + 1) (xHk ρ k 2) (by omega) (fun j hj => by rw [xHk_k _ _ _ (by decide) (by decide) (by decide)]; exact hH j hj) (fun i hi => by rw [xHk_k _ _ _ (by decide) (by decide) (by decide)]; exact hw i hi) n18
      refine ⟨⟨by omega, a2⟩, fun i i1 i2 => ?_, ?_, ?_, fun j => ?_⟩
      · rcases Nat.eq_or_lt_of_le i1 with q | q
        · subst q
          exact ⟨fun _ i' a b => by omega, fun _ => by omega⟩
        · rw [b i q i2]
          constructor
          · intro z i' z1 z2
            rcases Nat.eq_or_lt_of_le z1 with y | y
            · rw [← y]; exact o1
            · exact z i' y z2
          · intro z i' z1 z2
            exact z i' (by omega) z2
      · rw [c]
        constructor
        · intro z i z1 z2
          rcases Nat.eq_or_lt_of_le z1 with y | y
          · rw [← y]; exact o1
          · exact z i y z2
        · intro z i z1 z2
          exact z i (by omega) z2
      · refine xStd_c dd ⟨fun ⟨i, i1, i2, i3⟩ => ⟨i, by omega, i2, i3⟩, fun ⟨i, i1, i2, i3⟩ => ?_⟩ ⟨fun ⟨i, i1, i2, i3⟩ => ⟨i, by omega, i2, i3⟩, fun ⟨i, i1, i2, i3⟩ => ?_⟩
        · rcases Nat.eq_or_lt_of_le i1 with y | y
          · rw [← y] at i3; exact absurd i3 o3
          · exact ⟨i, y, i2, i3⟩
        · rcases Nat.eq_or_lt_of_le i1 with y | y
          · rw [← y] at i3; exact absurd i3 o4
          · exact ⟨i, y, i2, i3⟩
      · rw [g, n12, sN_from (xG τ w 2 j) (show k < _ by omega), Int32.add_assoc, nI_add]
        rfl
    · rw [o2] at n18
      rw [xDown_stop (by rw [n18]; exact o3)]
      show (k ≤ k + 1 ∧ k + 1 ≤ d) ∧ (∀ i, k ≤ i → i < d → (i < k + 1 ↔ _)) ∧ (xHk ρ k 2 18 0 = 1 ↔ _) ∧ xStd (xHk ρ k 2 18 0) (∃ i, k ≤ i ∧ i < k + 1 ∧ _) (∃ i, k ≤ i ∧ i < k + 1 ∧ _) ∧ ∀ j, xHk ρ k 2 12 j = ρ 12 j + nI (sN (k + 1) _)
      refine ⟨⟨by omega, by omega⟩, fun i i1 i2 => ⟨fun z i' z1 z2 => by omega, fun z => ?_⟩, ⟨fun z => ?_, fun z => absurd (z k (Nat.le_refl k) hkd) o1⟩, ⟨fun ⟨i, i1, i2, i3⟩ => ?_, fun np ⟨i, i1, i2, i3⟩ => ?_, fun np nq => ?_⟩, fun j => ?_⟩
      · rcases Nat.eq_or_lt_of_le i1 with y | y
        · omega
        · exact absurd (z k (Nat.le_refl k) y) o1
      · rw [n18] at z; exact absurd z o3
      · rw [show i = k by omega] at i3; rw [n18]; exact i3
      · rw [show i = k by omega] at i3; rw [n18]; exact i3
      · rcases o4 with q | q
        · exact absurd ⟨k, Nat.le_refl k, by omega, q⟩ np
        · exact absurd ⟨k, Nat.le_refl k, by omega, q⟩ nq
      · rw [n12, sN_from (xG τ w 2 j) (Nat.lt_succ_self k), sN_0 (k + 1) (fun x hx => by show (if k + 1 ≤ x then _ else 0) = 0; rw [if_neg (by omega)])]
        rfl
theorem xUpL_spec {τ : ttS} {d : Nat} {w : Nat → Nat} (hw24 : ∀ i, i < d → w i < 24) (D : Nat) : ∀ (ρ : ttS) (P Q : Prop), D ≤ d → xHs τ ρ → (∀ i, i < d → ρ 17 i = nI (w i)) → xStd (ρ 18 0) P Q → xStd (xUpL D ρ 18 0) (P ∨ ∃ i, i < D ∧ τ 4 (w i * 4 + 3) = 2) (Q ∨ ∃ i, i < D ∧ τ 4 (w i * 4 + 3) = 3) ∧ ∀ j, xUpL D ρ 12 j = ρ 12 j + nI (sN D (xG τ w 3 j)) := by
  induction D with
  | zero =>
    intro ρ P Q _ _ _ h
    refine ⟨xStd_c h ⟨Or.inl, fun z => by rcases z with z | ⟨i, a, _⟩ <;> first | exact z | omega⟩ ⟨Or.inl, fun z => by rcases z with z | ⟨i, a, _⟩ <;> first | exact z | omega⟩, fun j => ?_⟩
    show ρ 12 j = ρ 12 j + 0
    rw [Int32.add_zero]
  | succ D ih =>
    intro ρ P Q hD hH hw h
    obtain ⟨n18, n12⟩ := xHk_spec hH (v := 3) (hw D (by omega)) (hw24 D (by omega)) (by decide)
    have h2 := xStd_note h (τ 4 (w D * 4 + 3))
    rw [← n18] at h2
    obtain ⟨a, b⟩ := ih (xHk ρ D 3) _ _ (by omega) (fun j hj => by rw [xHk_k _ _ _ (by decide) (by decide) (by decide)]; exact hH j hj) (fun i hi => by rw [xHk_k _ _ _ (by decide) (by decide) (by decide)]; exact hw i hi) h2
    have key : ∀ (P : Prop) (o : Int32), ((P ∨ τ 4 (w D * 4 + 3) = o) ∨ ∃ i, i < D ∧ τ 4 (w i * 4 + 3) = o) ↔ (P ∨ ∃ i, i < D + 1 ∧ τ 4 (w i * 4 + 3) = o) := by
      intro P o
      constructor
      · rintro ((z | z) | ⟨i, i1, i2⟩)
        · exact Or.inl z
        · exact Or.inr ⟨D, by omega, z⟩
        · exact Or.inr ⟨i, by omega, i2⟩
      · rintro (z | ⟨i, i1, i2⟩)
        · exact Or.inl (Or.inl z)
        · rcases Nat.eq_or_lt_of_le (Nat.lt_succ_iff.mp i1) with y | y
          · rw [y] at i2; exact Or.inl (Or.inr i2)
          · exact Or.inr ⟨i, y, i2⟩
    rw [xUpL]
    refine ⟨xStd_c a (key P 2) (key Q 3), fun j => ?_⟩
    rw [b, n12, sN, Int32.add_assoc, nI_add, Nat.add_comm]
    rfl
theorem xBod_spec {τ ρ : ttS} {t i : Nat} (h : ρ 8 t = τ 6 t ∨ (ρ 8 t = 1 ∧ τ 6 t = 0)) (hi : i < 4) : (xBod ρ t i = 2 ↔ yOwn τ t i = 2) ∧ (xBod ρ t i = 3 ↔ yOwn τ t i = 3) := by
  unfold xBod yOwn
  rcases h with e | ⟨e1, e2⟩
  · rw [e]
    generalize (τ 6 t) >>> ((2 * nI i) &&& 31) &&& 3 = a
    by_cases z : a = 0
    · rw [if_pos z, z]; decide
    · rw [if_neg z]; exact ⟨Iff.rfl, Iff.rfl⟩
  · rw [e1, e2]
    rcases (show i = 0 ∨ i = 1 ∨ i = 2 ∨ i = 3 by omega) with rfl | rfl | rfl | rfl <;> decide
end
section
/-! one attempt whole, and all attempts of a test -/
noncomputable def ind (P : Prop) : Nat := @ite Nat P (Classical.propDecidable P) 1 0
theorem ind_1 {P : Prop} (h : P) : ind P = 1 := @if_pos P (Classical.propDecidable P) h Nat 1 0
theorem ind_0 {P : Prop} (h : ¬ P) : ind P = 0 := @if_neg P (Classical.propDecidable P) h Nat 1 0
theorem ind_c {P Q : Prop} (h : P ↔ Q) : ind P = ind Q := by rw [propext h]
theorem ind_or {P Q : Prop} (h : ¬ (P ∧ Q)) : ind (P ∨ Q) = ind P + ind Q := by
  by_cases a : P
  · rw [ind_1 a, ind_1 (Or.inl a), ind_0 (fun b => h ⟨a, b⟩)]
  · by_cases b : Q
    · rw [ind_0 a, ind_1 b, ind_1 (Or.inr b)]
    · rw [ind_0 a, ind_0 b, ind_0 (fun z => z.elim a b)]
theorem ind_le (P : Prop) : ind P ≤ 1 := by
  by_cases a : P
  · rw [ind_1 a]; exact Nat.le_refl 1
  · rw [ind_0 a]; exact Nat.zero_le 1
theorem nI_add0 (a : Int32) : a + nI 0 = a := Int32.add_zero a
/-- what one attempt at the test t counts at the place v of c -/
noncomputable def yE1 (τ : ttS) (N : Nat) (p : Nat → Nat) (t c v : Nat) : Nat := ind ((c = t ∧ v = 0 ∧ ¬ yPas τ N t 2 = 0) ∨ (AB p c t ∧ 2 ≤ v ∧ ¬ yPas τ N c 2 = 0 ∧ ¬ τ 4 (c * 4 + v) = 0))
theorem xG_sum {N : Nat} {p : Nat → Nat} {τ : ttS} {d : Nat} {w : Nat → Nat} {q t : Nat} (hy : yTree N p τ) (h : xPW N p d w q) (h0 : 0 < t) (ht : t < N) (hq : p t = q) {D : Nat} (hD : D ≤ d) (hDi : ∀ i, i < d → (i < D ↔ ¬ yPas τ N (w i) 2 = 0)) {u v : Nat} (hu : u < 4) (hv : v < 4) (c : Nat) : sN D (xG τ w u (c * 4 + v)) = ind (AB p c t ∧ v = u ∧ ¬ yPas τ N c 2 = 0 ∧ ¬ τ 4 (c * 4 + v) = 0) := by
  have hp := hy.2.1
  by_cases z : AB p c t ∧ v = u ∧ ¬ yPas τ N c 2 = 0 ∧ ¬ τ 4 (c * 4 + v) = 0
  · rw [ind_1 z]
    obtain ⟨z1, z2, z3, z4⟩ := z
    obtain ⟨k, k1, k2⟩ := (xPW_x hp h h0 ht hq c).mp z1
    have kD : k < D := (hDi k k1).mpr (by rw [← k2]; exact z3)
    rw [sN_1 (c := k) D kD (fun x hx hne => ?_)]
    · unfold xG
      rw [if_pos ⟨by rw [k2, z2], by rw [← k2, ← z2]; exact z4⟩]
    · unfold xG
      rw [if_neg (fun e => hne (xPW_inj hp h (by omega) k1 (by have := e.1; omega)))]
  · rw [ind_0 z]
    refine sN_0 D (fun x hx => ?_)
    unfold xG
    refine if_neg (fun e => z ?_)
    obtain ⟨e1, e2⟩ := e
    have ec : c = w x := by omega
    have ev : v = u := by omega
    refine ⟨(xPW_x hp h h0 ht hq c).mpr ⟨x, by omega, ec⟩, ev, ?_, ?_⟩
    · rw [ec]; exact (hDi x (by omega)).mp hx
    · rw [ec, ev]; exact e2
theorem xAtt2_spec {ρ : ttS} {t i : Nat} (z : ρ 18 0 = 1) : xAtt2 ρ t i 18 0 = xW (ρ 18 0) (xBod ρ t i) ∧ ∀ j, xAtt2 ρ t i 12 j = ρ 12 j + nI (if j = t * 4 then 1 else 0) := by
  unfold xAtt2
  rw [if_pos z]
  constructor
  · unfold xNote
    rw [tt_ap, if_pos ⟨rfl, rfl⟩, ttU_ne _ _ _ (by decide), ttU_ne _ _ _ (by decide)]
  · intro j
    rw [xNote_k _ _ (by decide), ttU_ne _ _ _ (by decide), tt_ap]
    by_cases q : j = t * 4
    · rw [if_pos ⟨rfl, q⟩, if_pos q, q]; rfl
    · rw [if_neg (fun e => q e.2), if_neg q, nI_add0]
theorem xAttS_spec {N : Nat} {p : Nat → Nat} {τ ρ : ttS} {d : Nat} {w : Nat → Nat} {q t i : Nat} (hy : yTree N p τ) (h : xPW N p d w q) (h0 : 0 < t) (ht : t < N) (hq : p t = q) (hH : xHs τ ρ) (hw : ∀ i, i < d → ρ 17 i = nI (w i)) (ho : ρ 8 t = τ 6 t ∨ (ρ 8 t = 1 ∧ τ 6 t = 0)) (hi : i < 4) : xAttS ρ d t i 18 0 = yOut τ N t i ∧ ∀ c v, c < 24 → v < 4 → xAttS ρ d t i 12 (c * 4 + v) = ρ 12 (c * 4 + v) + nI (yE1 τ N p t c v) := by
  have h24 := hy.1
  have hp := hy.2.1
  have hwN := h.2.2.2.1
  have hw24 : ∀ i, i < d → w i < 24 := fun i hi => by have := hwN i hi; omega
  obtain ⟨⟨-, a2⟩, b, c, s, g⟩ := xDown_spec (τ := τ) hw24 d 0 (ttU ρ 18 0 1) (by omega) (fun j hj => by rw [ttU_ne _ _ _ (by decide)]; exact hH j hj) (fun i hi => by rw [ttU_ne _ _ _ (by decide)]; exact hw i hi) (by rw [tt_ap, if_pos ⟨rfl, rfl⟩])
  have kk : ∀ {k : Nat}, k ≠ 12 → k ≠ 14 → k ≠ 18 → (xDown d 0 (ttU ρ 18 0 1)).2 k = ρ k := fun h1 h2 h3 => by rw [xDown_k _ _ _ h1 h2 h3, ttU_ne _ _ _ h3]
  have g' : ∀ j, (xDown d 0 (ttU ρ 18 0 1)).2 12 j = ρ 12 j + nI (sN (xDown d 0 (ttU ρ 18 0 1)).1 (xG τ w 2 j)) := by
    intro j
    rw [g j, ttU_ne _ _ _ (by decide)]
    congr 2
  clear g
  unfold xAttS
  revert a2 b c s g' kk
  generalize (xDown d 0 (ttU ρ 18 0 1)).1 = D
  generalize (xDown d 0 (ttU ρ 18 0 1)).2 = ρ1
  intro a2 b c s kk g
  have hDi : ∀ i, i < d → (i < D ↔ ¬ yPas τ N (w i) 2 = 0) := by
    intro i hi
    rw [b i (Nat.zero_le i) hi, yPas_spec hy 2 (hwN i hi)]
    constructor
    · intro z k hk hab
      obtain ⟨m, m1, m2⟩ := (xPW_AB hp h k i hi).mp hab
      rw [m2]
      exact z m (Nat.zero_le m) m1
    · intro z i' _ hi'
      exact z (w i') (hwN i' (by omega)) ((xPW_AB hp h (w i') i hi).mpr ⟨i', hi', rfl⟩)
  have hst : ρ1 18 0 = 1 ↔ ¬ yPas τ N t 2 = 0 := by
    rw [c, yPas_spec hy 2 ht]
    constructor
    · intro z k hk hab
      obtain ⟨m, m1, m2⟩ := (xPW_x hp h h0 ht hq k).mp hab
      rw [m2]
      exact z m (Nat.zero_le m) m1
    · intro z i' _ hi'
      exact z (w i') (hwN i' hi') ((xPW_x hp h h0 ht hq (w i')).mpr ⟨i', hi', rfl⟩)
  have ho1 : ρ1 8 t = τ 6 t ∨ (ρ1 8 t = 1 ∧ τ 6 t = 0) := by
    rw [kk (k := 8) (by decide) (by decide) (by decide)]; exact ho
  obtain ⟨bo2, bo3⟩ := xBod_spec (i := i) ho1 hi
  have mid : xStd (xAtt2 ρ1 t i 18 0) ((∃ i, 0 ≤ i ∧ i < D ∧ τ 4 (w i * 4 + 2) = 2) ∨ (yOwn τ t i = 2 ∧ ¬ yPas τ N t 2 = 0)) ((∃ i, 0 ≤ i ∧ i < D ∧ τ 4 (w i * 4 + 2) = 3) ∨ (yOwn τ t i = 3 ∧ ¬ yPas τ N t 2 = 0)) ∧ ∀ j, xAtt2 ρ1 t i 12 j = ρ1 12 j + nI (ind (j = t * 4 ∧ ¬ yPas τ N t 2 = 0)) := by
    by_cases z : ρ1 18 0 = 1
    · have zp := hst.mp z
      obtain ⟨e18, e12⟩ := xAtt2_spec (t := t) (i := i) z
      constructor
      · rw [e18]
        exact xStd_c (xStd_note s (xBod ρ1 t i)) ⟨fun o => o.elim Or.inl (fun o => Or.inr ⟨bo2.mp o, zp⟩), fun o => o.elim Or.inl (fun o => Or.inr (bo2.mpr o.1))⟩ ⟨fun o => o.elim Or.inl (fun o => Or.inr ⟨bo3.mp o, zp⟩), fun o => o.elim Or.inl (fun o => Or.inr (bo3.mpr o.1))⟩
      · intro j
        rw [e12 j]
        by_cases y : j = t * 4
        · rw [if_pos y, ind_1 ⟨y, zp⟩]
        · rw [if_neg y, ind_0 (fun e => y e.1)]
    · have zp : ¬ ¬ yPas τ N t 2 = 0 := fun e => z (hst.mpr e)
      have e : xAtt2 ρ1 t i = ρ1 := by unfold xAtt2; rw [if_neg z]
      rw [e]
      refine ⟨xStd_c s ⟨Or.inl, fun o => o.elim id (fun o => absurd o.2 zp)⟩ ⟨Or.inl, fun o => o.elim id (fun o => absurd o.2 zp)⟩, fun j => ?_⟩
      rw [ind_0 (fun e => zp e.2), nI_add0]
  obtain ⟨m18, m12⟩ := mid
  have k2 : ∀ {k : Nat}, k ≠ 12 → k ≠ 14 → k ≠ 18 → xAtt2 ρ1 t i k = ρ k := fun h1 h2 h3 => by rw [xAtt2_k _ _ _ h1 h2 h3, kk h1 h2 h3]
  obtain ⟨u18, u12⟩ := xUpL_spec (τ := τ) hw24 D (xAtt2 ρ1 t i) _ _ a2 (fun j hj => by rw [k2 (by decide) (by decide) (by decide)]; exact hH j hj) (fun i hi => by rw [k2 (by decide) (by decide) (by decide)]; exact hw i hi) m18
  have key : ∀ o : Int32, ¬ yHas τ N t (yOwn τ t i) o = 0 ↔ (((∃ i, 0 ≤ i ∧ i < D ∧ τ 4 (w i * 4 + 2) = o) ∨ (yOwn τ t i = o ∧ ¬ yPas τ N t 2 = 0)) ∨ ∃ i, i < D ∧ τ 4 (w i * 4 + 3) = o) := by
    intro o
    rw [yHas_spec hy ht]
    constructor
    · rintro (⟨k, k1, k2, k3, k4⟩ | e)
      · obtain ⟨m, m1, m2⟩ := (xPW_x hp h h0 ht hq k).mp k2
        rw [m2] at k3 k4
        have mD := (hDi m m1).mpr k3
        rcases k4 with k4 | k4
        · exact Or.inl (Or.inl ⟨m, Nat.zero_le m, mD, k4⟩)
        · exact Or.inr ⟨m, mD, k4⟩
      · exact Or.inl (Or.inr e)
    · rintro ((⟨m, -, mD, e⟩ | e) | ⟨m, mD, e⟩)
      · exact Or.inl ⟨w m, hwN m (by omega), (xPW_x hp h h0 ht hq (w m)).mpr ⟨m, by omega, rfl⟩, (hDi m (by omega)).mp mD, Or.inl e⟩
      · exact Or.inr e
      · exact Or.inl ⟨w m, hwN m (by omega), (xPW_x hp h h0 ht hq (w m)).mpr ⟨m, by omega, rfl⟩, (hDi m (by omega)).mp mD, Or.inr e⟩
  constructor
  · unfold yOut
    exact xStd_out u18 (key 2) (key 3)
  · intro c v hc hv
    rw [u12, m12, g, xG_sum hy h h0 ht hq a2 hDi (by decide) hv, xG_sum hy h h0 ht hq a2 hDi (by decide) hv, Int32.add_assoc, Int32.add_assoc, nI_add, nI_add]
    have e : yE1 τ N p t c v = ind (AB p c t ∧ v = 2 ∧ ¬ yPas τ N c 2 = 0 ∧ ¬ τ 4 (c * 4 + v) = 0) + (ind (c * 4 + v = t * 4 ∧ ¬ yPas τ N t 2 = 0) + ind (AB p c t ∧ v = 3 ∧ ¬ yPas τ N c 2 = 0 ∧ ¬ τ 4 (c * 4 + v) = 0)) := by
      rw [← ind_or (fun e => by have := e.1.1; have := e.2.2.1; omega), ← ind_or (fun e => by
        rcases e.2 with z | z
        · have := e.1.2.1; have := z.1; omega
        · have := e.1.2.1; have := z.2.1; omega)]
      unfold yE1
      refine ind_c ⟨?_, ?_⟩
      · rintro (⟨e1, e2, e3⟩ | ⟨e1, e2, e3⟩)
        · exact Or.inr (Or.inl ⟨by omega, e3⟩)
        · rcases (show v = 2 ∨ v = 3 by omega) with e4 | e4
          · exact Or.inl ⟨e1, e4, e3⟩
          · exact Or.inr (Or.inr ⟨e1, e4, e3⟩)
      · rintro (⟨e1, e2, e3⟩ | ⟨e1, e3⟩ | ⟨e1, e2, e3⟩)
        · exact Or.inr ⟨e1, by omega, e3⟩
        · exact Or.inl ⟨by omega, by omega, e3⟩
        · exact Or.inr ⟨e1, by omega, e3⟩
    rw [e]
theorem yTry_ne {τ : ttS} {N t : Nat} (f : Nat) : ∀ (i n : Nat) (r : Int32), ¬ r = 2 → yTry τ N t f i n r = (n, r) := by
  induction f with
  | zero => intro i n r _; rfl
  | succ f ih => intro i n r h; rw [yTry, if_neg h, ih _ _ _ h]
theorem xTry_ne {d t : Nat} (f : Nat) (i : Nat) (r : Int32) (ρ : ttS) (h : ¬ r = 2) : xTry d t f i r ρ = (r, ρ) := by
  cases f with
  | zero => rfl
  | succ f => rw [xTry, if_neg h]
theorem xTry_spec {N : Nat} {p : Nat → Nat} {τ : ttS} {d : Nat} {w : Nat → Nat} {q t : Nat} (hy : yTree N p τ) (h : xPW N p d w q) (h0 : 0 < t) (ht : t < N) (hq : p t = q) (f : Nat) : ∀ (i n : Nat) (r : Int32) (ρ : ttS), i + f ≤ 4 → xHs τ ρ → (∀ i, i < d → ρ 17 i = nI (w i)) → (ρ 8 t = τ 6 t ∨ (ρ 8 t = 1 ∧ τ 6 t = 0)) →
    (xTry d t f i r ρ).1 = (yTry τ N t f i n r).2 ∧ ∃ m, (yTry τ N t f i n r).1 = n + m ∧ (∀ y, (xTry d t f i r ρ).2 13 y = ρ 13 y + nI (if y = t then m else 0)) ∧ ∀ c v, c < 24 → v < 4 → (xTry d t f i r ρ).2 12 (c * 4 + v) = ρ 12 (c * 4 + v) + nI (m * yE1 τ N p t c v) := by
  induction f with
  | zero =>
    intro i n r ρ _ _ _ _
    refine ⟨rfl, 0, rfl, fun y => ?_, fun c v _ _ => ?_⟩
    · show ρ 13 y = _
      rw [show (if y = t then 0 else 0) = 0 by split <;> rfl, nI_add0]
    · show ρ 12 (c * 4 + v) = _
      rw [Nat.zero_mul, nI_add0]
  | succ f ih =>
    intro i n r ρ hi hH hw ho
    by_cases z : r = 2
    · obtain ⟨e18, e12⟩ := xAttS_spec (i := i) hy h h0 ht hq hH hw ho (by omega)
      have kk : ∀ {k : Nat}, k ≠ 12 → k ≠ 13 → k ≠ 14 → k ≠ 18 → ttU (xAttS ρ d t i) 13 t (xAttS ρ d t i 13 t + 1) k = ρ k := fun h1 h2 h3 h4 => by rw [ttU_ne _ _ _ h2, xAttS_k _ _ _ _ h1 h3 h4]
      obtain ⟨i1, m, i2, i3, i4⟩ := ih (i + 1) (n + 1) (yOut τ N t i) (ttU (xAttS ρ d t i) 13 t (xAttS ρ d t i 13 t + 1)) (by omega) (fun j hj => by rw [kk (by decide) (by decide) (by decide) (by decide)]; exact hH j hj) (fun j hj => by rw [kk (by decide) (by decide) (by decide) (by decide)]; exact hw j hj) (by rw [kk (by decide) (by decide) (by decide) (by decide)]; exact ho)
      have ex : xTry d t (f + 1) i r ρ = xTry d t f (i + 1) (yOut τ N t i) (ttU (xAttS ρ d t i) 13 t (xAttS ρ d t i 13 t + 1)) := by rw [xTry, if_pos z, e18]
      have ey : yTry τ N t (f + 1) i n r = yTry τ N t f (i + 1) (n + 1) (yOut τ N t i) := by rw [yTry, if_pos z]
      rw [ex, ey]
      refine ⟨i1, m + 1, by omega, fun y => ?_, fun c v hc hv => ?_⟩
      · rw [i3, tt_ap]
        by_cases e : y = t
        · rw [if_pos ⟨rfl, e⟩, if_pos e, if_pos e, xAttS_k _ _ _ _ (by decide) (by decide) (by decide), e, nI_succ, Int32.add_assoc, Int32.add_comm 1]
        · rw [if_neg (fun o => e o.2), if_neg e, if_neg e, xAttS_k _ _ _ _ (by decide) (by decide) (by decide)]
      · rw [i4 c v hc hv, ttU_ne _ _ _ (by decide), e12 c v hc hv, Int32.add_assoc, nI_add, Nat.succ_mul, Nat.add_comm (m * _)]
    · rw [xTry_ne _ _ _ _ z, yTry_ne _ _ _ _ z]
      refine ⟨rfl, 0, rfl, fun y => ?_, fun c v _ _ => ?_⟩
      · show ρ 13 y = _
        rw [show (if y = t then 0 else 0) = 0 by split <;> rfl, nI_add0]
      · show ρ 12 (c * 4 + v) = _
        rw [Nat.zero_mul, nI_add0]
theorem xRunT_spec {N : Nat} {p : Nat → Nat} {τ : ttS} {d : Nat} {w : Nat → Nat} {q t : Nat} (hy : yTree N p τ) (h : xPW N p d w q) (h0 : 0 < t) (ht : t < N) (hq : p t = q) {ρ : ttS} {K : Nat} (hK : K ≤ 4) (hH : xHs τ ρ) (hw : ∀ i, i < d → ρ 17 i = nI (w i)) (ho : ρ 8 t = τ 6 t ∨ (ρ 8 t = 1 ∧ τ 6 t = 0)) :
    (∀ y, xRunT ρ d K t 11 y = if y = t then (yTry τ N t K 0 0 2).2 else ρ 11 y) ∧ (∀ y, xRunT ρ d K t 13 y = ρ 13 y + nI (if y = t then (yTry τ N t K 0 0 2).1 else 0)) ∧ ∀ c v, c < 24 → v < 4 → xRunT ρ d K t 12 (c * 4 + v) = ρ 12 (c * 4 + v) + nI ((yTry τ N t K 0 0 2).1 * yE1 τ N p t c v) := by
  obtain ⟨a, m, b, c, e⟩ := xTry_spec hy h h0 ht hq K 0 0 2 ρ (by omega) hH hw ho
  rw [Nat.zero_add] at b
  rw [b]
  unfold xRunT
  refine ⟨fun y => ?_, fun y => ?_, fun c' v hc hv => ?_⟩
  · rw [tt_ap, a, xTry_k _ _ _ _ _ _ (by decide) (by decide) (by decide) (by decide)]
    by_cases z : y = t
    · rw [if_pos ⟨rfl, z⟩, if_pos z]
    · rw [if_neg (fun o => z o.2), if_neg z]
  · rw [ttU_ne _ _ _ (by decide)]; exact c y
  · rw [ttU_ne _ _ _ (by decide)]; exact e c' v hc hv
end
section
/-! the total; parts of the tree; what a part of the run leaves -/
def xSum (σ : ttS) : Nat → Int32
  | 0 => 0
  | i + 1 => xSum σ i + σ 12 i
theorem xSum_c {σ ρ : ttS} (h : σ 12 = ρ 12) (n : Nat) : xSum σ n = xSum ρ n := by
  induction n with
  | zero => rfl
  | succ n ih => rw [xSum, xSum, ih, h]
theorem xSum_up (σ : ttS) (j n : Nat) : xSum (ttU σ 12 j (σ 12 j + 1)) n = if j < n then xSum σ n + 1 else xSum σ n := by
  induction n with
  | zero => rw [if_neg (by omega)]; rfl
  | succ n ih =>
    rw [xSum, xSum, ih, tt_ap]
    rcases Nat.lt_trichotomy j n with a | a | a
    · rw [if_pos a, if_neg (by omega), if_pos (by omega), Int32.add_assoc, Int32.add_comm 1, ← Int32.add_assoc]
    · rw [if_neg (by omega), if_pos ⟨rfl, a.symm⟩, if_pos (by omega), a, Int32.add_assoc]
    · rw [if_neg (by omega), if_neg (by omega), if_neg (by omega)]
/-- the total is the sum of all that is counted -/
def xTot (σ : ttS) : Prop := σ 14 0 = xSum σ 96
theorem xTot_c {σ ρ : ttS} (h : xTot σ) (h1 : ρ 12 = σ 12) (h2 : ρ 14 = σ 14) : xTot ρ := by
  unfold xTot at h ⊢
  rw [h2, xSum_c h1, h]
theorem xTot_up {σ : ttS} (h : xTot σ) {j : Nat} (hj : j < 96) : xTot (ttU (ttU σ 12 j (σ 12 j + 1)) 14 0 (σ 14 0 + 1)) := by
  unfold xTot at h ⊢
  rw [tt_ap, if_pos ⟨rfl, rfl⟩, xSum_c (ttU_ne _ _ _ (by decide)), xSum_up, if_pos hj, h]
theorem xCar_tot {σ : ttS} (h : xTot σ) {n w : Nat} (hj : n * 4 + w < 96) : xTot (xCar σ n w) := by
  unfold xCar
  split
  · exact h
  · exact xTot_up h hj
theorem xNote_tot {σ : ttS} (h : xTot σ) (o : Int32) : xTot (xNote σ o) := xTot_c h (xNote_k _ _ (by decide)) (xNote_k _ _ (by decide))
def xIn (σ : ttS) (d : Nat) : Prop := ∀ i, i < d → (σ 17 i).toNatClampNeg < 24
theorem xHk_tot {σ : ttS} (h : xTot σ) {d k w : Nat} (hi : xIn σ d) (hk : k < d) (hw : w < 4) : xTot (xHk σ k w) := xNote_tot (xCar_tot h (by have := hi k hk; omega)) _
theorem xDown_tot (f : Nat) : ∀ (k : Nat) (σ : ttS) {d : Nat}, k + f ≤ d → xIn σ d → xTot σ → xTot (xDown f k σ).2 := by
  induction f with
  | zero => intro k σ d _ _ h; exact h
  | succ f ih =>
    intro k σ d hk hi h
    unfold xDown
    split
    · exact ih (k + 1) _ (d := d) (by omega) (fun i q => by rw [xHk_k _ _ _ (by decide) (by decide) (by decide)]; exact hi i q) (xHk_tot h hi (by omega) (by decide))
    · exact h
theorem xUpL_tot (f : Nat) : ∀ (σ : ttS) {d : Nat}, f ≤ d → xIn σ d → xTot σ → xTot (xUpL f σ) := by
  induction f with
  | zero => intro σ d _ _ h; exact h
  | succ f ih =>
    intro σ d hk hi h
    unfold xUpL
    exact ih _ (d := d) (by omega) (fun i q => by rw [xHk_k _ _ _ (by decide) (by decide) (by decide)]; exact hi i q) (xHk_tot h hi (by omega) (by decide))
theorem xAtt2_tot {σ : ttS} (h : xTot σ) {t : Nat} (ht : t < 24) (i : Nat) : xTot (xAtt2 σ t i) := by
  unfold xAtt2
  split
  · exact xNote_tot (xTot_up h (by omega)) _
  · exact h
theorem xAttS_tot {σ : ttS} (h : xTot σ) {d t : Nat} (hi : xIn σ d) (ht : t < 24) (i : Nat) : xTot (xAttS σ d t i) := by
  unfold xAttS
  have h1 : xTot (ttU σ 18 0 1) := xTot_c h (ttU_ne _ _ _ (by decide)) (ttU_ne _ _ _ (by decide))
  have hi1 : xIn (ttU σ 18 0 1) d := fun i q => by rw [ttU_ne _ _ _ (by decide)]; exact hi i q
  have h2 := xDown_tot d 0 (ttU σ 18 0 1) (d := d) (by omega) hi1 h1
  refine xUpL_tot _ _ (d := d) (by have := xDown_le d 0 (ttU σ 18 0 1); omega) (fun i q => ?_) (xAtt2_tot h2 ht i)
  rw [xAtt2_k _ _ _ (by decide) (by decide) (by decide), xDown_k _ _ _ (by decide) (by decide) (by decide)]
  exact hi1 i q
theorem xTry_tot {d t : Nat} (ht : t < 24) (f : Nat) : ∀ (i : Nat) (r : Int32) (σ : ttS), xIn σ d → xTot σ → xTot (xTry d t f i r σ).2 := by
  induction f with
  | zero => intro i r σ _ h; exact h
  | succ f ih =>
    intro i r σ hi h
    unfold xTry
    split
    · refine ih _ _ _ (fun j q => ?_) (xTot_c (xAttS_tot h hi ht i) (ttU_ne _ _ _ (by decide)) (ttU_ne _ _ _ (by decide)))
      rw [ttU_ne _ _ _ (by decide), xAttS_k _ _ _ _ (by decide) (by decide) (by decide)]
      exact hi j q
    · exact h
theorem xRunT_tot {σ : ttS} (h : xTot σ) {d t : Nat} (hi : xIn σ d) (ht : t < 24) (K : Nat) : xTot (xRunT σ d K t) := by
  unfold xRunT
  exact xTot_c (xTry_tot ht K 0 2 σ hi h) (ttU_ne _ _ _ (by decide)) (ttU_ne _ _ _ (by decide))
theorem xEntS_tot {σ : ttS} (h : xTot σ) {n : Nat} (hn : n < 24) (d : Nat) : xTot (xEntS σ d n) := by
  unfold xEntS
  exact xTot_c (xCar_tot (n := n) (w := 0) h (by omega)) (by rw [ttU_ne _ _ _ (by decide), ttU_ne _ _ _ (by decide), ttU_ne _ _ _ (by decide)]) (by rw [ttU_ne _ _ _ (by decide), ttU_ne _ _ _ (by decide), ttU_ne _ _ _ (by decide)])
theorem xLvS_tot {σ : ttS} (h : xTot σ) {d : Nat} (hn : (σ 17 d).toNatClampNeg < 24) : xTot (xLvS σ d) := by
  unfold xLvS
  have h1 : xTot (ttU σ 16 0 (nI d)) := xTot_c h (ttU_ne _ _ _ (by decide)) (ttU_ne _ _ _ (by decide))
  exact xTot_c (xCar_tot (w := 1) h1 (show (σ 17 d).toNatClampNeg * 4 + 1 < 96 by omega)) (ttU_ne _ _ _ (by decide)) (ttU_ne _ _ _ (by decide))
theorem xStep_tot {σ : ttS} (h : xTot σ) {nx : Int32} (hs : xSafe σ nx) (hp : ¬ σ 16 0 ≤ 0) : xTot (xStep σ nx).2 := by
  obtain ⟨d, e, hd, hi, hn⟩ := hs
  have d0 : 0 < d := tt_pos hp e
  have hI : xIn σ d := fun i q => (tt_ofin (hi i q) (by decide)).2
  have ed : (σ 16 0).toNatClampNeg = d := by rw [e, nI_clamp (by omega)]
  unfold xStep
  rw [ed]
  by_cases z : 0 ≤ nx
  · rw [if_pos z]
    have hx := (tt_ofin (hn z).1 (by decide)).2
    split
    · exact h
    · split
      · exact xEntS_tot h hx d
      · exact xRunT_tot h hI hx _
  · rw [if_neg z]
    exact xLvS_tot h (hI (d - 1) (by omega))
theorem xWalk_tot (f : Nat) : ∀ (nx : Int32) (σ : ttS), xOK f nx σ → xTot σ → xTot (xWalk f nx σ) := by
  induction f with
  | zero => intro nx σ _ h; exact h
  | succ f ih =>
    intro nx σ ho h
    unfold xWalk
    unfold xOK at ho
    by_cases z : σ 16 0 ≤ 0
    · rw [if_pos z]; exact h
    · rw [if_neg z]
      exact ih _ _ (ho z).2 (xStep_tot h (ho z).1 z)
/-! parts of the tree -/
/-- x and what is below it -/
def sSub (N : Nat) (p : Nat → Nat) (x y : Nat) : Prop := y < N ∧ (y = x ∨ AB p x y)
/-- x, its later siblings and what is below them -/
def sSib (N : Nat) (p : Nat → Nat) (x y : Nat) : Prop := ∃ z, x ≤ z ∧ z < N ∧ 0 < z ∧ p z = p x ∧ sSub N p z y
theorem sSib_last {N : Nat} {p : Nat → Nat} {x : Nat} (h0 : 0 < x) (hx : x < N) (h : ∀ j, 0 < j → j < N → p j = p x → j ≤ x) (y : Nat) : sSib N p x y ↔ sSub N p x y := by
  constructor
  · rintro ⟨z, z1, z2, z3, z4, z5⟩
    have := h z z3 z2 z4
    rw [show z = x by omega] at z5
    exact z5
  · intro z
    exact ⟨x, Nat.le_refl x, hx, h0, rfl, z⟩
theorem sSib_next {N : Nat} {p : Nat → Nat} {x b : Nat} (h0 : 0 < x) (hx : x < N) (hb : x < b) (hp : p b = p x) (h : ∀ j, 0 < j → j < N → p j = p x → x < j → b ≤ j) (y : Nat) : sSib N p x y ↔ (sSub N p x y ∨ sSib N p b y) := by
  constructor
  · rintro ⟨z, z1, z2, z3, z4, z5⟩
    rcases Nat.eq_or_lt_of_le z1 with e | e
    · rw [← e] at z5; exact Or.inl z5
    · exact Or.inr ⟨z, h z z3 z2 z4 e, z2, z3, by rw [hp]; exact z4, z5⟩
  · rintro (z | ⟨z, z1, z2, z3, z4, z5⟩)
    · exact ⟨x, Nat.le_refl x, hx, h0, rfl, z⟩
    · exact ⟨z, by omega, z2, z3, by rw [← hp]; exact z4, z5⟩
theorem sSub_leaf {N : Nat} {p : Nat → Nat} {x : Nat} (hx : x < N) (h : ∀ j, 0 < j → j < N → p j ≠ x) (y : Nat) : sSub N p x y ↔ y = x := by
  constructor
  · rintro ⟨y1, e | e⟩
    · exact e
    · obtain ⟨z, z0, z1, z2, z3, z4⟩ := AB_child y e
      exact absurd z3 (h z z0 (by omega))
  · intro e
    exact ⟨by omega, Or.inl e⟩
theorem sSub_first {N : Nat} {p : Nat → Nat} {x a : Nat} (hp : ∀ j, 0 < j → j < N → p j < j) (hx : x < N) (pa : p a = x) (h : ∀ j, 0 < j → j < N → p j = x → a ≤ j) (y : Nat) : sSub N p x y ↔ (y = x ∨ sSib N p a y) := by
  constructor
  · rintro ⟨y1, e | e⟩
    · exact Or.inl e
    · obtain ⟨z, z0, z1, z2, z3, z4⟩ := AB_child y e
      refine Or.inr ⟨z, h z z0 (by omega) z3, by omega, z0, by rw [pa]; exact z3, y1, ?_⟩
      rcases z4 with q | q
      · exact Or.inl q.symm
      · exact Or.inr q
  · rintro (e | ⟨z, z1, z2, z3, z4, z5, z6⟩)
    · exact ⟨by omega, Or.inl e⟩
    · have hz : AB p x z := (AB_iff z3 (hp z z3 z2)).mpr (Or.inl (by rw [z4, pa]))
      refine ⟨z5, Or.inr ?_⟩
      rcases z6 with e | e
      · rw [e]; exact hz
      · exact AB_trans hz y e
/-- siblings share nothing below them -/
theorem sSub_dis {N : Nat} {p : Nat → Nat} {x z y : Nat} (hp : ∀ j, 0 < j → j < N → p j < j) (x0 : 0 < x) (hx : x < N) (z0 : 0 < z) (hz : z < N) (e : p x = p z) (ne : x ≠ z) (h1 : sSub N p x y) (h2 : sSub N p z y) : False := by
  have no : ∀ a b, 0 < a → a < N → 0 < b → b < N → p a = p b → ¬ AB p a b := by
    intro a b a0 aN b0 bN e q
    have ha := hp a a0 aN
    rcases (AB_iff b0 (hp b b0 bN)).mp q with q | q
    · omega
    · rw [← e] at q
      have := AB_lt _ q
      omega
  obtain ⟨-, q1⟩ := h1
  obtain ⟨-, q2⟩ := h2
  rcases q1 with q1 | q1
  · rcases q2 with q2 | q2
    · omega
    · rw [q1] at q2; exact no z x z0 hz x0 hx e.symm q2
  · rcases q2 with q2 | q2
    · rw [q2] at q1; exact no x z x0 hx z0 hz e q1
    · rcases AB_cmp y q1 q2 with q | q | q
      · exact ne q
      · exact no x z x0 hx z0 hz e q
      · exact no z x z0 hz x0 hx e.symm q
theorem sSib_dis {N : Nat} {p : Nat → Nat} {x b y : Nat} (hp : ∀ j, 0 < j → j < N → p j < j) (x0 : 0 < x) (hx : x < N) (hb : x < b) (e : p b = p x) : ¬ (sSub N p x y ∧ sSib N p b y) := by
  rintro ⟨h1, z, z1, z2, z3, z4, z5⟩
  exact sSub_dis hp x0 hx z3 z2 (by rw [z4, e]) (by omega) h1 z5
theorem sSib_gt {N : Nat} {p : Nat → Nat} {a y : Nat} (h : sSib N p a y) : a ≤ y := by
  obtain ⟨z, z1, z2, z3, z4, -, z5 | z5⟩ := h
  · omega
  · have := AB_lt _ z5; omega
theorem sN_ge {g : Nat → Nat} {c : Nat} (n : Nat) : c < n → g c ≤ sN n g := by
  induction n with
  | zero => intro h; omega
  | succ n ih =>
    intro h
    rw [sN]
    rcases Nat.eq_or_lt_of_le (Nat.lt_succ_iff.mp h) with e | e
    · rw [e]; omega
    · have := ih e; omega
theorem sN_le {g : Nat → Nat} (hg : ∀ x, g x ≤ 1) (n : Nat) : sN n g ≤ n := by
  induction n with
  | zero => exact Nat.le_refl 0
  | succ n ih => rw [sN]; have := hg n; omega
theorem sN_ind {n : Nat} {P Q R : Nat → Prop} (h : ∀ y, R y ↔ (P y ∨ Q y)) (hd : ∀ y, ¬ (P y ∧ Q y)) : sN n (fun y => ind (R y)) = sN n (fun y => ind (P y)) + sN n (fun y => ind (Q y)) := by
  rw [← sN_add]
  refine sN_c n (fun y _ => ?_)
  show ind (R y) = ind (P y) + ind (Q y)
  rw [ind_c (h y), ind_or (hd y)]
/-! what a part of the run leaves: R, the nodes that were run in it -/
/-- what the run of the node y counts at the place v of c -/
noncomputable def yEE (τ : ttS) (N : Nat) (p : Nat → Nat) (y c v : Nat) : Nat := if τ 1 y = 0 then ind (c = y ∧ v < 2 ∧ ¬ τ 4 (c * 4 + v) = 0) else yMad τ N y * yE1 τ N p y c v
def Eff (τ : ttS) (N : Nat) (p : Nat → Nat) (R : Nat → Prop) (ρ ρ' : ttS) : Prop := (∀ y, R y → ρ' 11 y = yRes τ N y) ∧ (∀ y, ¬ R y → ρ' 11 y = ρ 11 y) ∧ (∀ y, ρ' 13 y = ρ 13 y + nI (ind (R y) * yMad τ N y)) ∧ ∀ c v, c < 24 → v < 4 → ρ' 12 (c * 4 + v) = ρ 12 (c * 4 + v) + nI (sN N (fun y => ind (R y) * yEE τ N p y c v))
theorem Eff_c {τ : ttS} {N : Nat} {p : Nat → Nat} {R S : Nat → Prop} {ρ ρ' : ttS} (h : Eff τ N p R ρ ρ') (e : ∀ y, R y ↔ S y) : Eff τ N p S ρ ρ' := by
  rw [← show R = S from funext (fun y => propext (e y))]
  exact h
theorem Eff_id {τ : ttS} {N : Nat} {p : Nat → Nat} {R : Nat → Prop} (ρ : ttS) (h : ∀ y, ¬ R y) : Eff τ N p R ρ ρ := by
  refine ⟨fun y q => absurd q (h y), fun y _ => rfl, fun y => ?_, fun c v _ _ => ?_⟩
  · rw [ind_0 (h y), Nat.zero_mul, nI_add0]
  · rw [sN_0 N (fun y _ => by show ind (R y) * _ = 0; rw [ind_0 (h y), Nat.zero_mul]), nI_add0]
theorem Eff_comp {τ : ttS} {N : Nat} {p : Nat → Nat} {R S : Nat → Prop} {ρ ρ1 ρ2 : ttS} (h1 : Eff τ N p R ρ ρ1) (h2 : Eff τ N p S ρ1 ρ2) (hd : ∀ y, ¬ (R y ∧ S y)) : Eff τ N p (fun y => R y ∨ S y) ρ ρ2 := by
  obtain ⟨a1, a2, a3, a4⟩ := h1
  obtain ⟨b1, b2, b3, b4⟩ := h2
  refine ⟨fun y q => ?_, fun y q => ?_, fun y => ?_, fun c v hc hv => ?_⟩
  · rcases q with q | q
    · rw [b2 y (fun s => hd y ⟨q, s⟩), a1 y q]
    · exact b1 y q
  · rw [b2 y (fun s => q (Or.inr s)), a2 y (fun s => q (Or.inl s))]
  · rw [b3, a3, ind_or (hd y), Int32.add_assoc, nI_add, Nat.add_mul]
  · rw [b4 c v hc hv, a4 c v hc hv, Int32.add_assoc, nI_add, ← sN_add]
    congr 2
    refine sN_c N (fun y _ => ?_)
    show ind (R y) * _ + ind (S y) * _ = ind (R y ∨ S y) * _
    rw [ind_or (hd y), Nat.add_mul]
theorem sN_one {N x : Nat} (hx : x < N) (g : Nat → Nat) : sN N (fun y => ind (y = x) * g y) = g x := by
  rw [sN_1 (c := x) N hx (fun y _ hy => by show ind (y = x) * _ = 0; rw [ind_0 hy, Nat.zero_mul])]
  show ind (x = x) * g x = g x
  rw [ind_1 rfl, Nat.one_mul]
/-- a container: opened, R run below it, left -/
theorem Eff_cont {τ : ttS} {N : Nat} {p : Nat → Nat} {R : Nat → Prop} {ρ ρ2 : ttS} {d x : Nat} (hN : N ≤ 24) (hx : x < N) (t : τ 1 x = 0) (hH : xHs τ ρ) (hH2 : xHs τ ρ2) (h : Eff τ N p R (xEntS ρ d x) ρ2) (hR : ¬ R x) (hw : ρ2 17 d = nI x) : Eff τ N p (fun y => y = x ∨ R y) ρ (xLvS ρ2 d) := by
  obtain ⟨a1, a2, a3, a4⟩ := h
  have e60 : ρ 6 (x * 4 + 0) = τ 4 (x * 4) := (hH (x * 4) (by omega)).1
  have e61 : ρ2 6 (x * 4 + 1) = τ 4 (x * 4 + 1) := (hH2 (x * 4 + 1) (by omega)).1
  have ce : (ρ2 17 d).toNatClampNeg = x := by rw [hw, nI_clamp (by omega)]
  have o11 : ∀ y, xEntS ρ d x 11 y = if y = x then xW 1 (τ 4 (x * 4)) else ρ 11 y := by
    intro y
    unfold xEntS
    rw [ttU_ne _ _ _ (by decide), ttU_ne _ _ _ (by decide), tt_ap, xCar_k _ _ _ (by decide) (by decide), e60]
    by_cases z : y = x
    · rw [if_pos ⟨rfl, z⟩, if_pos z]
    · rw [if_neg (fun o => z o.2), if_neg z]
  have o13 : xEntS ρ d x 13 = ρ 13 := xEntS_k _ _ _ (by decide) (by decide) (by decide) (by decide) (by decide)
  have car : ∀ (θ : ttS) (u j : Nat), xCar θ x u 12 j = θ 12 j + nI (ind (j = x * 4 + u ∧ ¬ θ 6 (x * 4 + u) = 0)) := by
    intro θ u j
    unfold xCar
    by_cases z : θ 6 (x * 4 + u) = 0
    · rw [if_pos z, ind_0 (fun o => o.2 z), nI_add0]
    · rw [if_neg z, ttU_ne _ _ _ (by decide), tt_ap]
      by_cases y : j = x * 4 + u
      · rw [if_pos ⟨rfl, y⟩, ind_1 ⟨y, z⟩, y]; rfl
      · rw [if_neg (fun o => y o.2), ind_0 (fun o => y o.1), nI_add0]
  have o12 : ∀ j, xEntS ρ d x 12 j = ρ 12 j + nI (ind (j = x * 4 + 0 ∧ ¬ τ 4 (x * 4) = 0)) := by
    intro j
    unfold xEntS
    rw [ttU_ne _ _ _ (by decide), ttU_ne _ _ _ (by decide), ttU_ne _ _ _ (by decide), car, e60]
  have l11 : ∀ y, xLvS ρ2 d 11 y = if y = x then xW (ρ2 11 x) (τ 4 (x * 4 + 1)) else ρ2 11 y := by
    intro y
    unfold xLvS
    rw [tt_ap, ce, xCar_k _ _ _ (by decide) (by decide), ttU_ne _ _ _ (by decide), e61]
    by_cases z : y = x
    · rw [if_pos ⟨rfl, z⟩, if_pos z]
    · rw [if_neg (fun o => z o.2), if_neg z]
  have l13 : xLvS ρ2 d 13 = ρ2 13 := xLvS_k _ _ (by decide) (by decide) (by decide) (by decide)
  have l12 : ∀ j, xLvS ρ2 d 12 j = ρ2 12 j + nI (ind (j = x * 4 + 1 ∧ ¬ τ 4 (x * 4 + 1) = 0)) := by
    intro j
    unfold xLvS
    rw [ttU_ne _ _ _ (by decide), ce, car, ttU_ne _ _ _ (by decide), ttU_ne _ _ _ (by decide), e61]
  have hm : yMad τ N x = 0 := by unfold yMad; rw [if_pos t]
  have hd : ∀ y, ¬ (y = x ∧ R y) := fun y q => hR (by rw [← q.1]; exact q.2)
  refine ⟨fun y q => ?_, fun y q => ?_, fun y => ?_, fun c v hc hv => ?_⟩
  · rw [l11]
    by_cases z : y = x
    · rw [if_pos z, a2 x hR, o11, if_pos rfl, z]
      unfold yRes
      rw [if_pos t]
    · rw [if_neg z]
      exact a1 y (q.resolve_left z)
  · have z : ¬ y = x := fun s => q (Or.inl s)
    rw [l11, if_neg z, a2 y (fun s => q (Or.inr s)), o11, if_neg z]
  · rw [l13, a3, o13, ind_or (hd y), Nat.add_mul]
    congr 2
    by_cases z : y = x
    · rw [z, hm, Nat.mul_zero, Nat.mul_zero]
    · rw [ind_0 z, Nat.zero_mul, Nat.zero_add]
  · rw [l12, a4 c v hc hv, o12, Int32.add_assoc, Int32.add_assoc, nI_add, nI_add]
    congr 2
    have e1 : sN N (fun y => ind (y = x ∨ R y) * yEE τ N p y c v) = yEE τ N p x c v + sN N (fun y => ind (R y) * yEE τ N p y c v) := by
      rw [← sN_one hx (fun y => yEE τ N p y c v), ← sN_add]
      refine sN_c N (fun y _ => ?_)
      show ind (y = x ∨ R y) * _ = ind (y = x) * _ + ind (R y) * _
      rw [ind_or (hd y), Nat.add_mul]
    rw [e1]
    have e2 : yEE τ N p x c v = ind (c * 4 + v = x * 4 + 0 ∧ ¬ τ 4 (x * 4) = 0) + ind (c * 4 + v = x * 4 + 1 ∧ ¬ τ 4 (x * 4 + 1) = 0) := by
      unfold yEE
      rw [if_pos t, ← ind_or (fun o => by have := o.1.1; have := o.2.1; omega)]
      refine ind_c ⟨?_, ?_⟩
      · rintro ⟨q1, q2, q3⟩
        subst q1
        rcases (show v = 0 ∨ v = 1 by omega) with q | q
        · subst q; exact Or.inl ⟨rfl, q3⟩
        · subst q; exact Or.inr ⟨rfl, q3⟩
      · rintro (⟨q1, q2⟩ | ⟨q1, q2⟩)
        · obtain rfl : c = x := by omega
          obtain rfl : v = 0 := by omega
          exact ⟨rfl, by omega, q2⟩
        · obtain rfl : c = x := by omega
          obtain rfl : v = 1 := by omega
          exact ⟨rfl, by omega, q2⟩
    rw [e2]
    omega
/-- a test -/
theorem Eff_test {τ : ttS} {N : Nat} {p : Nat → Nat} {d : Nat} {w : Nat → Nat} {q t : Nat} (hy : yTree N p τ) (h : xPW N p d w q) (h0 : 0 < t) (ht : t < N) (hq : p t = q) {ρ : ttS} (h1 : ¬ τ 1 t = 0) (hK : (τ 5 t).toNatClampNeg ≤ 4) (hH : xHs τ ρ) (hw : ∀ i, i < d → ρ 17 i = nI (w i)) (ho : ρ 8 t = τ 6 t ∨ (ρ 8 t = 1 ∧ τ 6 t = 0)) : Eff τ N p (fun y => y = t) ρ (xRunT ρ d (τ 5 t).toNatClampNeg t) := by
  obtain ⟨a, b, c⟩ := xRunT_spec hy h h0 ht hq hK hH hw ho
  have hm : (yTry τ N t (τ 5 t).toNatClampNeg 0 0 2).1 = yMad τ N t := by unfold yMad; rw [if_neg h1]
  rw [hm] at b c
  refine ⟨fun y z => ?_, fun y z => ?_, fun y => ?_, fun c' v hc hv => ?_⟩
  · rw [a, if_pos z, z]
    unfold yRes
    rw [if_neg h1]
  · rw [a, if_neg z]
  · rw [b]
    by_cases z : y = t
    · rw [if_pos z, ind_1 z, Nat.one_mul, z]
    · rw [if_neg z, ind_0 z, Nat.zero_mul]
  · rw [c c' v hc hv, sN_one ht (fun y => yEE τ N p y c' v)]
    unfold yEE
    rw [if_neg h1]
end
section
/-! the component's walk -/
theorem yRan_iff {τ : ttS} {N : Nat} {tg : Int32} {x : Nat} : yRan τ N tg x = true ↔ (¬ yPas τ N x 0 = 0 ∧ yPart N τ tg x) := by
  unfold yPart
  by_cases t : τ 1 x = 0
  · rw [yRan_c t]
    exact ⟨fun q => ⟨q.1, fun _ => q.2, fun z => absurd t z⟩, fun q => ⟨q.1, q.2.1 t⟩⟩
  · rw [yRan_t t]
    exact ⟨fun q => ⟨q.1, fun z => absurd z t, fun _ => q.2⟩, fun q => ⟨q.1, q.2.2 t⟩⟩
theorem yPart_up {N : Nat} {p : Nat → Nat} {σ τ : ttS} (h : xTree N p σ τ) {tg : Int32} {x y : Nat} (hy : y < N) (ha : AB p x y) (hp : yPart N τ tg y) : yPart N τ tg x := by
  have ht := xTree_cont h hy ha
  have hT := xTree_y h
  have hxy := AB_lt _ ha
  refine ⟨fun _ => (yUse_spec hT (by omega) tg).mpr ?_, fun z => absurd ht z⟩
  by_cases t : τ 1 y = 0
  · obtain ⟨k, k1, k2, k3⟩ := (yUse_spec hT hy tg).mp (hp.1 t)
    exact ⟨k, k1, AB_trans ha k k2, k3⟩
  · exact ⟨y, hy, ha, hp.2 t⟩
theorem yRan_up {N : Nat} {p : Nat → Nat} {σ τ : ttS} (h : xTree N p σ τ) {tg : Int32} {x y : Nat} (hy : y < N) (ha : AB p x y) (hp : yRan τ N tg y = true) : yPart N τ tg x ∧ τ 4 (x * 4) ≤ 1 := by
  have hT := xTree_y h
  have hxy := AB_lt _ ha
  obtain ⟨h1, h2⟩ := yRan_iff.mp hp
  exact ⟨yPart_up h hy ha h2, (yPas_spec hT 0 hy).mp h1 x (by omega) ha⟩
/-- the cells stand as at the walk's start but for the run's own, and the containers w 0 .. w (d - 1) are open -/
def xAt (β ρ : ttS) (d : Nat) (w : Nat → Nat) : Prop := (∀ k, k < 11 ∨ k = 15 → ρ k = β k) ∧ ρ 16 0 = nI d ∧ ∀ i, i < d → ρ 17 i = nI (w i)
theorem xAt_w {β ρ : ttS} {d : Nat} {w w' : Nat → Nat} (h : xAt β ρ d w) (e : ∀ i, i < d → w' i = w i) : xAt β ρ d w' := ⟨h.1, h.2.1, fun i hi => by rw [e i hi]; exact h.2.2 i hi⟩
def xGo (k : Nat) (nx : Int32) (ρ : ttS) (nx' : Int32) (ρ' : ttS) : Prop := ∀ f, xWalk (f + k) nx ρ = xWalk f nx' ρ' ∧ (xOK f nx' ρ' → xOK (f + k) nx ρ)
theorem xGo_0 (nx : Int32) (ρ : ttS) : xGo 0 nx ρ nx ρ := fun _ => ⟨rfl, id⟩
theorem xGo_t {k l : Nat} {a b c : Int32} {ρ ρ1 ρ2 : ttS} (h1 : xGo k a ρ b ρ1) (h2 : xGo l b ρ1 c ρ2) : xGo (l + k) a ρ c ρ2 := by
  intro f
  obtain ⟨a1, a2⟩ := h1 (f + l)
  obtain ⟨b1, b2⟩ := h2 f
  rw [← Nat.add_assoc]
  exact ⟨a1.trans b1, fun q => a2 (b2 q)⟩
theorem xGo_1 {nx nx' : Int32} {ρ ρ' : ttS} {d : Nat} (h : ρ 16 0 = nI d) (d0 : 0 < d) (hd : d ≤ 24) (hs : xSafe ρ nx) (e : xStep ρ nx = (nx', ρ')) : xGo 1 nx ρ nx' ρ' := by
  intro f
  constructor
  · rw [xWalk, if_neg (by rw [h]; exact nI_nle d0 (by omega)), e]
  · intro q
    rw [xOK]
    intro _
    refine ⟨hs, ?_⟩
    rw [e]
    exact q
/-- where the walk starts from -/
def xBase (N : Nat) (p : Nat → Nat) (β τ : ttS) (tg : Int32) : Prop := xTree N p β τ ∧ ∀ x, x < N → (¬ β 15 x = 0 ↔ yPart N τ tg x)
theorem xAt_H {N : Nat} {p : Nat → Nat} {β τ ρ : ttS} {d : Nat} {w : Nat → Nat} (B : xTree N p β τ) (h : xAt β ρ d w) : xHs τ ρ := by
  intro j hj
  obtain ⟨e, q, q1, q2⟩ := B.2.2.2.2.2.2.1 j hj
  rw [h.1 6 (by omega)]
  exact ⟨e, q, q1, by rw [← e]; exact q2⟩
/-- the open containers with one more -/
theorem xPW_more {N : Nat} {p : Nat → Nat} {d : Nat} {w : Nat → Nat} {q x : Nat} (h : xPW N p d w q) (x0 : 0 < x) (hx : x < N) (hq : p x = q) : xPW N p (d + 1) (fun i => if i = d then x else w i) x := by
  obtain ⟨d0, h1, h2, h3, h4⟩ := h
  refine ⟨by omega, ?_, ?_, fun i hi => ?_, fun i hi => ?_⟩
  · show (if 0 = d then x else w 0) = 0
    rw [if_neg (by omega), h1]
  · show (if d + 1 - 1 = d then x else w (d + 1 - 1)) = x
    rw [if_pos (by omega)]
  · show (if i = d then x else w i) < N
    by_cases e : i = d
    · rw [if_pos e]; exact hx
    · rw [if_neg e]; exact h3 i (by omega)
  · show 0 < (if i + 1 = d then x else w (i + 1)) ∧ p (if i + 1 = d then x else w (i + 1)) = (if i = d then x else w i)
    rw [if_neg (show ¬ i = d by omega)]
    by_cases e : i + 1 = d
    · rw [if_pos e]
      exact ⟨x0, by rw [hq, ← h2, show d - 1 = i by omega]⟩
    · rw [if_neg e]; exact h4 i (by omega)
/-- from x on to the last of its siblings -/
def xLP (N : Nat) (p : Nat → Nat) (β τ : ttS) (tg : Int32) (x : Nat) : Prop := ∀ (d : Nat) (w : Nat → Nat) (q : Nat) (ρ : ttS), 0 < x → x < N → xPW N p d w q → p x = q → (∀ i, i < d → τ 4 (w i * 4) ≤ 1) → xAt β ρ d w → ∃ (k : Nat) (ρ' : ttS), k ≤ 2 * sN N (fun y => ind (sSib N p x y)) ∧ xGo k (nI x) ρ (-1) ρ' ∧ xAt β ρ' d w ∧ Eff τ N p (fun y => sSib N p x y ∧ yRan τ N tg y = true) ρ ρ'
/-- a container that was just opened, to its end -/
theorem xCont {N : Nat} {p : Nat → Nat} {β τ : ttS} {tg : Int32} (B : xBase N p β τ tg) {x : Nat} (ih : ∀ a, x < a → xLP N p β τ tg a) {d : Nat} {W : Nat → Nat} {ρ : ttS} (hx : x < N) (t : τ 1 x = 0) (hr : yRan τ N tg x = true) (hW : xPW N p (d + 1) W x) (hb : ∀ i, i < d → τ 4 (W i * 4) ≤ 1) (hA : xAt β ρ d W) : ∃ (k : Nat) (ρ' : ttS), k + 1 ≤ 2 * sN N (fun y => ind (sSub N p x y)) ∧ xGo k (xEntR ρ d x) (xEntS ρ d x) (β 5 x) ρ' ∧ xAt β ρ' d W ∧ Eff τ N p (fun y => sSub N p x y ∧ yRan τ N tg y = true) ρ ρ' := by
  obtain ⟨B1, B2⟩ := B
  have hT := xTree_y B1
  have h24 := hT.1
  have hp := hT.2.1
  have Wd : W d = x := hW.2.2.1
  have hH := xAt_H B1 hA
  have hd : d < 24 := by have := xPW_le hp hW d (by omega); omega
  have e60 : ρ 6 (x * 4 + 0) = τ 4 (x * 4) := (hH (x * 4) (by omega)).1
  have hA1 : xAt β (xEntS ρ d x) (d + 1) W := by
    refine ⟨fun k hk => ?_, ?_, fun i hi => ?_⟩
    · rw [xEntS_k _ _ _ (by omega) (by omega) (by omega) (by omega) (by omega)]; exact hA.1 k hk
    · unfold xEntS
      rw [tt_ap, if_pos ⟨rfl, rfl⟩, nI_1]
    · unfold xEntS
      rw [ttU_ne _ _ _ (by decide), tt_ap]
      by_cases e : i = d
      · rw [if_pos ⟨rfl, e⟩, e, Wd]
      · rw [if_neg (fun o => e o.2), ttU_ne _ _ _ (by decide), xCar_k _ _ _ (by decide) (by decide)]
        exact hA.2.2 i (by omega)
  have hR : xEntR ρ d x = if xW 1 (τ 4 (x * 4)) = 1 then β 3 x else -1 := by
    unfold xEntR
    rw [e60, hA.1 3 (by omega)]
  have hx1 : sN N (fun y => ind (sSub N p x y)) ≥ 1 := by
    have := sN_ge (g := fun y => ind (sSub N p x y)) N hx
    have e : ind (sSub N p x x) = 1 := ind_1 ⟨hx, Or.inl rfl⟩
    have this : ind (sSub N p x x) ≤ _ := this
    omega
  -- what is below it
  have below : ∃ (k2 : Nat) (ρ2 : ttS) (R : Nat → Prop), k2 + 2 ≤ 2 * sN N (fun y => ind (sSub N p x y)) ∧ xGo k2 (xEntR ρ d x) (xEntS ρ d x) (-1) ρ2 ∧ xAt β ρ2 (d + 1) W ∧ Eff τ N p R (xEntS ρ d x) ρ2 ∧ ¬ R x ∧ ∀ y, (y = x ∨ R y) ↔ (sSub N p x y ∧ yRan τ N tg y = true) := by
    have stop : xEntR ρ d x = -1 → (∀ y, AB p x y → y < N → ¬ yRan τ N tg y = true) → ∃ (k2 : Nat) (ρ2 : ttS) (R : Nat → Prop), k2 + 2 ≤ 2 * sN N (fun y => ind (sSub N p x y)) ∧ xGo k2 (xEntR ρ d x) (xEntS ρ d x) (-1) ρ2 ∧ xAt β ρ2 (d + 1) W ∧ Eff τ N p R (xEntS ρ d x) ρ2 ∧ ¬ R x ∧ ∀ y, (y = x ∨ R y) ↔ (sSub N p x y ∧ yRan τ N tg y = true) := by
      intro e no
      refine ⟨0, xEntS ρ d x, fun _ => False, by omega, ?_, hA1, Eff_id _ (fun _ q => q), id, fun y => ⟨?_, ?_⟩⟩
      · rw [e]; exact xGo_0 _ _
      · rintro (e | e)
        · rw [e]; exact ⟨⟨hx, Or.inl rfl⟩, hr⟩
        · exact e.elim
      · rintro ⟨⟨y1, e | e⟩, y2⟩
        · exact Or.inl e
        · exact absurd y2 (no y e y1)
    rcases tt_c01 (xHs_val hH (j := x * 4) (by omega)) with ⟨o1, o2, -, -⟩ | ⟨o1, o2, o3, -⟩
    · rcases B1.2.1.1 x hx with ⟨e3, -, g⟩ | ⟨a, b, e3, -, a0, a1, -, -, pa, -, g⟩
      · refine stop ?_ ?_
        · rw [hR, if_pos o2, e3]
        · intro y ya yN _
          obtain ⟨z, z0, z1, z2, z3, z4⟩ := AB_child y ya
          exact g z z0 (by omega) z3
      · have ax : x < a := by have := hp a a0 a1; omega
        have hsub := sSub_first hp hx pa (fun j j0 j1 j2 => (g j j0 j1 j2).1)
        obtain ⟨k, ρ2, c1, c2, c3, c4⟩ := ih a ax (d + 1) W x (xEntS ρ d x) a0 a1 hW pa (fun i hi => by
          by_cases e : i = d
          · rw [e, Wd]; exact o1
          · exact hb i (by omega)) hA1
        refine ⟨k, ρ2, _, ?_, ?_, c3, c4, ?_, fun y => ⟨?_, ?_⟩⟩
        · have e := sN_ind (n := N) hsub (fun y q => by have := sSib_gt q.2; have := q.1; omega)
          have e1 : sN N (fun y => ind (y = x)) = 1 := by
            have := sN_one hx (fun _ => 1)
            simpa using this
          omega
        · rw [hR, if_pos o2, e3]; exact c2
        · intro q
          have := sSib_gt q.1
          omega
        · rintro (e | ⟨e1, e2⟩)
          · rw [e]; exact ⟨⟨hx, Or.inl rfl⟩, hr⟩
          · exact ⟨(hsub y).mpr (Or.inr e1), e2⟩
        · rintro ⟨e1, e2⟩
          rcases (hsub y).mp e1 with e | e
          · exact Or.inl e
          · exact Or.inr ⟨e, e2⟩
    · refine stop ?_ ?_
      · rw [hR, o2, if_neg o3]
      · intro y ya yN yr
        exact o1 (yRan_up B1 yN ya yr).2
  obtain ⟨k2, ρ2, R, c1, c2, c3, c4, c5, c6⟩ := below
  have hH2 := xAt_H B1 c3
  have hw2 : ρ2 17 d = nI x := by rw [c3.2.2 d (by omega), Wd]
  have hs : xStep ρ2 (-1) = (β 5 x, xLvS ρ2 d) := by
    unfold xStep
    rw [if_neg (by decide), c3.2.1, nI_clamp (by omega), show d + 1 - 1 = d by omega, hw2, nI_clamp (by omega), c3.1 5 (by omega)]
  have sf : xSafe ρ2 (-1) := ⟨d + 1, c3.2.1, by omega, fun i hi => by rw [c3.2.2 i hi]; exact vp_in_nI (by have := hW.2.2.2.1 i hi; omega) (by decide), fun z => absurd z (by decide)⟩
  refine ⟨1 + k2, xLvS ρ2 d, by omega, xGo_t c2 (xGo_1 c3.2.1 (by omega) (by omega) sf hs), ⟨fun k hk => ?_, ?_, fun i hi => ?_⟩, Eff_c (Eff_cont h24 hx t hH hH2 c4 c5 hw2) c6⟩
  · rw [xLvS_k _ _ (by omega) (by omega) (by omega) (by omega)]; exact c3.1 k hk
  · unfold xLvS
    rw [ttU_ne _ _ _ (by decide), xCar_k _ _ _ (by decide) (by decide), tt_ap, if_pos ⟨rfl, rfl⟩]
  · rw [xLvS_k _ _ (by decide) (by decide) (by decide) (by decide)]; exact c3.2.2 i (by omega)
/-- one node, x, with what is below it -/
theorem xOne {N : Nat} {p : Nat → Nat} {β τ : ttS} {tg : Int32} (B : xBase N p β τ tg) {x : Nat} (ih : ∀ a, x < a → xLP N p β τ tg a) {d : Nat} {w : Nat → Nat} {q : Nat} {ρ : ttS} (x0 : 0 < x) (hx : x < N) (hw : xPW N p d w q) (hq : p x = q) (hb : ∀ i, i < d → τ 4 (w i * 4) ≤ 1) (hA : xAt β ρ d w) : ∃ (k : Nat) (ρ' : ttS), k ≤ 2 * sN N (fun y => ind (sSub N p x y)) ∧ xGo k (nI x) ρ (β 5 x) ρ' ∧ xAt β ρ' d w ∧ Eff τ N p (fun y => sSub N p x y ∧ yRan τ N tg y = true) ρ ρ' := by
  have B' := B
  obtain ⟨B1, B2⟩ := B
  have hT := xTree_y B1
  have h24 := hT.1
  have hp := hT.2.1
  have hH := xAt_H B1 hA
  have d0 := hw.1
  have hd : d ≤ x := by
    have h1 := xPW_le hp hw (d - 1) (by omega)
    have h2 := hp x x0 hx
    rw [hw.2.2.1] at h1
    omega
  have hx1 : sN N (fun y => ind (sSub N p x y)) ≥ 1 := by
    have := sN_ge (g := fun y => ind (sSub N p x y)) N hx
    have e : ind (sSub N p x x) = 1 := ind_1 ⟨hx, Or.inl rfl⟩
    have this : ind (sSub N p x x) ≤ _ := this
    omega
  obtain ⟨-, -, -, -, K, hK, eK⟩ := B1.2.2.1 x (by omega)
  have sf : xSafe ρ (nI x) := ⟨d, hA.2.1, by omega, fun i hi => by rw [hA.2.2 i hi]; exact vp_in_nI (by have := hw.2.2.2.1 i hi; omega) (by decide), fun _ => ⟨vp_in_nI (by omega) (by decide), fun _ _ => by omega, K, hK, by rw [nI_clamp (by omega), hA.1 7 (by omega)]; exact eK⟩⟩
  have hpas : ¬ yPas τ N x 0 = 0 := by
    rw [yPas_spec hT 0 hx]
    intro k hk hab
    obtain ⟨m, m1, m2⟩ := (xPW_x hp hw x0 hx hq k).mp hab
    rw [m2]
    exact hb m m1
  have e5 : ρ 5 = β 5 := hA.1 5 (by omega)
  have e15 : ρ 15 = β 15 := hA.1 15 (by omega)
  have e1 : ρ 1 x = τ 1 x := by rw [hA.1 1 (by omega)]; exact B1.2.2.2.2.1 x (by omega)
  have hst : xStep ρ (nI x) = if β 15 x = 0 then (β 5 x, ρ) else if τ 1 x = 0 then (xEntR ρ d x, xEntS ρ d x) else (β 5 x, xRunT ρ d (ρ 7 x).toNatClampNeg x) := by
    unfold xStep
    rw [if_pos (nI_pos' (by omega)), nI_clamp (by omega), hA.2.1, nI_clamp (by omega), e5, e15, e1]
  by_cases z : β 15 x = 0
  · rw [if_pos z] at hst
    have np : ¬ yPart N τ tg x := fun o => ((B2 x hx).mpr o) z
    refine ⟨1, ρ, by omega, xGo_1 hA.2.1 d0 (by omega) sf hst, hA, Eff_id _ (fun y => ?_)⟩
    rintro ⟨⟨y1, e | e⟩, y2⟩
    · rw [e] at y2; exact np (yRan_iff.mp y2).2
    · exact np (yRan_up B1 y1 e y2).1
  · rw [if_neg z] at hst
    have hr : yRan τ N tg x = true := yRan_iff.mpr ⟨hpas, (B2 x hx).mp z⟩
    by_cases t : τ 1 x = 0
    · rw [if_pos t] at hst
      have hww : ∀ i, i < d → (if i = d then x else w i) = w i := fun i hi => by rw [if_neg (by omega)]
      obtain ⟨k, ρ', c1, c2, c3, c4⟩ := xCont B' ih hx t hr (xPW_more hw x0 hx hq) (fun i hi => by
        show τ 4 ((if i = d then x else w i) * 4) ≤ 1
        rw [hww i hi]; exact hb i hi) (xAt_w hA hww)
      exact ⟨k + 1, ρ', c1, xGo_t (xGo_1 hA.2.1 d0 (by omega) sf hst) c2, xAt_w c3 (fun i hi => (hww i hi).symm), c4⟩
    · rw [if_neg t] at hst
      have t' : ¬ β 1 x = 0 := by rw [B1.2.2.2.2.1 x (by omega)]; exact t
      obtain ⟨f7, -, f8⟩ := B1.2.2.2.2.2.2.2 x hx t'
      have e7 : ρ 7 x = τ 5 x := by rw [hA.1 7 (by omega)]; exact f7
      have hK' : (τ 5 x).toNatClampNeg ≤ 4 := by rw [← f7, eK, nI_clamp (by omega)]; exact hK
      rw [e7] at hst
      have ef := Eff_test hT hw x0 hx hq t hK' hH hA.2.2 (by rw [hA.1 8 (by omega)]; exact f8)
      refine ⟨1, _, by omega, xGo_1 hA.2.1 d0 (by omega) sf hst, ⟨fun k hk => ?_, ?_, fun i hi => ?_⟩, Eff_c ef (fun y => ⟨fun e => ?_, ?_⟩)⟩
      · rw [xRunT_k _ _ _ _ (by omega) (by omega) (by omega) (by omega) (by omega)]; exact hA.1 k hk
      · rw [xRunT_k _ _ _ _ (by decide) (by decide) (by decide) (by decide) (by decide)]; exact hA.2.1
      · rw [xRunT_k _ _ _ _ (by decide) (by decide) (by decide) (by decide) (by decide)]; exact hA.2.2 i hi
      · rw [e]; exact ⟨⟨hx, Or.inl rfl⟩, hr⟩
      · rintro ⟨⟨y1, e | e⟩, -⟩
        · exact e
        · exact absurd (xTree_cont B1 y1 e) t
theorem xLP_all {N : Nat} {p : Nat → Nat} {β τ : ttS} {tg : Int32} (B : xBase N p β τ tg) (n : Nat) : ∀ x, N ≤ x + n → xLP N p β τ tg x := by
  induction n with
  | zero => intro x h d w q ρ _ hx; omega
  | succ n ih =>
    intro x h d w q ρ x0 hx hw hq hb hA
    have B' := B
    obtain ⟨B1, B2⟩ := B
    have hT := xTree_y B1
    have hp := hT.2.1
    obtain ⟨k, ρ', c1, c2, c3, c4⟩ := xOne B' (fun a ha => ih a (by omega)) x0 hx hw hq hb hA
    rcases B1.2.1.2.1 x x0 hx with ⟨e5, g⟩ | ⟨b, e5, b1, b2, pb, g⟩
    · rw [e5] at c2
      have hs := sSib_last x0 hx g
      refine ⟨k, ρ', ?_, c2, c3, Eff_c c4 (fun y => by rw [hs y])⟩
      have e : (fun y => ind (sSib N p x y)) = (fun y => ind (sSub N p x y)) := funext (fun y => ind_c (hs y))
      rw [e]; exact c1
    · rw [e5] at c2
      have hs := sSib_next x0 hx b1 pb g
      have hdis : ∀ y, ¬ (sSub N p x y ∧ sSib N p b y) := fun y => sSib_dis hp x0 hx b1 pb
      obtain ⟨k', ρ2, d1, d2, d3, d4⟩ := ih b (by omega) d w q ρ' (by omega) b2 hw (by rw [pb, hq]) hb c3
      refine ⟨k' + k, ρ2, ?_, xGo_t c2 d2, d3, Eff_c (Eff_comp c4 d4 (fun y o => hdis y ⟨o.1.1, o.2.1⟩)) (fun y => ?_)⟩
      · have e := sN_ind (n := N) hs hdis
        omega
      · rw [hs y]
        exact ⟨fun o => o.elim (fun o => ⟨Or.inl o.1, o.2⟩) (fun o => ⟨Or.inr o.1, o.2⟩), fun o => o.1.elim (fun u => Or.inl ⟨u, o.2⟩) (fun u => Or.inr ⟨u, o.2⟩)⟩
theorem xWalk_end {ρ : ttS} (h : ρ 16 0 = nI 0) (f : Nat) (nx : Int32) : xWalk f nx ρ = ρ ∧ xOK f nx ρ := by
  have h' : ρ 16 0 ≤ 0 := by rw [h]; decide
  cases f with
  | zero => exact ⟨rfl, trivial⟩
  | succ f =>
    rw [xWalk, if_pos h', xOK]
    exact ⟨rfl, fun q => absurd h' q⟩
/-- the walk whole -/
theorem xWalk_all {N : Nat} {p : Nat → Nat} {β τ : ttS} {tg : Int32} (B : xBase N p β τ tg) (h : ¬ β 15 0 = 0) : xWalkOK β ∧ Eff τ N p (fun y => y < N ∧ yRan τ N tg y = true) β (xWalkS β) := by
  have B' := B
  obtain ⟨B1, B2⟩ := B
  have hT := xTree_y B1
  have h24 := hT.1
  have hp := hT.2.1
  have hN : 0 < N := B1.1.2.1
  have t : τ 1 0 = 0 := by rw [← B1.2.2.2.2.1 0 (by omega)]; exact B1.1.2.2.2.2
  have hr : yRan τ N tg 0 = true := yRan_iff.mpr ⟨by rw [yPas_spec hT 0 hN]; exact fun k _ o => absurd o AB_0, (B2 0 hN).mp h⟩
  have hA : xAt β (ttU β 16 0 0) 0 (fun _ => 0) := ⟨fun k hk => ttU_ne _ _ _ (by omega), by rw [tt_ap, if_pos ⟨rfl, rfl⟩]; rfl, fun i hi => by omega⟩
  obtain ⟨k, ρ', c1, c2, c3, c4⟩ := xCont B' (x := 0) (fun a ha => xLP_all B' N a (by omega)) hN t hr (d := 0) (W := fun _ => 0) (ρ := ttU β 16 0 0) ⟨by omega, rfl, rfl, fun _ _ => hN, fun i hi => by omega⟩ (fun i hi => by omega) hA
  have hs : ∀ y, sSub N p 0 y ↔ y < N := by
    intro y
    refine ⟨fun o => o.1, fun o => ⟨o, ?_⟩⟩
    rcases Nat.eq_zero_or_pos y with e | e
    · exact Or.inl e
    · exact Or.inr (AB_root hp y e o)
  have hk := sN_le (g := fun y => ind (sSub N p 0 y)) (fun y => ind_le _) N
  obtain ⟨f, hf⟩ : ∃ f, 64 = f + k := ⟨64 - k, by omega⟩
  obtain ⟨e1, e2⟩ := c2 f
  obtain ⟨e3, e4⟩ := xWalk_end c3.2.1 f (β 5 0)
  have eS : xWalkS β = ρ' := by
    unfold xWalkS
    rw [hf, e1, e3]
  constructor
  · unfold xWalkOK
    rw [hf]
    exact e2 e4
  · rw [eS]
    exact Eff_c c4 (fun y => by rw [hs y])
end
section
/-! the run: component and reference agree -/
theorem xR_0 (σ : ttS) : (∀ x, x < 24 → xReset σ 11 x = 0) ∧ (∀ x, x < 24 → xReset σ 13 x = 0) ∧ (∀ j, j < 96 → xReset σ 12 j = 0) ∧ xReset σ 14 0 = 0 := by
  have a : ∀ n, ∀ x, x < n → xR1 σ n 11 x = 0 ∧ xR1 σ n 13 x = 0 := by
    intro n
    induction n with
    | zero => intro x h; omega
    | succ n ih =>
      intro x hx
      rw [xR1]
      by_cases z : x = n
      · simp [tt_ap, z]
      · obtain ⟨q1, q2⟩ := ih x (by omega)
        simp [tt_ap, z, q1, q2]
  have b : ∀ (ρ : ttS) n, ∀ j, j < n → xR2 ρ n 12 j = 0 := by
    intro ρ n
    induction n with
    | zero => intro x h; omega
    | succ n ih =>
      intro x hx
      rw [xR2]
      by_cases z : x = n
      · simp [tt_ap, z]
      · simp [tt_ap, z, ih x (by omega)]
  unfold xReset
  refine ⟨fun x hx => ?_, fun x hx => ?_, fun j hj => ?_, ?_⟩
  · rw [ttU_ne _ _ _ (by decide), xR2_k _ _ (by decide)]; exact (a 24 x hx).1
  · rw [ttU_ne _ _ _ (by decide), xR2_k _ _ (by decide)]; exact (a 24 x hx).2
  · rw [ttU_ne _ _ _ (by decide)]; exact b _ 96 j hj
  · rw [tt_ap, if_pos ⟨rfl, rfl⟩]
theorem yRes_q (τ : ttS) (N x : Nat) : ∃ q : Nat, q ≤ 3 ∧ yRes τ N x = nI q := by
  have w : ∀ a b : Int32, ∃ q : Nat, q ≤ 3 ∧ xW a b = nI q := by
    intro a b
    unfold xW
    split
    · exact ⟨2, by decide, rfl⟩
    · split
      · exact ⟨2, by decide, rfl⟩
      · split
        · exact ⟨3, by decide, rfl⟩
        · split
          · exact ⟨3, by decide, rfl⟩
          · exact ⟨1, by decide, rfl⟩
  have o : ∀ i, ∃ q : Nat, q ≤ 3 ∧ yOut τ N x i = nI q := by
    intro i
    unfold yOut
    split
    · split
      · exact ⟨1, by decide, rfl⟩
      · exact ⟨3, by decide, rfl⟩
    · exact ⟨2, by decide, rfl⟩
  have y : ∀ f i n r, (∃ q : Nat, q ≤ 3 ∧ r = nI q) → ∃ q : Nat, q ≤ 3 ∧ (yTry τ N x f i n r).2 = nI q := by
    intro f
    induction f with
    | zero => intro i n r h; exact h
    | succ f ih =>
      intro i n r h
      rw [yTry]
      split
      · exact ih _ _ _ (o i)
      · exact ih _ _ _ h
  unfold yRes
  split
  · exact w _ _
  · exact y _ _ _ _ ⟨2, by decide, rfl⟩
theorem yFin_spec {N : Nat} {p : Nat → Nat} {σ τ : ttS} (h : xTree N p σ τ) (tg : Int32) {c v : Nat} (hv : v < 4) : nI (sN N (fun y => ind (y < N ∧ yRan τ N tg y = true) * yEE τ N p y c v)) = yFin τ N tg c v := by
  have hT := xTree_y h
  have h24 := hT.1
  unfold yFin
  by_cases a : c < N
  · rw [if_pos a]
    by_cases b : τ 1 c = 0 ∧ 2 ≤ v
    · rw [if_pos b]
      have E : ∀ y, y < N → yEE τ N p y c v = if yPas τ N c 2 = 0 then 0 else if τ 4 (c * 4 + v) = 0 then 0 else if yAb τ c y = 0 then 0 else yMad τ N y := by
        intro y hy
        unfold yEE
        by_cases t : τ 1 y = 0
        · have hm : yMad τ N y = 0 := by unfold yMad; rw [if_pos t]
          rw [if_pos t, hm, ind_0 (fun o => by have := o.2.1; omega)]
          simp
        · rw [if_neg t]
          unfold yE1
          by_cases p1 : yPas τ N c 2 = 0
          · rw [if_pos p1, ind_0 (fun o => o.elim (fun u => by have := u.2.1; omega) (fun u => u.2.2.1 p1)), Nat.mul_zero]
          · rw [if_neg p1]
            by_cases p2 : τ 4 (c * 4 + v) = 0
            · rw [if_pos p2, ind_0 (fun o => o.elim (fun u => by have := u.2.1; omega) (fun u => u.2.2.2 p2)), Nat.mul_zero]
            · rw [if_neg p2]
              by_cases p3 : yAb τ c y = 0
              · rw [if_pos p3, ind_0 (fun o => o.elim (fun u => by have := u.2.1; omega) (fun u => (yAb_spec0 hT (by omega) hy).mp p3 u.1)), Nat.mul_zero]
              · rw [if_neg p3, ind_1 (Or.inr ⟨(yAb_spec hT (by omega) hy).mp p3, b.2, p1, p2⟩), Nat.mul_one]
      by_cases p1 : yPas τ N c 2 = 0
      · rw [if_pos p1, sN_0 N (fun y hy => by show _ * yEE τ N p y c v = 0; rw [E y hy, if_pos p1, Nat.mul_zero])]; rfl
      · rw [if_neg p1]
        by_cases p2 : τ 4 (c * 4 + v) = 0
        · rw [if_pos p2, sN_0 N (fun y hy => by show _ * yEE τ N p y c v = 0; rw [E y hy, if_neg p1, if_pos p2, Nat.mul_zero])]; rfl
        · rw [if_neg p2]
          congr 1
          refine sN_c N (fun y hy => ?_)
          show ind _ * yEE τ N p y c v = if yAb τ c y = 0 then 0 else if yRan τ N tg y = true then yMad τ N y else 0
          rw [E y hy, if_neg p1, if_neg p2]
          by_cases p3 : yAb τ c y = 0
          · rw [if_pos p3, if_pos p3, Nat.mul_zero]
          · rw [if_neg p3, if_neg p3]
            by_cases r : yRan τ N tg y = true
            · rw [if_pos r, ind_1 ⟨hy, r⟩, Nat.one_mul]
            · rw [if_neg r, ind_0 (fun o => r o.2), Nat.zero_mul]
    · rw [if_neg b, sN_1 (c := c) N a (fun y hy hne => ?_)]
      · show nI (ind (c < N ∧ yRan τ N tg c = true) * yEE τ N p c c v) = _
        by_cases r : yRan τ N tg c = true
        · rw [if_pos r, ind_1 ⟨a, r⟩, Nat.one_mul]
          unfold yEE yOwnC
          by_cases t : τ 1 c = 0
          · rw [if_pos t, if_pos t, if_pos (show v = 0 ∨ v = 1 by have : ¬ 2 ≤ v := fun o => b ⟨t, o⟩; omega)]
            by_cases z : τ 4 (c * 4 + v) = 0
            · rw [if_pos z, ind_0 (fun o => o.2.2 z)]; rfl
            · rw [if_neg z, ind_1 ⟨rfl, by have : ¬ 2 ≤ v := fun o => b ⟨t, o⟩; omega, z⟩]; rfl
          · rw [if_neg t, if_neg t]
            unfold yE1
            have no : ¬ AB p c c := fun o => by have := AB_lt _ o; omega
            by_cases z : v = 0
            · rw [if_pos z]
              by_cases p1 : yPas τ N c 2 = 0
              · rw [if_pos p1, ind_0 (fun o => o.elim (fun u => u.2.2 p1) (fun u => no u.1)), Nat.mul_zero]; rfl
              · rw [if_neg p1, ind_1 (Or.inl ⟨rfl, z, p1⟩), Nat.mul_one]
            · rw [if_neg z, ind_0 (fun o => o.elim (fun u => z u.2.1) (fun u => no u.1)), Nat.mul_zero]; rfl
        · rw [if_neg r, ind_0 (fun o => r o.2), Nat.zero_mul]; rfl
      · have e0 : yEE τ N p y c v = 0 := by
          unfold yEE
          by_cases t : τ 1 y = 0
          · rw [if_pos t, ind_0 (fun o => hne o.1.symm)]
          · rw [if_neg t]
            unfold yE1
            rw [ind_0 (fun o => o.elim (fun u => hne u.1.symm) (fun u => b ⟨xTree_cont h hy u.1, u.2.1⟩)), Nat.mul_zero]
        show _ * yEE τ N p y c v = 0
        rw [e0, Nat.mul_zero]
  · rw [if_neg a, sN_0 N (fun y hy => ?_)]
    · rfl
    · have e0 : yEE τ N p y c v = 0 := by
        unfold yEE
        by_cases t : τ 1 y = 0
        · rw [if_pos t, ind_0 (fun o => by have := o.1; omega)]
        · rw [if_neg t]
          unfold yE1
          rw [ind_0 (fun o => o.elim (fun u => by have := u.1; omega) (fun u => by have := AB_lt _ u.1; omega)), Nat.mul_zero]
      show _ * yEE τ N p y c v = 0
      rw [e0, Nat.mul_zero]
theorem tr_run {N : Nat} {p : Nat → Nat} {σ τ : ttS} (T : TR0 N p σ τ) (tg : Int32) : (¬ xPick σ N tg 15 0 = 0 → xWalkOK (xPick σ N tg)) ∧ xRunR σ N tg = yRunR τ N tg ∧ TR (xRunS σ N tg) (yRunS τ N tg) := by
  obtain ⟨T1, T2, T3, T4, T5, T6⟩ := T
  have h24 := T1.2.2.1
  have hN : 0 < N := T1.2.1
  have X : xTree N p σ τ := ⟨T1, T2, T3, T4, T5⟩
  have XR : xTree N p (xReset σ) τ := xTree_c X (fun k hk => xReset_k σ (by omega) (by omega) (by omega) (by omega))
  have B : xBase N p (xPick σ N tg) τ tg := ⟨xTree_c X (fun k hk => xPick_k σ N tg hk), fun x hx => xChoose_spec XR tg hx⟩
  have hT := xTree_y X
  have hp := hT.2.1
  obtain ⟨z11, z13, z12, z14⟩ := xR_0 σ
  have k11 : ∀ x, x < 24 → xPick σ N tg 11 x = 0 := fun x hx => by unfold xPick; rw [xChoose_k _ _ _ (by decide)]; exact z11 x hx
  have k13 : ∀ x, x < 24 → xPick σ N tg 13 x = 0 := fun x hx => by unfold xPick; rw [xChoose_k _ _ _ (by decide)]; exact z13 x hx
  have k12 : ∀ x, x < 96 → xPick σ N tg 12 x = 0 := fun x hx => by unfold xPick; rw [xChoose_k _ _ _ (by decide)]; exact z12 x hx
  have k14 : xPick σ N tg 14 0 = 0 := by unfold xPick; rw [xChoose_k _ _ _ (by decide)]; exact z14
  have tot : xTot (xPick σ N tg) := by
    unfold xTot
    have : ∀ n, n ≤ 96 → xSum (xPick σ N tg) n = 0 := by
      intro n
      induction n with
      | zero => intro _; rfl
      | succ n ih => intro hn; rw [xSum, ih (by omega), k12 n (by omega)]; rfl
    rw [k14, this 96 (Nat.le_refl 96)]
  have main : (¬ xPick σ N tg 15 0 = 0 → xWalkOK (xPick σ N tg)) ∧ Eff τ N p (fun y => y < N ∧ yRan τ N tg y = true) (xPick σ N tg) (xRunS σ N tg) ∧ xTot (xRunS σ N tg) := by
    unfold xRunS
    by_cases z : xPick σ N tg 15 0 = 0
    · rw [if_pos z]
      refine ⟨fun q => absurd z q, Eff_id _ (fun y => ?_), tot⟩
      rintro ⟨y1, y2⟩
      have np : ¬ yPart N τ tg 0 := fun o => ((B.2 0 hN).mpr o) z
      rcases Nat.eq_zero_or_pos y with e | e
      · rw [e] at y2; exact np (yRan_iff.mp y2).2
      · exact np (yRan_up X y1 (AB_root hp y e y1) y2).1
    · rw [if_neg z]
      obtain ⟨w1, w2⟩ := xWalk_all B z
      refine ⟨fun _ => w1, w2, ?_⟩
      unfold xWalkS
      refine xWalk_tot 64 _ _ w1 (xEntS_tot (xTot_c tot ?_ ?_) (by decide) 0)
      · exact ttU_ne _ _ _ (by decide)
      · exact ttU_ne _ _ _ (by decide)
  obtain ⟨m1, ⟨m2, m3, m4, m5⟩, m6⟩ := main
  obtain ⟨r8, r10, r9⟩ := yRunS_spec τ tg h24
  have hy : ∀ k, k < 8 → yRunS τ N tg k = τ k := fun k hk => yRunS_k τ N tg hk
  have e9 : ∀ j, j < 96 → xRunS σ N tg 12 j = yRunS τ N tg 9 j := by
    intro j hj
    have ej : j = (j / 4) * 4 + j % 4 := by omega
    rw [ej, m5 (j / 4) (j % 4) (by omega) (by omega), k12 _ (by omega), r9 (j / 4) (j % 4) (by omega) (by omega), yFin_spec X tg (by omega), Int32.zero_add]
  have N0 : TR0 N p (xRunS σ N tg) (yRunS τ N tg) := by
    have X' : xTree N p (xRunS σ N tg) τ := xTree_c X (fun k hk => xRunS_k σ N tg hk)
    obtain ⟨Y1, Y2, Y3, Y4, Y5⟩ := X'
    refine ⟨Y1, Y2, Y3, ?_, ?_, ?_, e9, ?_⟩
    · unfold trY at Y4 ⊢
      rw [hy 0 (by decide), hy 2 (by decide), hy 5 (by decide), hy 6 (by decide)]
      exact Y4
    · unfold trE at Y5 ⊢
      rw [hy 1 (by decide), hy 3 (by decide), hy 4 (by decide), hy 5 (by decide), hy 6 (by decide), hy 7 (by decide)]
      exact Y5
    · intro j hj
      rw [r8 j hj, r10 j hj, m4 j, k13 j hj, Int32.zero_add]
      by_cases z : j < N ∧ yRan τ N tg j = true
      · rw [if_pos z, if_pos z, m2 j z, ind_1 z, Nat.one_mul]
        exact ⟨rfl, rfl, yRes_q τ N j⟩
      · rw [if_neg z, if_neg z, m3 j z, k11 j hj, ind_0 z, Nat.zero_mul]
        exact ⟨rfl, rfl, 0, by decide, rfl⟩
    · unfold xTot at m6
      rw [m6]
      have : ∀ n, n ≤ 96 → xSum (xRunS σ N tg) n = ySum (yRunS τ N tg) n := by
        intro n
        induction n with
        | zero => intro _; rfl
        | succ n ih => intro hn; rw [xSum, ySum, ih (by omega), e9 n (by omega)]
      exact this 96 (Nat.le_refl 96)
  refine ⟨m1, ?_, N, p, N0⟩
  unfold xRunR yRunR
  exact tr_cnt N0 2
end
section
set_option maxRecDepth 100000
/-! THE CLAIM OUT OF ONE WALK OF THE LAW'S BODY. Your part is whole_start (and what it stands on); all else here is the same for every law, but numbers. -/
def R_law : String := "TestTreeRunnerLaw"
def lw_P (b : Addr) (xs : List Int32) (args : Array Value) (s : State) : Prop := args = #[.ref b] ∧ s.IntsAt b xs ∧ xs.length ≤ 256 ∧ (Jvm.Cond.and given_1 narrow_1).before args s = true
def lw_Q (_ : Array Value) (s : State) (o : Outcome) (t : State) : Prop := o = .returned (some (.int 1)) ∧ Framed s o t [] 600000 7290000
def lw_Z (below : List Frame) (a : Array Value) (s : State) : State → Prop := fun t => ∃ o, t.status = .running ∧ Ended t below o ∧ lw_Q a s o t
/-- the law's own end, with 1 on the stack, nothing written that was there before, its room as the claim has it -/
theorem lw_ret {p : Program} {l : Launch} {e : Env} {s : State} {m : MethodId} {below : List Frame} {meth : Method} {c : Code} {b : Nat} (hx : p.tables.exec = Jvm.exec) (hb : c.code = code) (hr : meth.sig.returnType = ret) (hlocks : meth.locks = false) {pc : Nat} {H : Heap} {ls : Array Slot} (hdg : decode code pc = .ok (.ireturn, 1)) : W p l e room_1 s m #[Value.ref b] below meth c H [] 600000 7290000 (lw_Z below #[Value.ref b] s) (F0 m pc ls [.int 1]) := by
  intro T hT X
  obtain ⟨fs, hret, hrun, hended, hW, hframe⟩ := X.leave (v := some (.int 1)) (hlocks := hlocks) (fun h => by rw [hr] at h; cases h)
  have hmeth' : T.vm.method? m = some meth := X.method'
  refine ⟨T.setFrames fs, ?_, .returned (some (.int 1)), hrun, hended, rfl, ⟨_, rfl⟩, hW, hframe⟩
  jvm_step X.here [X.here.top, hx, hb, hdg, hmeth', hr, ret, narrow_b1]
  (try refine ⟨rfl, ?_⟩); (try refine ⟨rfl, ?_⟩)
  first | (intro acts; rw [hret _ acts rfl rfl rfl]) | rw [hret _ _ rfl rfl rfl]
  exact Steps.refl _
/-- what holds at the law's entry: the machine, the code, the tables' words (any of lw_tbl by 'hts w (by decide +kernel)'), the script of L ints xs at the cell b, what the Statement gives of the start (any of its parts by flat_of_before) -/
def lw_At (p : Program) (s : State) (m : MethodId) (meth : Method) (c : Code) (b L : Nat) (xs : Nat → Int32) : Prop :=
  p.tables.exec = Jvm.exec ∧ c.code = code ∧ meth.sig.returnType = ret ∧ c.maxLocals = 4 ∧ s.vm.findClass R_law = some m.cls ∧ (∀ w ∈ lw_tbl, w.before #[Value.ref b] s = true) ∧ va_X b L xs s s.heap ∧ b < s.heap.size ∧ meth.locks = false ∧ (Jvm.Cond.and given_1 narrow_1).before #[Value.ref b] s = true

def cL (h : Nat → Nat) (d : Nat → ClassId) (g : Nat → Nat) (k : Nat → ClassId) (σ τ : ttS) : va_W := cX h d σ ++ cY g k τ
def bL (D : va_G) (A : Nat → Prop) (h : Nat → Nat) (d : Nat → ClassId) (g : Nat → Nat) (k : Nat → ClassId) (σ τ : ttS) (s : State) (H : Heap) (locs : List Loc) : Prop := va_K D vwCl (tX d ++ tY k) s ∧ va_P D vwCl (cX h d σ ++ cY g k τ) H ∧ va_D A (cX h d σ ++ cY g k τ) ∧ va_S A s.heap H locs
section
variable {p : Program} {l : Launch} {e : Env} {R : Room} {s : State} {m : MethodId} {args : Array Value} {below : List Frame} {meth : Method} {c : Code} {H : Heap} {locs : List Loc} {cells slots : Nat} {Q : State → Prop}
variable {pc : Nat} {ls : Array Slot} {rest : List Value} {D : va_G} {A : Nat → Prop} {h : Nat → Nat} {d : Nat → ClassId} {g : Nat → Nat} {k : Nat → ClassId} {σ τ : ttS} {cc : ByteArray} {nL : Nat}
theorem l_callX (S : CallFix p m c cc nL s args lw_all R_law) (hI : bL D A h d g k σ τ s H locs) (hA : ∀ q : Nat, s.heap.size ≤ q → A q) {y : MethodName} {cc' : ByteArray} {L' : Nat} {rm : Room} (as : List Value) {σ' : ttS} {rv : Int32} {ret : Option FieldType} (hM : MX l y cc' L' ret rm as σ rv σ') {idx n : Nat} (hw : GoodIn lw_all (wsV R_law idx RX0 y (ws_ y cc' L' ret))) (hrc : rm.cells = 0) (hrs : rm.slots = 0) (hd : y.cls = RX0 ∧ y.cls ≠ "java/lang/invoke/MethodHandle" ∧ y.cls ≠ "java/lang/invoke/VarHandle" ∧ (parseMethodDescriptor y.desc).map (fun d => d.parameters.length) = some n) (hR : rm.frames + 1 ≤ R.frames ∧ 8 + (L' + 11) + rm.locals ≤ R.locals) (hn : as.length = n) (hls : ls.size = nL) {st : List Value} (hst : st = as.reverse ++ .ref (h 0) :: rest) (hW : (rest.map fun v => v.category).sum ≤ 8) (hdg : decode cc pc = .ok (.invokevirtual idx, 3)) (hf : cells ≤ R.cells ∧ slots ≤ R.slots) (kk : ∀ (H1 : Heap) (locs1 : List Loc), bL D A h d g k σ' τ s H1 locs1 → W p l e R s m args below meth c H1 locs1 cells slots Q (F0 m (pc + 3) ls (.int rv :: rest))) : W p l e R s m args below meth c H locs cells slots Q (F0 m pc ls st) := by
  subst hst
  obtain ⟨hK, hP, hD, hS⟩ := hI
  have hPc := hP.sub (ws' := cX h d σ) [0, 1, 2, 3, 4, 5, 6, 7, 8, 9, 10, 11, 12, 13, 14, 15] rfl
  have hDc := hD.sub (ws' := cX h d σ) [0, 1, 2, 3, 4, 5, 6, 7, 8, 9, 10, 11, 12, 13, 14, 15] (by decide) rfl
  have hKc := hK.sub (tys' := tX d) [0, 1, 2, 3, 4, 5, 6, 7, 8, 9, 10, 11, 12, 13, 14] rfl
  have hFc := va_free (wc := cX h d σ) hD hS hA [0, 1, 2, 3, 4, 5, 6, 7, 8, 9, 10, 11, 12, 13, 14, 15] rfl
  refine va_calli (va_runV (As := as) (rest := rest) S (hM D h d H.size) (cwV n S.2.2.2.2 hw rfl hrc hrs hd hR) ⟨fun a U g mk q => by obtain ⟨q0, q1, qP, qK, qD⟩ := q; exact ⟨q0, q1, qP, va_K.moved (u := U) (U := U.calling g mk a) (Vm.Alike.refl U.vm) qK, qD⟩, va_recv hKc hPc (ci := 0) (q0 := 0) rfl rfl, fun U hU hW => ⟨rfl, by rw [hU], by rw [hU]; exact hPc, va_K.moved hW.alike hKc, hDc.weaken (fun _ _ _ _ => trivial)⟩⟩ rfl hn hls rfl (lv_room hW) hdg hf) hS (fun q _ h => hFc q h) hFc (fun r u t H1 locs1 ht hvm hw1 hB hz1 hk1 hS1 => ?_)
  obtain ⟨rfl, rfl⟩ := hw1
  obtain ⟨hP1, hK1, hD1⟩ := hB
  rw [ht] at hP1
  obtain ⟨hP, hD⟩ := va_join (wr := cY g k τ) (w1 := cX h d u) hP hD [0, 1, 2, 3, 4, 5, 6, 7, 8, 9, 10, 11, 12, 13, 14, 15] [16, 17, 18, 19, 20, 21, 22, 23, 24, 25, 26] rfl rfl (by decide) (by decide) hk1 hFc hP1 hD1
  exact kk H1 locs1 ⟨hK, hP.sub [11, 12, 13, 14, 15, 16, 17, 18, 19, 20, 21, 22, 23, 24, 25, 26, 0, 1, 2, 3, 4, 5, 6, 7, 8, 9, 10] rfl, hD.sub [11, 12, 13, 14, 15, 16, 17, 18, 19, 20, 21, 22, 23, 24, 25, 26, 0, 1, 2, 3, 4, 5, 6, 7, 8, 9, 10] (by decide) rfl, hS1⟩
theorem l_callY (S : CallFix p m c cc nL s args lw_all R_law) (hI : bL D A h d g k σ τ s H locs) (hA : ∀ q : Nat, s.heap.size ≤ q → A q) {y : MethodName} {cc' : ByteArray} {L' : Nat} {rm : Room} (as : List Value) {τ' : ttS} {rv : Int32} {ret : Option FieldType} (hM : MY l y cc' L' ret rm as τ rv τ') {idx n : Nat} (hw : GoodIn lw_all (wsV R_law idx RX1 y (ws_ y cc' L' ret))) (hrc : rm.cells = 0) (hrs : rm.slots = 0) (hd : y.cls = RX1 ∧ y.cls ≠ "java/lang/invoke/MethodHandle" ∧ y.cls ≠ "java/lang/invoke/VarHandle" ∧ (parseMethodDescriptor y.desc).map (fun d => d.parameters.length) = some n) (hR : rm.frames + 1 ≤ R.frames ∧ 8 + (L' + 11) + rm.locals ≤ R.locals) (hn : as.length = n) (hls : ls.size = nL) {st : List Value} (hst : st = as.reverse ++ .ref (g 0) :: rest) (hW : (rest.map fun v => v.category).sum ≤ 8) (hdg : decode cc pc = .ok (.invokevirtual idx, 3)) (hf : cells ≤ R.cells ∧ slots ≤ R.slots) (kk : ∀ (H1 : Heap) (locs1 : List Loc), bL D A h d g k σ τ' s H1 locs1 → W p l e R s m args below meth c H1 locs1 cells slots Q (F0 m (pc + 3) ls (.int rv :: rest))) : W p l e R s m args below meth c H locs cells slots Q (F0 m pc ls st) := by
  subst hst
  obtain ⟨hK, hP, hD, hS⟩ := hI
  have hPc := hP.sub (ws' := cY g k τ) [16, 17, 18, 19, 20, 21, 22, 23, 24, 25, 26] rfl
  have hDc := hD.sub (ws' := cY g k τ) [16, 17, 18, 19, 20, 21, 22, 23, 24, 25, 26] (by decide) rfl
  have hKc := hK.sub (tys' := tY k) [15, 16, 17, 18, 19, 20, 21, 22, 23, 24] rfl
  have hFc := va_free (wc := cY g k τ) hD hS hA [16, 17, 18, 19, 20, 21, 22, 23, 24, 25, 26] rfl
  refine va_calli (va_runV (As := as) (rest := rest) S (hM D g k H.size) (cwV n S.2.2.2.2 hw rfl hrc hrs hd hR) ⟨fun a U g mk q => by obtain ⟨q0, q1, qP, qK, qD⟩ := q; exact ⟨q0, q1, qP, va_K.moved (u := U) (U := U.calling g mk a) (Vm.Alike.refl U.vm) qK, qD⟩, va_recv hKc hPc (ci := 1) (q0 := 0) rfl rfl, fun U hU hW => ⟨rfl, by rw [hU], by rw [hU]; exact hPc, va_K.moved hW.alike hKc, hDc.weaken (fun _ _ _ _ => trivial)⟩⟩ rfl hn hls rfl (lv_room hW) hdg hf) hS (fun q _ h => hFc q h) hFc (fun r u t H1 locs1 ht hvm hw1 hB hz1 hk1 hS1 => ?_)
  obtain ⟨rfl, rfl⟩ := hw1
  obtain ⟨hP1, hK1, hD1⟩ := hB
  rw [ht] at hP1
  obtain ⟨hP, hD⟩ := va_join (wr := cX h d σ) (w1 := cY g k u) hP hD [16, 17, 18, 19, 20, 21, 22, 23, 24, 25, 26] [0, 1, 2, 3, 4, 5, 6, 7, 8, 9, 10, 11, 12, 13, 14, 15] rfl rfl (by decide) (by decide) hk1 hFc hP1 hD1
  exact kk H1 locs1 ⟨hK, hP, hD, hS1⟩
theorem l_sld {b L : Nat} {xs : Nat → Int32} (S : CallFix p m c cc nL s args lw_all R_law) (hX : va_X b L xs s s.heap) (hbl : b < s.heap.size) (hbA : ¬ A b) (hS : va_S A s.heap H locs) {j : Nat} (hj : j < L) (hL : L ≤ 256) (hdg : decode cc pc = .ok (.iaload, 1)) (kk : W p l e R s m args below meth c H locs cells slots Q (F0 m (pc + 1) ls (.int (xs j) :: rest))) : W p l e R s m args below meth c H locs cells slots Q (F0 m pc ls (.int (nI j) :: .ref b :: rest)) := by
  refine va_sld S.1 S.2.1 hX hbl hbA hS (vp_in_nI hj (by omega)) hdg ?_
  rw [nI_clamp (by omega)]
  exact kk
end
theorem tt_len {L i : Nat} (hL : L ≤ 256) (hi : i ≤ 256) : nI L - 4 < nI i ↔ ¬ i + 4 ≤ L := by
  have e : (nI L - 4).toInt = (L : Int) - 4 := pk_sub_toInt (b := 4) (by omega) (by decide)
  rw [Int32.lt_iff_toInt_lt, e, nI_toInt (by omega)]
  omega
theorem tt_add4 (a : Nat) : nI a + Int32.ofInt 4 = nI (a + 4) := nI_add a 4
set_option maxHeartbeats 8000000 in
theorem law_loop {p : Program} {l : Launch} {e : Env} {s : State} {m : MethodId} {below : List Frame} {meth : Method} {c : Code} {b L : Nat} {xs : Nat → Int32} {D : va_G} {h g : Nat → Nat} {d k : Nat → ClassId} (hL : L ≤ 256) (S : CallFix p m c cL_law 4 s #[Value.ref b] lw_all R_law) (hr : meth.sig.returnType = ret) (hlocks : meth.locks = false) (hX : va_X b L xs s s.heap) (hbl : b < s.heap.size) : ∀ (f i : Nat) (σ τ : ttS) (H : Heap) (locs : List Loc) (ls : Array Slot), i ≤ L → L < i + f → TR σ τ → bL D (fun q : Nat => s.heap.size ≤ q) h d g k σ τ s H locs → lv_has ls 4 [(3, .int (nI i)), (2, .ref (g 0)), (1, .ref (h 0)), (0, .ref b)] → W p l e room_1 s m #[Value.ref b] below meth c H locs 27 918 (lw_Z below #[Value.ref b] s) (F0 m 18 ls []) := by
  have hx := S.1
  have hb := S.2.1
  have hA : ∀ q : Nat, s.heap.size ≤ q → (fun q : Nat => s.heap.size ≤ q) q := fun _ h => h
  have hbA : ¬ (fun q : Nat => s.heap.size ≤ q) b := Nat.not_le.mpr hbl
  intro f
  induction f with
  | zero =>
    intro i σ τ H locs ls h1 h2
    exact absurd h2 (by omega)
  | succ f ih =>
    intro i σ τ H locs ls hi hif hTR hI hl
    refine lv_iload_n hx hb dL_law_18 rfl (lv_at hl 0 rfl) ?_
    refine lv_aload_n hx hb dL_law_19 rfl (lv_at hl 3 rfl) ?_
    refine va_slen hx hb hX hbl hbA hI.2.2.2 dL_law_20 ?_
    refine lv_iconst (v := 4) hx hb dL_law_21 (by decide) ?_
    refine lv_isub hx hb dL_law_22 ?_
    refine lv_icmp_gt (tgt := 454) hx hb dL_law_23 (by decide) (fun c_23 => ?_) (fun c_23 => ?_)
    · refine lv_iconst (v := 1) hx hb dL_law_454 (by decide) ?_
      refine va_forget hI.2.2.2.2.2 ?_
      refine W.widen (k := 600000) (n := 7290000) (by decide) (by decide) ?_
      exact lw_ret hx hb hr hlocks dL_law_455
    · have hi4 : i + 4 ≤ L := by
        rcases Nat.lt_or_ge L (i + 4) with q | q
        · exact absurd ((tt_len hL (by omega)).mpr (by omega)) c_23
        · exact q
      obtain ⟨N, p0, T0⟩ := hTR
      have hN := T0.1.1
      have h24 := T0.1.2.2.1
      have hNy := T0.2.2.2.1.1
      have hfc : ∀ j, j < 24 → 0 ≤ σ 3 j → vp_in (σ 3 j) 24 := fun j hj => (T0.2.2.1 j hj).1
      have hlc : ∀ j, j < 24 → 0 ≤ σ 4 j → vp_in (σ 4 j) 24 := fun j hj => (T0.2.2.1 j hj).2.1
      have hsb : ∀ j, j < 24 → 0 ≤ σ 5 j → vp_in (σ 5 j) 24 := fun j hj => (T0.2.2.1 j hj).2.2.1
      have hpa : ∀ j, 0 < j → j < 24 → vp_in (σ 2 j) 24 := fun j h0 hj => (T0.2.2.1 j hj).2.2.2.1 h0
      have hpy := T0.2.2.2.1.2.2.2.1
      have hTy := T0.2.2.2.1.2.2.2.2.1
      have back : ∀ (σ τ : ttS) (H : Heap) (locs : List Loc) (ls : Array Slot), TR σ τ → bL D (fun q : Nat => s.heap.size ≤ q) h d g k σ τ s H locs → lv_has ls 4 [(3, .int (nI i)), (2, .ref (g 0)), (1, .ref (h 0)), (0, .ref b)] → W p l e room_1 s m #[Value.ref b] below meth c H locs 27 918 (lw_Z below #[Value.ref b] s) (F0 m 448 ls []) := by
        intro σ τ H locs ls hTR hI hl
        refine lv_iinc (v := nI (i + 4)) (lv' := [(3, .int (nI (i + 4))), (2, .ref (g 0)), (1, .ref (h 0)), (0, .ref b)]) hx hb dL_law_448 hl (k := 0) rfl (tt_add4 _) (by decide) rfl (fun ls hl => ?_)
        refine lv_goto (tgt := 18) hx hb dL_law_451 (by decide) ?_
        exact ih (i + 4) σ τ H locs ls hi4 (by omega) hTR hI hl
      refine lv_aload_n hx hb dL_law_26 rfl (lv_at hl 3 rfl) ?_
      refine lv_iload_n hx hb dL_law_27 rfl (lv_at hl 0 rfl) ?_
      refine l_sld S hX hbl hbA hI.2.2.2 (show i < L by omega) hL dL_law_28 ?_
      refine lv_bipush (v := 15) hx hb dL_law_29 (by decide) ?_
      refine lv_iand hx hb dL_law_31 ?_
      obtain ⟨q, hq16, eq16⟩ := pk_andE (xs i) (m := 15) 4 (by decide)
      refine tt_top (nI q) eq16 ?_
      rcases (show q = 0 ∨ q = 1 ∨ q = 2 ∨ q = 3 ∨ q = 4 ∨ q = 5 ∨ q = 6 ∨ q = 7 ∨ q = 8 ∨ q = 9 ∨ q = 10 ∨ q = 11 ∨ 12 ≤ q by omega) with rfl | rfl | rfl | rfl | rfl | rfl | rfl | rfl | rfl | rfl | rfl | rfl | hq12
      · refine lv_tableIn (tgt := 96) (off := 64) hx hb dL_law_32 (by decide) (by decide) (by decide) (by decide) ?_
        refine lv_aload_n hx hb dL_law_96 rfl (lv_at hl 2 rfl) ?_
        refine lv_aload_n hx hb dL_law_97 rfl (lv_at hl 3 rfl) ?_
        refine lv_iload_n hx hb dL_law_98 rfl (lv_at hl 0 rfl) ?_
        refine lv_iconst (v := 1) hx hb dL_law_99 (by decide) ?_
        refine lv_iadd hx hb dL_law_100 ?_
        refine tt_top (nI (i + 1)) (tt_add1 _) ?_
        refine l_sld S hX hbl hbA hI.2.2.2 (show i + 1 < L by omega) hL dL_law_101 ?_
        have hq := tr_add T0 (xs (i + 1)) 0
        refine l_callX (n := 1) S hI hA [.int (xs (i + 1))] (metX_container l σ (xs (i + 1)) hN h24 hlc) (lw_V q101 q102 q103 q27 q104) rfl rfl (by decide +kernel) ⟨by decide, by decide⟩ rfl hl.1 rfl (Nat.le_of_ble_eq_true rfl) dL_law_102 ⟨by decide, by decide⟩ (fun H locs hI => ?_)
        refine lv_aload_n hx hb dL_law_105 rfl (lv_at hl 1 rfl) ?_
        refine lv_aload_n hx hb dL_law_106 rfl (lv_at hl 3 rfl) ?_
        refine lv_iload_n hx hb dL_law_107 rfl (lv_at hl 0 rfl) ?_
        refine lv_iconst (v := 1) hx hb dL_law_108 (by decide) ?_
        refine lv_iadd hx hb dL_law_109 ?_
        refine tt_top (nI (i + 1)) (tt_add1 _) ?_
        refine l_sld S hX hbl hbA hI.2.2.2 (show i + 1 < L by omega) hL dL_law_110 ?_
        refine l_callY (n := 1) S hI hA [.int (xs (i + 1))] (metY_container l τ (xs (i + 1)) hNy h24) (lw_V q253 q254 q255 q28 q256) rfl rfl (by decide +kernel) ⟨by decide, by decide⟩ rfl hl.1 rfl (Nat.le_of_ble_eq_true rfl) dL_law_111 ⟨by decide, by decide⟩ (fun H locs hI => ?_)
        refine lv_icmp_eq (tgt := 448) hx hb dL_law_114 (by decide) (fun c_114 => ?_) (fun c_114 => ?_)
        · exact back _ _ H locs ls hq.2 hI hl
        · exact absurd hq.1 c_114
      · refine lv_tableIn (tgt := 119) (off := 87) hx hb dL_law_32 (by decide) (by decide) (by decide) (by decide) ?_
        refine lv_aload_n hx hb dL_law_119 rfl (lv_at hl 2 rfl) ?_
        refine lv_aload_n hx hb dL_law_120 rfl (lv_at hl 3 rfl) ?_
        refine lv_iload_n hx hb dL_law_121 rfl (lv_at hl 0 rfl) ?_
        refine lv_iconst (v := 1) hx hb dL_law_122 (by decide) ?_
        refine lv_iadd hx hb dL_law_123 ?_
        refine tt_top (nI (i + 1)) (tt_add1 _) ?_
        refine l_sld S hX hbl hbA hI.2.2.2 (show i + 1 < L by omega) hL dL_law_124 ?_
        have hq := tr_add T0 (xs (i + 1)) 1
        refine l_callX (n := 1) S hI hA [.int (xs (i + 1))] (metX_test l σ (xs (i + 1)) hN h24 hlc) (lw_V q117 q118 q119 q27 q120) rfl rfl (by decide +kernel) ⟨by decide, by decide⟩ rfl hl.1 rfl (Nat.le_of_ble_eq_true rfl) dL_law_125 ⟨by decide, by decide⟩ (fun H locs hI => ?_)
        refine lv_aload_n hx hb dL_law_128 rfl (lv_at hl 1 rfl) ?_
        refine lv_aload_n hx hb dL_law_129 rfl (lv_at hl 3 rfl) ?_
        refine lv_iload_n hx hb dL_law_130 rfl (lv_at hl 0 rfl) ?_
        refine lv_iconst (v := 1) hx hb dL_law_131 (by decide) ?_
        refine lv_iadd hx hb dL_law_132 ?_
        refine tt_top (nI (i + 1)) (tt_add1 _) ?_
        refine l_sld S hX hbl hbA hI.2.2.2 (show i + 1 < L by omega) hL dL_law_133 ?_
        refine l_callY (n := 1) S hI hA [.int (xs (i + 1))] (metY_test l τ (xs (i + 1)) hNy h24) (lw_V q265 q266 q267 q28 q268) rfl rfl (by decide +kernel) ⟨by decide, by decide⟩ rfl hl.1 rfl (Nat.le_of_ble_eq_true rfl) dL_law_134 ⟨by decide, by decide⟩ (fun H locs hI => ?_)
        refine lv_icmp_eq (tgt := 448) hx hb dL_law_137 (by decide) (fun c_137 => ?_) (fun c_137 => ?_)
        · exact back _ _ H locs ls hq.2 hI hl
        · exact absurd hq.1 c_137
      · refine lv_tableIn (tgt := 142) (off := 110) hx hb dL_law_32 (by decide) (by decide) (by decide) (by decide) ?_
        refine lv_aload_n hx hb dL_law_142 rfl (lv_at hl 2 rfl) ?_
        refine lv_aload_n hx hb dL_law_143 rfl (lv_at hl 3 rfl) ?_
        refine lv_iload_n hx hb dL_law_144 rfl (lv_at hl 0 rfl) ?_
        refine lv_iconst (v := 1) hx hb dL_law_145 (by decide) ?_
        refine lv_iadd hx hb dL_law_146 ?_
        refine tt_top (nI (i + 1)) (tt_add1 _) ?_
        refine l_sld S hX hbl hbA hI.2.2.2 (show i + 1 < L by omega) hL dL_law_147 ?_
        refine lv_aload_n hx hb dL_law_148 rfl (lv_at hl 3 rfl) ?_
        refine lv_iload_n hx hb dL_law_149 rfl (lv_at hl 0 rfl) ?_
        refine lv_iconst (v := 2) hx hb dL_law_150 (by decide) ?_
        refine lv_iadd hx hb dL_law_151 ?_
        refine tt_top (nI (i + 2)) (tt_add2 _) ?_
        refine l_sld S hX hbl hbA hI.2.2.2 (show i + 2 < L by omega) hL dL_law_152 ?_
        refine lv_aload_n hx hb dL_law_153 rfl (lv_at hl 3 rfl) ?_
        refine lv_iload_n hx hb dL_law_154 rfl (lv_at hl 0 rfl) ?_
        refine lv_iconst (v := 3) hx hb dL_law_155 (by decide) ?_
        refine lv_iadd hx hb dL_law_156 ?_
        refine tt_top (nI (i + 3)) (tt_add3 _) ?_
        refine l_sld S hX hbl hbA hI.2.2.2 (show i + 3 < L by omega) hL dL_law_157 ?_
        have hq := tr_hook T0 (xs (i + 1)) (xs (i + 2)) (xs (i + 3))
        refine l_callX (n := 3) S hI hA [.int (xs (i + 1)), .int (xs (i + 2)), .int (xs (i + 3))] (metX_hook l σ (xs (i + 1)) (xs (i + 2)) (xs (i + 3)) hN h24) (lw_V q121 q122 q123 q27 q124) rfl rfl (by decide +kernel) ⟨by decide, by decide⟩ rfl hl.1 rfl (Nat.le_of_ble_eq_true rfl) dL_law_158 ⟨by decide, by decide⟩ (fun H locs hI => ?_)
        refine lv_aload_n hx hb dL_law_161 rfl (lv_at hl 1 rfl) ?_
        refine lv_aload_n hx hb dL_law_162 rfl (lv_at hl 3 rfl) ?_
        refine lv_iload_n hx hb dL_law_163 rfl (lv_at hl 0 rfl) ?_
        refine lv_iconst (v := 1) hx hb dL_law_164 (by decide) ?_
        refine lv_iadd hx hb dL_law_165 ?_
        refine tt_top (nI (i + 1)) (tt_add1 _) ?_
        refine l_sld S hX hbl hbA hI.2.2.2 (show i + 1 < L by omega) hL dL_law_166 ?_
        refine lv_aload_n hx hb dL_law_167 rfl (lv_at hl 3 rfl) ?_
        refine lv_iload_n hx hb dL_law_168 rfl (lv_at hl 0 rfl) ?_
        refine lv_iconst (v := 2) hx hb dL_law_169 (by decide) ?_
        refine lv_iadd hx hb dL_law_170 ?_
        refine tt_top (nI (i + 2)) (tt_add2 _) ?_
        refine l_sld S hX hbl hbA hI.2.2.2 (show i + 2 < L by omega) hL dL_law_171 ?_
        refine lv_aload_n hx hb dL_law_172 rfl (lv_at hl 3 rfl) ?_
        refine lv_iload_n hx hb dL_law_173 rfl (lv_at hl 0 rfl) ?_
        refine lv_iconst (v := 3) hx hb dL_law_174 (by decide) ?_
        refine lv_iadd hx hb dL_law_175 ?_
        refine tt_top (nI (i + 3)) (tt_add3 _) ?_
        refine l_sld S hX hbl hbA hI.2.2.2 (show i + 3 < L by omega) hL dL_law_176 ?_
        refine l_callY (n := 3) S hI hA [.int (xs (i + 1)), .int (xs (i + 2)), .int (xs (i + 3))] (metY_hook l τ (xs (i + 1)) (xs (i + 2)) (xs (i + 3)) hNy h24) (lw_V q269 q270 q271 q28 q272) rfl rfl (by decide +kernel) ⟨by decide, by decide⟩ rfl hl.1 rfl (Nat.le_of_ble_eq_true rfl) dL_law_177 ⟨by decide, by decide⟩ (fun H locs hI => ?_)
        refine lv_icmp_eq (tgt := 448) hx hb dL_law_180 (by decide) (fun c_180 => ?_) (fun c_180 => ?_)
        · exact back _ _ H locs ls hq.2 hI hl
        · exact absurd hq.1 c_180
      · refine lv_tableIn (tgt := 185) (off := 153) hx hb dL_law_32 (by decide) (by decide) (by decide) (by decide) ?_
        refine lv_aload_n hx hb dL_law_185 rfl (lv_at hl 2 rfl) ?_
        refine lv_aload_n hx hb dL_law_186 rfl (lv_at hl 3 rfl) ?_
        refine lv_iload_n hx hb dL_law_187 rfl (lv_at hl 0 rfl) ?_
        refine lv_iconst (v := 1) hx hb dL_law_188 (by decide) ?_
        refine lv_iadd hx hb dL_law_189 ?_
        refine tt_top (nI (i + 1)) (tt_add1 _) ?_
        refine l_sld S hX hbl hbA hI.2.2.2 (show i + 1 < L by omega) hL dL_law_190 ?_
        refine lv_aload_n hx hb dL_law_191 rfl (lv_at hl 3 rfl) ?_
        refine lv_iload_n hx hb dL_law_192 rfl (lv_at hl 0 rfl) ?_
        refine lv_iconst (v := 2) hx hb dL_law_193 (by decide) ?_
        refine lv_iadd hx hb dL_law_194 ?_
        refine tt_top (nI (i + 2)) (tt_add2 _) ?_
        refine l_sld S hX hbl hbA hI.2.2.2 (show i + 2 < L by omega) hL dL_law_195 ?_
        refine lv_aload_n hx hb dL_law_196 rfl (lv_at hl 3 rfl) ?_
        refine lv_iload_n hx hb dL_law_197 rfl (lv_at hl 0 rfl) ?_
        refine lv_iconst (v := 3) hx hb dL_law_198 (by decide) ?_
        refine lv_iadd hx hb dL_law_199 ?_
        refine tt_top (nI (i + 3)) (tt_add3 _) ?_
        refine l_sld S hX hbl hbA hI.2.2.2 (show i + 3 < L by omega) hL dL_law_200 ?_
        have hq := tr_body T0 (xs (i + 1)) (xs (i + 2)) (xs (i + 3))
        refine l_callX (n := 3) S hI hA [.int (xs (i + 1)), .int (xs (i + 2)), .int (xs (i + 3))] (metX_body l σ (xs (i + 1)) (xs (i + 2)) (xs (i + 3)) hN h24) (lw_V q125 q126 q127 q27 q128) rfl rfl (by decide +kernel) ⟨by decide, by decide⟩ rfl hl.1 rfl (Nat.le_of_ble_eq_true rfl) dL_law_201 ⟨by decide, by decide⟩ (fun H locs hI => ?_)
        refine lv_aload_n hx hb dL_law_204 rfl (lv_at hl 1 rfl) ?_
        refine lv_aload_n hx hb dL_law_205 rfl (lv_at hl 3 rfl) ?_
        refine lv_iload_n hx hb dL_law_206 rfl (lv_at hl 0 rfl) ?_
        refine lv_iconst (v := 1) hx hb dL_law_207 (by decide) ?_
        refine lv_iadd hx hb dL_law_208 ?_
        refine tt_top (nI (i + 1)) (tt_add1 _) ?_
        refine l_sld S hX hbl hbA hI.2.2.2 (show i + 1 < L by omega) hL dL_law_209 ?_
        refine lv_aload_n hx hb dL_law_210 rfl (lv_at hl 3 rfl) ?_
        refine lv_iload_n hx hb dL_law_211 rfl (lv_at hl 0 rfl) ?_
        refine lv_iconst (v := 2) hx hb dL_law_212 (by decide) ?_
        refine lv_iadd hx hb dL_law_213 ?_
        refine tt_top (nI (i + 2)) (tt_add2 _) ?_
        refine l_sld S hX hbl hbA hI.2.2.2 (show i + 2 < L by omega) hL dL_law_214 ?_
        refine lv_aload_n hx hb dL_law_215 rfl (lv_at hl 3 rfl) ?_
        refine lv_iload_n hx hb dL_law_216 rfl (lv_at hl 0 rfl) ?_
        refine lv_iconst (v := 3) hx hb dL_law_217 (by decide) ?_
        refine lv_iadd hx hb dL_law_218 ?_
        refine tt_top (nI (i + 3)) (tt_add3 _) ?_
        refine l_sld S hX hbl hbA hI.2.2.2 (show i + 3 < L by omega) hL dL_law_219 ?_
        refine l_callY (n := 3) S hI hA [.int (xs (i + 1)), .int (xs (i + 2)), .int (xs (i + 3))] (metY_body l τ (xs (i + 1)) (xs (i + 2)) (xs (i + 3)) hNy h24) (lw_V q273 q274 q275 q28 q276) rfl rfl (by decide +kernel) ⟨by decide, by decide⟩ rfl hl.1 rfl (Nat.le_of_ble_eq_true rfl) dL_law_220 ⟨by decide, by decide⟩ (fun H locs hI => ?_)
        refine lv_icmp_eq (tgt := 448) hx hb dL_law_223 (by decide) (fun c_223 => ?_) (fun c_223 => ?_)
        · exact back _ _ H locs ls hq.2 hI hl
        · exact absurd hq.1 c_223
      · refine lv_tableIn (tgt := 228) (off := 196) hx hb dL_law_32 (by decide) (by decide) (by decide) (by decide) ?_
        refine lv_aload_n hx hb dL_law_228 rfl (lv_at hl 2 rfl) ?_
        refine lv_aload_n hx hb dL_law_229 rfl (lv_at hl 3 rfl) ?_
        refine lv_iload_n hx hb dL_law_230 rfl (lv_at hl 0 rfl) ?_
        refine lv_iconst (v := 1) hx hb dL_law_231 (by decide) ?_
        refine lv_iadd hx hb dL_law_232 ?_
        refine tt_top (nI (i + 1)) (tt_add1 _) ?_
        refine l_sld S hX hbl hbA hI.2.2.2 (show i + 1 < L by omega) hL dL_law_233 ?_
        refine lv_aload_n hx hb dL_law_234 rfl (lv_at hl 3 rfl) ?_
        refine lv_iload_n hx hb dL_law_235 rfl (lv_at hl 0 rfl) ?_
        refine lv_iconst (v := 2) hx hb dL_law_236 (by decide) ?_
        refine lv_iadd hx hb dL_law_237 ?_
        refine tt_top (nI (i + 2)) (tt_add2 _) ?_
        refine l_sld S hX hbl hbA hI.2.2.2 (show i + 2 < L by omega) hL dL_law_238 ?_
        have hq := tr_tags T0 (xs (i + 1)) (xs (i + 2))
        refine l_callX (n := 2) S hI hA [.int (xs (i + 1)), .int (xs (i + 2))] (metX_tags l σ (xs (i + 1)) (xs (i + 2)) hN h24) (lw_V q133 q134 q135 q27 q136) rfl rfl (by decide +kernel) ⟨by decide, by decide⟩ rfl hl.1 rfl (Nat.le_of_ble_eq_true rfl) dL_law_239 ⟨by decide, by decide⟩ (fun H locs hI => ?_)
        refine lv_aload_n hx hb dL_law_242 rfl (lv_at hl 1 rfl) ?_
        refine lv_aload_n hx hb dL_law_243 rfl (lv_at hl 3 rfl) ?_
        refine lv_iload_n hx hb dL_law_244 rfl (lv_at hl 0 rfl) ?_
        refine lv_iconst (v := 1) hx hb dL_law_245 (by decide) ?_
        refine lv_iadd hx hb dL_law_246 ?_
        refine tt_top (nI (i + 1)) (tt_add1 _) ?_
        refine l_sld S hX hbl hbA hI.2.2.2 (show i + 1 < L by omega) hL dL_law_247 ?_
        refine lv_aload_n hx hb dL_law_248 rfl (lv_at hl 3 rfl) ?_
        refine lv_iload_n hx hb dL_law_249 rfl (lv_at hl 0 rfl) ?_
        refine lv_iconst (v := 2) hx hb dL_law_250 (by decide) ?_
        refine lv_iadd hx hb dL_law_251 ?_
        refine tt_top (nI (i + 2)) (tt_add2 _) ?_
        refine l_sld S hX hbl hbA hI.2.2.2 (show i + 2 < L by omega) hL dL_law_252 ?_
        refine l_callY (n := 2) S hI hA [.int (xs (i + 1)), .int (xs (i + 2))] (metY_tags l τ (xs (i + 1)) (xs (i + 2)) hNy h24) (lw_V q277 q278 q279 q28 q280) rfl rfl (by decide +kernel) ⟨by decide, by decide⟩ rfl hl.1 rfl (Nat.le_of_ble_eq_true rfl) dL_law_253 ⟨by decide, by decide⟩ (fun H locs hI => ?_)
        refine lv_icmp_eq (tgt := 448) hx hb dL_law_256 (by decide) (fun c_256 => ?_) (fun c_256 => ?_)
        · exact back _ _ H locs ls hq.2 hI hl
        · exact absurd hq.1 c_256
      · refine lv_tableIn (tgt := 261) (off := 229) hx hb dL_law_32 (by decide) (by decide) (by decide) (by decide) ?_
        refine lv_aload_n hx hb dL_law_261 rfl (lv_at hl 2 rfl) ?_
        refine lv_aload_n hx hb dL_law_262 rfl (lv_at hl 3 rfl) ?_
        refine lv_iload_n hx hb dL_law_263 rfl (lv_at hl 0 rfl) ?_
        refine lv_iconst (v := 1) hx hb dL_law_264 (by decide) ?_
        refine lv_iadd hx hb dL_law_265 ?_
        refine tt_top (nI (i + 1)) (tt_add1 _) ?_
        refine l_sld S hX hbl hbA hI.2.2.2 (show i + 1 < L by omega) hL dL_law_266 ?_
        refine lv_aload_n hx hb dL_law_267 rfl (lv_at hl 3 rfl) ?_
        refine lv_iload_n hx hb dL_law_268 rfl (lv_at hl 0 rfl) ?_
        refine lv_iconst (v := 2) hx hb dL_law_269 (by decide) ?_
        refine lv_iadd hx hb dL_law_270 ?_
        refine tt_top (nI (i + 2)) (tt_add2 _) ?_
        refine l_sld S hX hbl hbA hI.2.2.2 (show i + 2 < L by omega) hL dL_law_271 ?_
        refine lv_if_eq (tgt := 279) hx hb dL_law_272 (by decide) (fun c_272 => ?_) (fun c_272 => ?_)
        · refine lv_iconst (v := 0) hx hb dL_law_279 (by decide) ?_
          have hq := tr_dis T0 (xs (i + 1)) 0
          refine l_callX (n := 2) S hI hA [.int (xs (i + 1)), .int 0] (metX_disable l σ (xs (i + 1)) 0 hN h24 rfl) (lw_V q137 q138 q139 q27 q140) rfl rfl (by decide +kernel) ⟨by decide, by decide⟩ rfl hl.1 rfl (Nat.le_of_ble_eq_true rfl) dL_law_280 ⟨by decide, by decide⟩ (fun H locs hI => ?_)
          refine lv_aload_n hx hb dL_law_283 rfl (lv_at hl 1 rfl) ?_
          refine lv_aload_n hx hb dL_law_284 rfl (lv_at hl 3 rfl) ?_
          refine lv_iload_n hx hb dL_law_285 rfl (lv_at hl 0 rfl) ?_
          refine lv_iconst (v := 1) hx hb dL_law_286 (by decide) ?_
          refine lv_iadd hx hb dL_law_287 ?_
          refine tt_top (nI (i + 1)) (tt_add1 _) ?_
          refine l_sld S hX hbl hbA hI.2.2.2 (show i + 1 < L by omega) hL dL_law_288 ?_
          refine lv_aload_n hx hb dL_law_289 rfl (lv_at hl 3 rfl) ?_
          refine lv_iload_n hx hb dL_law_290 rfl (lv_at hl 0 rfl) ?_
          refine lv_iconst (v := 2) hx hb dL_law_291 (by decide) ?_
          refine lv_iadd hx hb dL_law_292 ?_
          refine tt_top (nI (i + 2)) (tt_add2 _) ?_
          refine l_sld S hX hbl hbA hI.2.2.2 (show i + 2 < L by omega) hL dL_law_293 ?_
          refine lv_if_eq (tgt := 301) hx hb dL_law_294 (by decide) (fun c_294 => ?_) (fun c_294 => ?_)
          · refine lv_iconst (v := 0) hx hb dL_law_301 (by decide) ?_
            refine l_callY (n := 2) S hI hA [.int (xs (i + 1)), .int 0] (metY_disable l τ (xs (i + 1)) 0 hNy h24 rfl) (lw_V q281 q282 q283 q28 q284) rfl rfl (by decide +kernel) ⟨by decide, by decide⟩ rfl hl.1 rfl (Nat.le_of_ble_eq_true rfl) dL_law_302 ⟨by decide, by decide⟩ (fun H locs hI => ?_)
            refine lv_icmp_eq (tgt := 448) hx hb dL_law_305 (by decide) (fun c_305 => ?_) (fun c_305 => ?_)
            · exact back _ _ H locs ls hq.2 hI hl
            · exact absurd hq.1 c_305
          · exact absurd c_272 c_294
        · refine lv_iconst (v := 1) hx hb dL_law_275 (by decide) ?_
          refine lv_goto (tgt := 280) hx hb dL_law_276 (by decide) ?_
          have hq := tr_dis T0 (xs (i + 1)) 1
          refine l_callX (n := 2) S hI hA [.int (xs (i + 1)), .int 1] (metX_disable l σ (xs (i + 1)) 1 hN h24 rfl) (lw_V q137 q138 q139 q27 q140) rfl rfl (by decide +kernel) ⟨by decide, by decide⟩ rfl hl.1 rfl (Nat.le_of_ble_eq_true rfl) dL_law_280 ⟨by decide, by decide⟩ (fun H locs hI => ?_)
          refine lv_aload_n hx hb dL_law_283 rfl (lv_at hl 1 rfl) ?_
          refine lv_aload_n hx hb dL_law_284 rfl (lv_at hl 3 rfl) ?_
          refine lv_iload_n hx hb dL_law_285 rfl (lv_at hl 0 rfl) ?_
          refine lv_iconst (v := 1) hx hb dL_law_286 (by decide) ?_
          refine lv_iadd hx hb dL_law_287 ?_
          refine tt_top (nI (i + 1)) (tt_add1 _) ?_
          refine l_sld S hX hbl hbA hI.2.2.2 (show i + 1 < L by omega) hL dL_law_288 ?_
          refine lv_aload_n hx hb dL_law_289 rfl (lv_at hl 3 rfl) ?_
          refine lv_iload_n hx hb dL_law_290 rfl (lv_at hl 0 rfl) ?_
          refine lv_iconst (v := 2) hx hb dL_law_291 (by decide) ?_
          refine lv_iadd hx hb dL_law_292 ?_
          refine tt_top (nI (i + 2)) (tt_add2 _) ?_
          refine l_sld S hX hbl hbA hI.2.2.2 (show i + 2 < L by omega) hL dL_law_293 ?_
          refine lv_if_eq (tgt := 301) hx hb dL_law_294 (by decide) (fun c_294 => ?_) (fun c_294 => ?_)
          · exact absurd c_294 c_272
          · refine lv_iconst (v := 1) hx hb dL_law_297 (by decide) ?_
            refine lv_goto (tgt := 302) hx hb dL_law_298 (by decide) ?_
            refine l_callY (n := 2) S hI hA [.int (xs (i + 1)), .int 1] (metY_disable l τ (xs (i + 1)) 1 hNy h24 rfl) (lw_V q281 q282 q283 q28 q284) rfl rfl (by decide +kernel) ⟨by decide, by decide⟩ rfl hl.1 rfl (Nat.le_of_ble_eq_true rfl) dL_law_302 ⟨by decide, by decide⟩ (fun H locs hI => ?_)
            refine lv_icmp_eq (tgt := 448) hx hb dL_law_305 (by decide) (fun c_305 => ?_) (fun c_305 => ?_)
            · exact back _ _ H locs ls hq.2 hI hl
            · exact absurd hq.1 c_305
      · refine lv_tableIn (tgt := 310) (off := 278) hx hb dL_law_32 (by decide) (by decide) (by decide) (by decide) ?_
        refine lv_aload_n hx hb dL_law_310 rfl (lv_at hl 2 rfl) ?_
        refine lv_aload_n hx hb dL_law_311 rfl (lv_at hl 3 rfl) ?_
        refine lv_iload_n hx hb dL_law_312 rfl (lv_at hl 0 rfl) ?_
        refine lv_iconst (v := 1) hx hb dL_law_313 (by decide) ?_
        refine lv_iadd hx hb dL_law_314 ?_
        refine tt_top (nI (i + 1)) (tt_add1 _) ?_
        refine l_sld S hX hbl hbA hI.2.2.2 (show i + 1 < L by omega) hL dL_law_315 ?_
        have hq := tr_run T0 (xs (i + 1))
        refine l_callX (n := 1) S hI hA [.int (xs (i + 1))] (metX_run l σ (xs (i + 1)) hN h24 hfc hsb hpa hq.1) (lw_V q141 q142 q143 q27 q144) rfl rfl (by decide +kernel) ⟨by decide, by decide⟩ rfl hl.1 rfl (Nat.le_of_ble_eq_true rfl) dL_law_316 ⟨by decide, by decide⟩ (fun H locs hI => ?_)
        refine lv_aload_n hx hb dL_law_319 rfl (lv_at hl 1 rfl) ?_
        refine lv_aload_n hx hb dL_law_320 rfl (lv_at hl 3 rfl) ?_
        refine lv_iload_n hx hb dL_law_321 rfl (lv_at hl 0 rfl) ?_
        refine lv_iconst (v := 1) hx hb dL_law_322 (by decide) ?_
        refine lv_iadd hx hb dL_law_323 ?_
        refine tt_top (nI (i + 1)) (tt_add1 _) ?_
        refine l_sld S hX hbl hbA hI.2.2.2 (show i + 1 < L by omega) hL dL_law_324 ?_
        refine l_callY (n := 1) S hI hA [.int (xs (i + 1))] (metY_run l τ (xs (i + 1)) hNy h24 hpy hTy) (lw_V q285 q286 q287 q28 q288) rfl rfl (by decide +kernel) ⟨by decide, by decide⟩ rfl hl.1 rfl (Nat.le_of_ble_eq_true rfl) dL_law_325 ⟨by decide, by decide⟩ (fun H locs hI => ?_)
        refine lv_icmp_eq (tgt := 448) hx hb dL_law_328 (by decide) (fun c_328 => ?_) (fun c_328 => ?_)
        · exact back _ _ H locs ls hq.2.2 hI hl
        · exact absurd hq.2.1 c_328
      · refine lv_tableIn (tgt := 333) (off := 301) hx hb dL_law_32 (by decide) (by decide) (by decide) (by decide) ?_
        refine lv_aload_n hx hb dL_law_333 rfl (lv_at hl 2 rfl) ?_
        refine lv_aload_n hx hb dL_law_334 rfl (lv_at hl 3 rfl) ?_
        refine lv_iload_n hx hb dL_law_335 rfl (lv_at hl 0 rfl) ?_
        refine lv_iconst (v := 1) hx hb dL_law_336 (by decide) ?_
        refine lv_iadd hx hb dL_law_337 ?_
        refine tt_top (nI (i + 1)) (tt_add1 _) ?_
        refine l_sld S hX hbl hbA hI.2.2.2 (show i + 1 < L by omega) hL dL_law_338 ?_
        have hq := tr_res T0 (xs (i + 1))
        refine l_callX (n := 1) S hI hA [.int (xs (i + 1))] (metX_result l σ (xs (i + 1)) hN h24) (lw_V q196 q197 q198 q27 q199) rfl rfl (by decide +kernel) ⟨by decide, by decide⟩ rfl hl.1 rfl (Nat.le_of_ble_eq_true rfl) dL_law_339 ⟨by decide, by decide⟩ (fun H locs hI => ?_)
        refine lv_aload_n hx hb dL_law_342 rfl (lv_at hl 1 rfl) ?_
        refine lv_aload_n hx hb dL_law_343 rfl (lv_at hl 3 rfl) ?_
        refine lv_iload_n hx hb dL_law_344 rfl (lv_at hl 0 rfl) ?_
        refine lv_iconst (v := 1) hx hb dL_law_345 (by decide) ?_
        refine lv_iadd hx hb dL_law_346 ?_
        refine tt_top (nI (i + 1)) (tt_add1 _) ?_
        refine l_sld S hX hbl hbA hI.2.2.2 (show i + 1 < L by omega) hL dL_law_347 ?_
        refine l_callY (n := 1) S hI hA [.int (xs (i + 1))] (metY_result l τ (xs (i + 1)) hNy h24) (lw_V q325 q326 q327 q28 q328) rfl rfl (by decide +kernel) ⟨by decide, by decide⟩ rfl hl.1 rfl (Nat.le_of_ble_eq_true rfl) dL_law_348 ⟨by decide, by decide⟩ (fun H locs hI => ?_)
        refine lv_icmp_eq (tgt := 448) hx hb dL_law_351 (by decide) (fun c_351 => ?_) (fun c_351 => ?_)
        · exact back _ _ H locs ls ⟨N, p0, T0⟩ hI hl
        · exact absurd hq c_351
      · refine lv_tableIn (tgt := 356) (off := 324) hx hb dL_law_32 (by decide) (by decide) (by decide) (by decide) ?_
        refine lv_aload_n hx hb dL_law_356 rfl (lv_at hl 2 rfl) ?_
        refine lv_aload_n hx hb dL_law_357 rfl (lv_at hl 3 rfl) ?_
        refine lv_iload_n hx hb dL_law_358 rfl (lv_at hl 0 rfl) ?_
        refine lv_iconst (v := 1) hx hb dL_law_359 (by decide) ?_
        refine lv_iadd hx hb dL_law_360 ?_
        refine tt_top (nI (i + 1)) (tt_add1 _) ?_
        refine l_sld S hX hbl hbA hI.2.2.2 (show i + 1 < L by omega) hL dL_law_361 ?_
        refine lv_aload_n hx hb dL_law_362 rfl (lv_at hl 3 rfl) ?_
        refine lv_iload_n hx hb dL_law_363 rfl (lv_at hl 0 rfl) ?_
        refine lv_iconst (v := 2) hx hb dL_law_364 (by decide) ?_
        refine lv_iadd hx hb dL_law_365 ?_
        refine tt_top (nI (i + 2)) (tt_add2 _) ?_
        refine l_sld S hX hbl hbA hI.2.2.2 (show i + 2 < L by omega) hL dL_law_366 ?_
        have hq := tr_tim T0 (xs (i + 1)) (xs (i + 2))
        refine l_callX (n := 2) S hI hA [.int (xs (i + 1)), .int (xs (i + 2))] (metX_times l σ (xs (i + 1)) (xs (i + 2)) hN h24) (lw_V q200 q201 q202 q27 q203) rfl rfl (by decide +kernel) ⟨by decide, by decide⟩ rfl hl.1 rfl (Nat.le_of_ble_eq_true rfl) dL_law_367 ⟨by decide, by decide⟩ (fun H locs hI => ?_)
        refine lv_aload_n hx hb dL_law_370 rfl (lv_at hl 1 rfl) ?_
        refine lv_aload_n hx hb dL_law_371 rfl (lv_at hl 3 rfl) ?_
        refine lv_iload_n hx hb dL_law_372 rfl (lv_at hl 0 rfl) ?_
        refine lv_iconst (v := 1) hx hb dL_law_373 (by decide) ?_
        refine lv_iadd hx hb dL_law_374 ?_
        refine tt_top (nI (i + 1)) (tt_add1 _) ?_
        refine l_sld S hX hbl hbA hI.2.2.2 (show i + 1 < L by omega) hL dL_law_375 ?_
        refine lv_aload_n hx hb dL_law_376 rfl (lv_at hl 3 rfl) ?_
        refine lv_iload_n hx hb dL_law_377 rfl (lv_at hl 0 rfl) ?_
        refine lv_iconst (v := 2) hx hb dL_law_378 (by decide) ?_
        refine lv_iadd hx hb dL_law_379 ?_
        refine tt_top (nI (i + 2)) (tt_add2 _) ?_
        refine l_sld S hX hbl hbA hI.2.2.2 (show i + 2 < L by omega) hL dL_law_380 ?_
        refine l_callY (n := 2) S hI hA [.int (xs (i + 1)), .int (xs (i + 2))] (metY_times l τ (xs (i + 1)) (xs (i + 2)) hNy h24) (lw_V q329 q330 q331 q28 q332) rfl rfl (by decide +kernel) ⟨by decide, by decide⟩ rfl hl.1 rfl (Nat.le_of_ble_eq_true rfl) dL_law_381 ⟨by decide, by decide⟩ (fun H locs hI => ?_)
        refine lv_icmp_eq (tgt := 448) hx hb dL_law_384 (by decide) (fun c_384 => ?_) (fun c_384 => ?_)
        · exact back _ _ H locs ls ⟨N, p0, T0⟩ hI hl
        · exact absurd hq c_384
      · refine lv_tableIn (tgt := 389) (off := 357) hx hb dL_law_32 (by decide) (by decide) (by decide) (by decide) ?_
        refine lv_aload_n hx hb dL_law_389 rfl (lv_at hl 2 rfl) ?_
        refine lv_aload_n hx hb dL_law_390 rfl (lv_at hl 3 rfl) ?_
        refine lv_iload_n hx hb dL_law_391 rfl (lv_at hl 0 rfl) ?_
        refine lv_iconst (v := 1) hx hb dL_law_392 (by decide) ?_
        refine lv_iadd hx hb dL_law_393 ?_
        refine tt_top (nI (i + 1)) (tt_add1 _) ?_
        refine l_sld S hX hbl hbA hI.2.2.2 (show i + 1 < L by omega) hL dL_law_394 ?_
        have hq := tr_cnt T0 (xs (i + 1))
        refine l_callX (n := 1) S hI hA [.int (xs (i + 1))] (metX_count l σ (xs (i + 1)) hN h24) (lw_V q204 q193 q194 q27 q195) rfl rfl (by decide +kernel) ⟨by decide, by decide⟩ rfl hl.1 rfl (Nat.le_of_ble_eq_true rfl) dL_law_395 ⟨by decide, by decide⟩ (fun H locs hI => ?_)
        refine lv_aload_n hx hb dL_law_398 rfl (lv_at hl 1 rfl) ?_
        refine lv_aload_n hx hb dL_law_399 rfl (lv_at hl 3 rfl) ?_
        refine lv_iload_n hx hb dL_law_400 rfl (lv_at hl 0 rfl) ?_
        refine lv_iconst (v := 1) hx hb dL_law_401 (by decide) ?_
        refine lv_iadd hx hb dL_law_402 ?_
        refine tt_top (nI (i + 1)) (tt_add1 _) ?_
        refine l_sld S hX hbl hbA hI.2.2.2 (show i + 1 < L by omega) hL dL_law_403 ?_
        refine l_callY (n := 1) S hI hA [.int (xs (i + 1))] (metY_count l τ (xs (i + 1)) hNy h24) (lw_V q333 q322 q323 q28 q324) rfl rfl (by decide +kernel) ⟨by decide, by decide⟩ rfl hl.1 rfl (Nat.le_of_ble_eq_true rfl) dL_law_404 ⟨by decide, by decide⟩ (fun H locs hI => ?_)
        refine lv_icmp_eq (tgt := 448) hx hb dL_law_407 (by decide) (fun c_407 => ?_) (fun c_407 => ?_)
        · exact back _ _ H locs ls ⟨N, p0, T0⟩ hI hl
        · exact absurd hq c_407
      · refine lv_tableIn (tgt := 412) (off := 380) hx hb dL_law_32 (by decide) (by decide) (by decide) (by decide) ?_
        refine lv_aload_n hx hb dL_law_412 rfl (lv_at hl 2 rfl) ?_
        have hq := T0.2.2.2.2.2.2.2
        refine l_callX (n := 0) S hI hA [] (metX_steps l σ) (lw_V q205 q206 q207 q27 q208) rfl rfl (by decide +kernel) ⟨by decide, by decide⟩ rfl hl.1 rfl (Nat.le_of_ble_eq_true rfl) dL_law_413 ⟨by decide, by decide⟩ (fun H locs hI => ?_)
        refine lv_aload_n hx hb dL_law_416 rfl (lv_at hl 1 rfl) ?_
        refine l_callY (n := 0) S hI hA [] (metY_steps l τ) (lw_V q334 q335 q336 q28 q337) rfl rfl (by decide +kernel) ⟨by decide, by decide⟩ rfl hl.1 rfl (Nat.le_of_ble_eq_true rfl) dL_law_417 ⟨by decide, by decide⟩ (fun H locs hI => ?_)
        refine lv_icmp_eq (tgt := 448) hx hb dL_law_420 (by decide) (fun c_420 => ?_) (fun c_420 => ?_)
        · exact back _ _ H locs ls ⟨N, p0, T0⟩ hI hl
        · exact absurd hq c_420
      · refine lv_tableIn (tgt := 425) (off := 393) hx hb dL_law_32 (by decide) (by decide) (by decide) (by decide) ?_
        refine lv_aload_n hx hb dL_law_425 rfl (lv_at hl 2 rfl) ?_
        refine lv_aload_n hx hb dL_law_426 rfl (lv_at hl 3 rfl) ?_
        refine lv_iload_n hx hb dL_law_427 rfl (lv_at hl 0 rfl) ?_
        refine lv_iconst (v := 1) hx hb dL_law_428 (by decide) ?_
        refine lv_iadd hx hb dL_law_429 ?_
        refine tt_top (nI (i + 1)) (tt_add1 _) ?_
        refine l_sld S hX hbl hbA hI.2.2.2 (show i + 1 < L by omega) hL dL_law_430 ?_
        have hq := tr_att T0 (xs (i + 1))
        refine l_callX (n := 1) S hI hA [.int (xs (i + 1))] (metX_attempts l σ (xs (i + 1)) hN h24) (lw_V q209 q210 q211 q27 q212) rfl rfl (by decide +kernel) ⟨by decide, by decide⟩ rfl hl.1 rfl (Nat.le_of_ble_eq_true rfl) dL_law_431 ⟨by decide, by decide⟩ (fun H locs hI => ?_)
        refine lv_aload_n hx hb dL_law_434 rfl (lv_at hl 1 rfl) ?_
        refine lv_aload_n hx hb dL_law_435 rfl (lv_at hl 3 rfl) ?_
        refine lv_iload_n hx hb dL_law_436 rfl (lv_at hl 0 rfl) ?_
        refine lv_iconst (v := 1) hx hb dL_law_437 (by decide) ?_
        refine lv_iadd hx hb dL_law_438 ?_
        refine tt_top (nI (i + 1)) (tt_add1 _) ?_
        refine l_sld S hX hbl hbA hI.2.2.2 (show i + 1 < L by omega) hL dL_law_439 ?_
        refine l_callY (n := 1) S hI hA [.int (xs (i + 1))] (metY_attempts l τ (xs (i + 1)) hNy h24) (lw_V q338 q339 q340 q28 q341) rfl rfl (by decide +kernel) ⟨by decide, by decide⟩ rfl hl.1 rfl (Nat.le_of_ble_eq_true rfl) dL_law_440 ⟨by decide, by decide⟩ (fun H locs hI => ?_)
        refine lv_icmp_eq (tgt := 448) hx hb dL_law_443 (by decide) (fun c_443 => ?_) (fun c_443 => ?_)
        · exact back _ _ H locs ls ⟨N, p0, T0⟩ hI hl
        · exact absurd hq c_443
      · refine lv_tableOut (tgt := 448) hx hb dL_law_32 (Or.inr (by rw [nI_toInt (by omega)]; omega)) (by decide) ?_
        exact back σ τ H locs ls ⟨N, p0, T0⟩ hI hl
set_option maxHeartbeats 8000000 in
theorem whole_start {p : Program} {e : Env} {s : State} {m : MethodId} {below : List Frame} {meth : Method} {c : Code} (l : Launch) {b L : Nat} {xs : Nat → Int32} (hL : L ≤ 256) (C0 : lw_At p s m meth c b L xs) : W p l e room_1 s m #[Value.ref b] below meth c s.heap [] 0 0 (lw_Z below #[Value.ref b] s) (entryFrame m ([Value.ref b] : List Value).toArray 4) := by
  obtain ⟨hx, hb, hr, hml, hown, hts0, hX, hbl, hlocks, hgv⟩ := C0
  have hts : ∀ w ∈ lw_all, w.before #[Value.ref b] s = true := fun w h => hts0 w (lw_all_tbl h)
  have hA : ∀ q : Nat, s.heap.size ≤ q → (fun q : Nat => s.heap.size ≤ q) q := fun _ h => h
  obtain ⟨c0, iS0, hKn0⟩ := u_known (C := RX0) (T := TX0) (N := 19) (n := 19) hts0 (fun w h => lw_all_tbl (in_X0 w h)) (hts _ q30)
  obtain ⟨c1, iS1, hKn1⟩ := u_known (C := RX1) (T := TX1) (N := 11) (n := 11) hts0 (fun w h => lw_all_tbl (in_X1 w h)) (hts _ q214)
  obtain ⟨dC, dI, hKc⟩ : ∃ (dC : Nat → ClassId) (dI : Nat → Nat → Nat), ∀ (k : Nat) (q : vw_C), vwCl[k]? = some q → u_Kn s q.1 q.2.1 q.2.2 (dC k) (dI k) := by
    refine ⟨fun k => if k = 0 then c0 else c1, fun k => if k = 0 then iS0 else iS1, ?_⟩
    intro k q hq
    match k, hq with
    | 0, hq => cases hq; exact hKn0
    | 1, hq => cases hq; exact hKn1
    | k + 2, hq => simp [vwCl] at hq
  have S : CallFix p m c cL_law 4 s #[Value.ref b] lw_all R_law := ⟨hx, hb, hml, hown, hts⟩
  have hS : va_S (fun q : Nat => s.heap.size ≤ q) s.heap s.heap [] := va_S.rf
  have hK : va_K (dC, dI) vwCl [] s := ⟨hKc, fun k q h => by simp at h⟩
  have hP : va_P (dC, dI) vwCl [] s.heap := fun k q h => by simp at h
  have hD : va_D (fun q : Nat => s.heap.size ≤ q) [] := ⟨fun i j p q h => by simp at h, fun k q h => by simp at h⟩
  have hl := lv_entry ([.ref b]) (n := 4) (Nat.le_of_ble_eq_true rfl)
  rw [lg_entry_eq]
  generalize (lg_sl ([.ref b]) ++ List.replicate (4 - (lg_sl ([.ref b])).length) Slot.unset).toArray = ls at hl ⊢
  have hl : lv_has ls 4 [(0, .ref b)] := hl
  refine va_new (ci := 0) (fs := [.int 0, .null, .null, .null, .null, .null, .null, .null, .null, .null, .null, .null, .null, .null, .int 0, .null, .int 0, .null, .int 0]) (C := RX0) (T := TX0) (N := 19) hx hb hts in_X0 tyX0 tyX0_ok hown (hts _ q29) (hts _ q30) (hts _ q27) hK hP hD hS hA rfl (fun j hj => by rcases (show j = 0 ∨ j = 1 ∨ j = 2 ∨ j = 3 ∨ j = 4 ∨ j = 5 ∨ j = 6 ∨ j = 7 ∨ j = 8 ∨ j = 9 ∨ j = 10 ∨ j = 11 ∨ j = 12 ∨ j = 13 ∨ j = 14 ∨ j = 15 ∨ j = 16 ∨ j = 17 ∨ j = 18 by omega) with rfl | rfl | rfl | rfl | rfl | rfl | rfl | rfl | rfl | rfl | rfl | rfl | rfl | rfl | rfl | rfl | rfl | rfl | rfl <;> rfl) (Nat.le_of_ble_eq_true rfl) (Nat.le_of_ble_eq_true rfl) dL_law_0 (fun qx H hP hD hS => ?_)
  have hP : va_P (dC, dI) vwCl (xW0 qx) H := hP
  have hD : va_D (fun q : Nat => s.heap.size ≤ q) (xW0 qx) := hD
  refine W.widen (k := 1) (n := 19) (Nat.le_refl _) (Nat.le_refl _) ?_
  refine lv_dup hx hb dL_law_3 rfl ?_
  have hFc := va_free (wc := xW0 qx) hD hS hA [0] rfl
  refine va_callv (va_runI (As := []) (rest := [.ref qx]) S (metX_init l (dC, dI) qx H.size) (cwI 0 hts (lw_meth q33) rfl rfl rfl (hts _ q27) (hts _ q31) (hts _ q32) rfl (by decide +kernel) ⟨by decide, by decide⟩) ⟨fun a U g mk q => by obtain ⟨q0, q1, qP, qK, qD⟩ := q; exact ⟨q0, q1, qP, va_K.moved (u := U) (U := U.calling g mk a) (Vm.Alike.refl U.vm) qK, qD⟩, fun U hU hW => ⟨rfl, by rw [hU], by rw [hU]; exact hP, va_K.moved hW.alike hK, hD.weaken (fun _ _ _ _ => trivial)⟩⟩ rfl rfl hl.1 rfl (lv_room (Nat.le_of_ble_eq_true rfl)) dL_law_4 ⟨by decide, by decide⟩) hS (fun q _ h => hFc q h) hFc (fun u t H1 locs ht hvm hw hB hz1 hk1 hS => ?_)
  obtain ⟨h, d⟩ := u
  have hw : h 0 = qx := hw
  obtain ⟨hP1, hK1, hD1⟩ := hB
  rw [ht] at hP1
  have hK1 : va_K (dC, dI) vwCl (tX d) s := va_K.moved hvm.symm hK1
  have hP2 : va_P (dC, dI) vwCl (cX h d xInit) H1 := hP1
  have hD2 : va_D (fun q : Nat => s.heap.size ≤ q) (cX h d xInit) := hD1.weaken (fun _ _ _ q => hFc _ q)
  subst hw
  refine W.widen (k := 16) (n := 523) (by decide) (by decide) ?_
  refine lv_astore_n (lv' := [(1, .ref (h 0)), (0, .ref b)]) hx hb dL_law_7 rfl hl (by decide) rfl (fun ls hl => ?_)
  refine va_new (ci := 1) (fs := [.int 0, .null, .null, .null, .null, .null, .null, .null, .null, .null, .null]) (C := RX1) (T := TX1) (N := 11) hx hb hts in_X1 tyX1 tyX1_ok hown (hts _ q213) (hts _ q214) (hts _ q28) hK1 hP2 hD2 hS hA rfl (fun j hj => by rcases (show j = 0 ∨ j = 1 ∨ j = 2 ∨ j = 3 ∨ j = 4 ∨ j = 5 ∨ j = 6 ∨ j = 7 ∨ j = 8 ∨ j = 9 ∨ j = 10 by omega) with rfl | rfl | rfl | rfl | rfl | rfl | rfl | rfl | rfl | rfl | rfl <;> rfl) (Nat.le_of_ble_eq_true rfl) (Nat.le_of_ble_eq_true rfl) dL_law_8 (fun qy H hP hD hS => ?_)
  have hP : va_P (dC, dI) vwCl (cX h d xInit ++ yW0 qy) H := hP
  have hD : va_D (fun q : Nat => s.heap.size ≤ q) (cX h d xInit ++ yW0 qy) := hD
  refine W.widen (k := 17) (n := 534) (Nat.le_refl _) (Nat.le_refl _) ?_
  refine lv_dup hx hb dL_law_11 rfl ?_
  have hPc := hP.sub (ws' := yW0 qy) [16] rfl
  have hDc := hD.sub (ws' := yW0 qy) [16] (by decide) rfl
  have hKc := hK1.sub (tys' := []) [] rfl
  have hFc := va_free (wc := yW0 qy) hD hS hA [16] rfl
  refine va_callv (va_runI (As := []) (rest := [.ref qy]) S (metY_init l (dC, dI) qy H.size) (cwI 0 hts (lw_meth q217) rfl rfl rfl (hts _ q28) (hts _ q215) (hts _ q216) rfl (by decide +kernel) ⟨by decide, by decide⟩) ⟨fun a U g mk q => by obtain ⟨q0, q1, qP, qK, qD⟩ := q; exact ⟨q0, q1, qP, va_K.moved (u := U) (U := U.calling g mk a) (Vm.Alike.refl U.vm) qK, qD⟩, fun U hU hW => ⟨rfl, by rw [hU], by rw [hU]; exact hPc, va_K.moved hW.alike hKc, hDc.weaken (fun _ _ _ _ => trivial)⟩⟩ rfl rfl hl.1 rfl (lv_room (Nat.le_of_ble_eq_true rfl)) dL_law_12 ⟨by decide, by decide⟩) hS (fun q _ h => hFc q h) hFc (fun u t H1 locs ht hvm hw hB hz1 hk1 hS => ?_)
  obtain ⟨g, k⟩ := u
  have hw : g 0 = qy := hw
  obtain ⟨hP1, hK2, hD1⟩ := hB
  rw [ht] at hP1
  have hK2 : va_K (dC, dI) vwCl (tY k) s := va_K.moved hvm.symm hK2
  obtain ⟨hP, hD⟩ := va_join (wr := cX h d xInit) (w1 := cY g k yInit) hP hD [16] [0, 1, 2, 3, 4, 5, 6, 7, 8, 9, 10, 11, 12, 13, 14, 15] rfl rfl (by decide) (by decide) hk1 hFc hP1 hD1
  have hI : bL (dC, dI) (fun q : Nat => s.heap.size ≤ q) h d g k xInit yInit s H1 locs := ⟨hK1.app hK2, hP, hD, hS⟩
  subst hw
  refine W.widen (k := 27) (n := 918) (by decide) (by decide) ?_
  refine lv_astore_n (lv' := [(2, .ref (g 0)), (1, .ref (h 0)), (0, .ref b)]) hx hb dL_law_15 rfl hl (by decide) rfl (fun ls hl => ?_)
  refine lv_iconst (v := 0) hx hb dL_law_16 (by decide) ?_
  refine lv_istore_n (lv' := [(3, .int 0), (2, .ref (g 0)), (1, .ref (h 0)), (0, .ref b)]) hx hb dL_law_17 rfl hl (by decide) rfl (fun ls hl => ?_)
  exact law_loop hL S hr hlocks hX hbl (L + 1) 0 xInit yInit _ _ _ (Nat.zero_le _) (by omega) tr_init hI hl
set_option maxHeartbeats 4000000 in
theorem lw_walk (l : Launch) (b : Addr) (xs : List Int32) : MetFree l x (headSpec (Jvm.Cond.code x code maxLocals ret :: tables_1) room_1) (lw_P b xs) (fun _ _ _ _ _ => True) lw_Q := by
  refine MetFree.of_bodyS (code := code) (maxLocals := maxLocals) (ret := ret) (by decide) ?_ ?_
  · intro args s m h hn
    obtain ⟨meth, c, h1, h2, h3, h4, h5, h6, -, -⟩ := Cond.code_spec hn (atoms_spec (ws := Jvm.Cond.code x code maxLocals ret :: tables_1) h _ List.mem_cons_self)
    exact ⟨meth, c, h1, h2, h3, h4, h5, h6⟩
  · intro p e s m args below meth c s₁ B hml0 hP _
    obtain ⟨rfl, hx, hbd, hgv⟩ := hP
    obtain ⟨scr, harrAt, hlist, hof, hsmall⟩ := hx
    obtain ⟨hcb, hkn, -, -⟩ := State.arrayAt?_spec harrAt
    have hown : s.vm.findClass R_law = some m.cls := findClass_of_methodNamed B.named
    have hts0 : ∀ c ∈ (Jvm.Cond.code x code maxLocals ret :: tables_1), c.before #[Value.ref b] s = true := atoms_spec (ws := Jvm.Cond.code x code maxLocals ret :: tables_1) B.pre
    have hts : ∀ w ∈ lw_tbl, w.before #[Value.ref b] s = true := k2_hts_sels lw_privs (fun w hw => hts0 w (List.mem_cons_of_mem _ hw)) lw_privs_ok
    have hml : c.maxLocals = 4 := B.maxLocals_eq (hts0 _ List.mem_cons_self)
    have X₀ : Stand p l e room_1 s m #[Value.ref b] below meth c s₁ [] 0 0 := Stand.of_body B
    have hh0 : s₁.heap = s.heap := by rw [B.state]; rfl
    have hsz : scr.slots.size = xs.length := by rw [← Array.length_toList, hlist, List.length_map]
    have hval : ∀ j : Nat, j < xs.length → scr.slots[j]? = some (.int (xs.getD j 0)) := fun j hj => by
      rw [← Array.getElem?_toList, hlist]
      simp [hj]
    have hbl : b < s.heap.size := (Array.getElem?_eq_some_iff.mp hcb).1
    have hX : va_X b xs.length (fun j => xs.getD j 0) s s.heap := ⟨scr, hcb, hof, hkn, hsz, hval⟩
    have K : W p l e room_1 s m #[Value.ref b] below meth c s₁.heap [] 0 0 (lw_Z below #[Value.ref b] s) (entryFrame m ([Value.ref b] : List Value).toArray 4) := by
      rw [hh0]
      exact whole_start l hbd ⟨B.exec, B.bytes, B.returns, hml, hown, hts, hX, hbl, B.notSynchronized, hgv⟩
    obtain ⟨t, a1, o, b1, b2, b3⟩ := K s₁ rfl X₀
    exact ⟨t, o, a1, b1, b2, b3⟩
theorem lw_pre_spec {args : Array Value} {s : State} (h : (Jvm.Cond.and given_1 narrow_1).before args s = true) (hr : rest_1_c.before args s = true) : ∃ (b : Addr) (xs : List Int32), lw_P b xs args s := by
  have hs := flat_of_before _ h
  have hq := flat_of_before _ hr
  have hc : (Cond.count 1).before args s = true := hs _ (by decide +kernel)
  have harr : (Cond.arrayOf (.arg 0) .int).before args s = true := hs _ (by decide +kernel)
  have hle : (Cond.le (.length (.arg 0)) (.int 256)).before args s = true := hs _ (by decide +kernel)
  have hlen : (Cond.isInt (.length (.arg 0))).before args s = true := hq _ (by decide +kernel)
  have hall : (Cond.all (.arg 0) (.isInt (.elem (.arg 0) (.index 0)))).before args s = true := hq _ (by decide +kernel)
  obtain ⟨b, xs, hb, hx⟩ := State.ints_of_pre rfl harr hlen hall
  have hsm : xs.length < 2 ^ 31 := hx.choose_spec.2.2.2
  have hev : (Term.length (.arg 0)).eval args s none [] s = some (.int xs.length.toInt32) := hx.length_eval hb
  have hv := Cond.le_ints hev (show (Term.int 256).eval args s none [] s = some (.int 256) from rfl)
  have hd : xs.length.toInt32 ≤ 256 := by
    simpa [Cond.before, Cond.holds, hv] using hle
  have hN : xs.length ≤ 256 := (Int32.ofNat_le_ofNat hsm (by decide)).mp (show Int32.ofNat xs.length ≤ Int32.ofNat 256 from hd)
  exact ⟨b, xs, Cond.one_arg hc (show args[0]? = some (.ref b) from hb), hx, hN, h⟩
theorem lw_comes (l : Launch) : Comes l x (Jvm.Cond.code x code maxLocals ret :: tables_1) room_1 (fun tb e args s => Calls_1 tb e args s ∧ rest_1 tb e args s ∧ Pre_1 tb e args s)
    (fun _ _ args s o t => lw_Q args s o t) := by
  intro p e ha hc hk s m args below hf hfit hheap happ hpre
  obtain ⟨b, xs, hP⟩ := lw_pre_spec hpre.2.2 hpre.2.1
  obtain ⟨k, o, h1, h2, h3, hQ⟩ := lw_walk l b xs p e ha hc hk s m args below hf ((Spec.applies_iff_loose hf).mp happ).1 hP trivial
  exact ⟨k, o, h1, h2, h3, hQ⟩
theorem lw_frame {s t : State} {o : Outcome} {args : Array Value} (h : Framed s o t [] 600000 7290000) :
    Framed s o t (fieldLocs frame_1_writes args s ++ arrayLocs frame_1_arrays args s ++ staticLocs frame_1_statics s) 600000 7290000 := h
theorem lw_limb (L : Cond) (hL : ∀ (args : Array Value) (s t : State), L.after args s (.returned (some (.int 1))) t = true) :
    ArmFor flags0 classFile x code maxLocals ret World_1 tables_1 room_1 Calls_1 rest_1 Pre_1
      (fun tb e a s o t => postC L tb e a s o t ∧ Framed s o t (fieldLocs frame_1_writes a s ++ arrayLocs frame_1_arrays a s ++ staticLocs frame_1_statics s) 600000 7290000) := by
  intro l _ _ _ p e ha hc hk s m args below hf hfit hheap happ hpre
  obtain ⟨k, o, h1, h2, h3, rfl, hF⟩ := lw_comes l p e ha hc hk s m args below hf hfit hheap happ hpre
  exact ⟨k, _, h1, h2, h3, hL args s _, lw_frame hF⟩
theorem i_vc : Claimed_1_1 ∧ Claimed_1_2 := ⟨lw_limb limb_1_1 (fun args s t => by simp [limb_1_1, Cond.after, Cond.holds, Cond.value]), lw_limb limb_1_2 (fun args s t => Cond.after_iff.mpr (by
  first | (rw [show limb_1_2 = Cond.eq .result (.int 1) from rfl, Cond.eq_ints (x := 1) (y := 1) rfl rfl]; simp; done) | (simp [limb_1_2, Cond.value, Term.eval]; done)))⟩
end
