section
-- ===== PART A: goes FIRST, ahead of the names: the tables' words, and 'selects' of the private methods out of them =====
/-- a private method of a class that the tables say can be made, by its rows of tables_1 -/
def lw_okq (q : MethodName × Nat) : Prop := (q.1.cls ≠ "java/lang/invoke/MethodHandle" ∧ q.1.cls ≠ "java/lang/invoke/VarHandle") ∧ Cond.instantiable q.1.cls q.2 ∈ tables_1 ∧ Cond.privateMethod q.1 ∈ tables_1 ∧ Cond.instanceMethod q.1 ∈ tables_1
set_option maxRecDepth 100000
theorem lw_t1 {w : Cond} (h : w ∈ tables_1_1) : w ∈ tables_1 := List.mem_append_left _ h
theorem lw_t2 {w : Cond} (h : w ∈ tables_1_2) : w ∈ tables_1 := List.mem_append_right _ h
theorem lw_p0 : lw_okq (⟨"ModalJudge", "isState", "(I)Z"⟩, 15) := ⟨⟨by decide +kernel, by decide +kernel⟩, lw_t1 (List.mem_of_getElem? (i := 4) rfl), lw_t1 (List.mem_of_getElem? (i := 64) rfl), lw_t1 (List.mem_of_getElem? (i := 65) rfl)⟩
theorem lw_p1 : lw_okq (⟨"ModalJudge", "changeFormula", "()V"⟩, 15) := ⟨⟨by decide +kernel, by decide +kernel⟩, lw_t1 (List.mem_of_getElem? (i := 4) rfl), lw_t1 (List.mem_of_getElem? (i := 76) rfl), lw_t1 (List.mem_of_getElem? (i := 77) rfl)⟩
theorem lw_p2 : lw_okq (⟨"ModalJudge", "parse", "()V"⟩, 15) := ⟨⟨by decide +kernel, by decide +kernel⟩, lw_t1 (List.mem_of_getElem? (i := 4) rfl), lw_t1 (List.mem_of_getElem? (i := 92) rfl), lw_t1 (List.mem_of_getElem? (i := 93) rfl)⟩
theorem lw_p3 : lw_okq (⟨"ModalJudge", "termsBehind", "(I)I"⟩, 15) := ⟨⟨by decide +kernel, by decide +kernel⟩, lw_t1 (List.mem_of_getElem? (i := 4) rfl), lw_t1 (List.mem_of_getElem? (i := 96) rfl), lw_t1 (List.mem_of_getElem? (i := 97) rfl)⟩
theorem lw_p4 : lw_okq (⟨"ModalJudge", "bindAll", "()Z"⟩, 15) := ⟨⟨by decide +kernel, by decide +kernel⟩, lw_t1 (List.mem_of_getElem? (i := 4) rfl), lw_t1 (List.mem_of_getElem? (i := 100) rfl), lw_t1 (List.mem_of_getElem? (i := 101) rfl)⟩
theorem lw_p5 : lw_okq (⟨"ModalJudge", "binds", "(I)Z"⟩, 15) := ⟨⟨by decide +kernel, by decide +kernel⟩, lw_t1 (List.mem_of_getElem? (i := 4) rfl), lw_t1 (List.mem_of_getElem? (i := 104) rfl), lw_t1 (List.mem_of_getElem? (i := 105) rfl)⟩
theorem lw_p6 : lw_okq (⟨"ModalJudge", "findBinder", "(II)Z"⟩, 15) := ⟨⟨by decide +kernel, by decide +kernel⟩, lw_t1 (List.mem_of_getElem? (i := 4) rfl), lw_t1 (List.mem_of_getElem? (i := 108) rfl), lw_t1 (List.mem_of_getElem? (i := 109) rfl)⟩
theorem lw_p7 : lw_okq (⟨"ModalJudge", "solve", "()V"⟩, 15) := ⟨⟨by decide +kernel, by decide +kernel⟩, lw_t1 (List.mem_of_getElem? (i := 4) rfl), lw_t1 (List.mem_of_getElem? (i := 116) rfl), lw_t1 (List.mem_of_getElem? (i := 117) rfl)⟩
theorem lw_p8 : lw_okq (⟨"ModalJudge", "countLeast", "()V"⟩, 15) := ⟨⟨by decide +kernel, by decide +kernel⟩, lw_t1 (List.mem_of_getElem? (i := 4) rfl), lw_t1 (List.mem_of_getElem? (i := 120) rfl), lw_t1 (List.mem_of_getElem? (i := 121) rfl)⟩
theorem lw_p9 : lw_okq (⟨"ModalJudge", "demanded", "(II)I"⟩, 15) := ⟨⟨by decide +kernel, by decide +kernel⟩, lw_t1 (List.mem_of_getElem? (i := 4) rfl), lw_t1 (List.mem_of_getElem? (i := 124) rfl), lw_t1 (List.mem_of_getElem? (i := 125) rfl)⟩
theorem lw_p10 : lw_okq (⟨"ModalJudge", "before", "(II)I"⟩, 15) := ⟨⟨by decide +kernel, by decide +kernel⟩, lw_t1 (List.mem_of_getElem? (i := 4) rfl), lw_t1 (List.mem_of_getElem? (i := 129) rfl), lw_t1 (List.mem_of_getElem? (i := 130) rfl)⟩
theorem lw_p11 : lw_okq (⟨"ModalJudge", "unpack", "(I)V"⟩, 15) := ⟨⟨by decide +kernel, by decide +kernel⟩, lw_t1 (List.mem_of_getElem? (i := 4) rfl), lw_t1 (List.mem_of_getElem? (i := 133) rfl), lw_t1 (List.mem_of_getElem? (i := 134) rfl)⟩
theorem lw_p12 : lw_okq (⟨"ModalJudge", "packed", "()I"⟩, 15) := ⟨⟨by decide +kernel, by decide +kernel⟩, lw_t1 (List.mem_of_getElem? (i := 4) rfl), lw_t1 (List.mem_of_getElem? (i := 137) rfl), lw_t1 (List.mem_of_getElem? (i := 138) rfl)⟩
theorem lw_p13 : lw_okq (⟨"ModalJudge", "overSteps", "(IIZ)I"⟩, 15) := ⟨⟨by decide +kernel, by decide +kernel⟩, lw_t1 (List.mem_of_getElem? (i := 4) rfl), lw_t1 (List.mem_of_getElem? (i := 141) rfl), lw_t1 (List.mem_of_getElem? (i := 142) rfl)⟩
theorem lw_p14 : lw_okq (⟨"ModalJudgeModel", "isState", "(I)Z"⟩, 9) := ⟨⟨by decide +kernel, by decide +kernel⟩, lw_t1 (List.mem_of_getElem? (i := 157) rfl), lw_t1 (List.mem_of_getElem? (i := 195) rfl), lw_t1 (List.mem_of_getElem? (i := 196) rfl)⟩
theorem lw_p15 : lw_okq (⟨"ModalJudgeModel", "counterpart", "(I)I"⟩, 9) := ⟨⟨by decide +kernel, by decide +kernel⟩, lw_t1 (List.mem_of_getElem? (i := 157) rfl), lw_t1 (List.mem_of_getElem? (i := 215) rfl), lw_t1 (List.mem_of_getElem? (i := 216) rfl)⟩
def lw_privs_1 : List (MethodName × Nat) := [(⟨"ModalJudge", "isState", "(I)Z"⟩, 15), (⟨"ModalJudge", "changeFormula", "()V"⟩, 15), (⟨"ModalJudge", "parse", "()V"⟩, 15), (⟨"ModalJudge", "termsBehind", "(I)I"⟩, 15), (⟨"ModalJudge", "bindAll", "()Z"⟩, 15), (⟨"ModalJudge", "binds", "(I)Z"⟩, 15), (⟨"ModalJudge", "findBinder", "(II)Z"⟩, 15), (⟨"ModalJudge", "solve", "()V"⟩, 15), (⟨"ModalJudge", "countLeast", "()V"⟩, 15), (⟨"ModalJudge", "demanded", "(II)I"⟩, 15), (⟨"ModalJudge", "before", "(II)I"⟩, 15), (⟨"ModalJudge", "unpack", "(I)V"⟩, 15), (⟨"ModalJudge", "packed", "()I"⟩, 15), (⟨"ModalJudge", "overSteps", "(IIZ)I"⟩, 15), (⟨"ModalJudgeModel", "isState", "(I)Z"⟩, 9), (⟨"ModalJudgeModel", "counterpart", "(I)I"⟩, 9)]
theorem lw_r1 : ∀ q ∈ lw_privs_1, lw_okq q := List.forall_mem_cons.mpr ⟨lw_p0, List.forall_mem_cons.mpr ⟨lw_p1, List.forall_mem_cons.mpr ⟨lw_p2, List.forall_mem_cons.mpr ⟨lw_p3, List.forall_mem_cons.mpr ⟨lw_p4, List.forall_mem_cons.mpr ⟨lw_p5, List.forall_mem_cons.mpr ⟨lw_p6, List.forall_mem_cons.mpr ⟨lw_p7, List.forall_mem_cons.mpr ⟨lw_p8, List.forall_mem_cons.mpr ⟨lw_p9, List.forall_mem_cons.mpr ⟨lw_p10, List.forall_mem_cons.mpr ⟨lw_p11, List.forall_mem_cons.mpr ⟨lw_p12, List.forall_mem_cons.mpr ⟨lw_p13, List.forall_mem_cons.mpr ⟨lw_p14, List.forall_mem_cons.mpr ⟨lw_p15, fun _ h => absurd h List.not_mem_nil⟩⟩⟩⟩⟩⟩⟩⟩⟩⟩⟩⟩⟩⟩⟩⟩
theorem lw_p16 : lw_okq (⟨"ModalJudgeModel", "findEnds", "()Z"⟩, 9) := ⟨⟨by decide +kernel, by decide +kernel⟩, lw_t1 (List.mem_of_getElem? (i := 157) rfl), lw_t1 (List.mem_of_getElem? (i := 223) rfl), lw_t1 (List.mem_of_getElem? (i := 224) rfl)⟩
theorem lw_p17 : lw_okq (⟨"ModalJudgeModel", "arity", "(I)I"⟩, 9) := ⟨⟨by decide +kernel, by decide +kernel⟩, lw_t1 (List.mem_of_getElem? (i := 157) rfl), lw_t1 (List.mem_of_getElem? (i := 227) rfl), lw_t1 (List.mem_of_getElem? (i := 228) rfl)⟩
theorem lw_p18 : lw_okq (⟨"ModalJudgeModel", "binds", "(I)Z"⟩, 9) := ⟨⟨by decide +kernel, by decide +kernel⟩, lw_t1 (List.mem_of_getElem? (i := 157) rfl), lw_t1 (List.mem_of_getElem? (i := 231) rfl), lw_t1 (List.mem_of_getElem? (i := 232) rfl)⟩
theorem lw_p19 : lw_okq (⟨"ModalJudgeModel", "binderOf", "(I)I"⟩, 9) := ⟨⟨by decide +kernel, by decide +kernel⟩, lw_t1 (List.mem_of_getElem? (i := 157) rfl), lw_t1 (List.mem_of_getElem? (i := 235) rfl), lw_t1 (List.mem_of_getElem? (i := 236) rfl)⟩
theorem lw_p20 : lw_okq (⟨"ModalJudgeModel", "find", "()I"⟩, 9) := ⟨⟨by decide +kernel, by decide +kernel⟩, lw_t1 (List.mem_of_getElem? (i := 157) rfl), lw_t2 (List.mem_of_getElem? (i := 4) rfl), lw_t2 (List.mem_of_getElem? (i := 5) rfl)⟩
theorem lw_p21 : lw_okq (⟨"ModalJudgeModel", "first", "(I)I"⟩, 9) := ⟨⟨by decide +kernel, by decide +kernel⟩, lw_t1 (List.mem_of_getElem? (i := 157) rfl), lw_t2 (List.mem_of_getElem? (i := 8) rfl), lw_t2 (List.mem_of_getElem? (i := 9) rfl)⟩
theorem lw_p22 : lw_okq (⟨"ModalJudgeModel", "value", "()I"⟩, 9) := ⟨⟨by decide +kernel, by decide +kernel⟩, lw_t1 (List.mem_of_getElem? (i := 157) rfl), lw_t2 (List.mem_of_getElem? (i := 12) rfl), lw_t2 (List.mem_of_getElem? (i := 13) rfl)⟩
theorem lw_p23 : lw_okq (⟨"ModalJudgeModel", "stepsInto", "(IZ)I"⟩, 9) := ⟨⟨by decide +kernel, by decide +kernel⟩, lw_t1 (List.mem_of_getElem? (i := 157) rfl), lw_t2 (List.mem_of_getElem? (i := 16) rfl), lw_t2 (List.mem_of_getElem? (i := 17) rfl)⟩
theorem lw_p24 : lw_okq (⟨"ModalJudgeModel", "lastOpen", "()I"⟩, 9) := ⟨⟨by decide +kernel, by decide +kernel⟩, lw_t1 (List.mem_of_getElem? (i := 157) rfl), lw_t2 (List.mem_of_getElem? (i := 20) rfl), lw_t2 (List.mem_of_getElem? (i := 21) rfl)⟩
theorem lw_p25 : lw_okq (⟨"ModalJudgeModel", "in", "(II)Z"⟩, 9) := ⟨⟨by decide +kernel, by decide +kernel⟩, lw_t1 (List.mem_of_getElem? (i := 157) rfl), lw_t2 (List.mem_of_getElem? (i := 24) rfl), lw_t2 (List.mem_of_getElem? (i := 25) rfl)⟩
def lw_privs_2 : List (MethodName × Nat) := [(⟨"ModalJudgeModel", "findEnds", "()Z"⟩, 9), (⟨"ModalJudgeModel", "arity", "(I)I"⟩, 9), (⟨"ModalJudgeModel", "binds", "(I)Z"⟩, 9), (⟨"ModalJudgeModel", "binderOf", "(I)I"⟩, 9), (⟨"ModalJudgeModel", "find", "()I"⟩, 9), (⟨"ModalJudgeModel", "first", "(I)I"⟩, 9), (⟨"ModalJudgeModel", "value", "()I"⟩, 9), (⟨"ModalJudgeModel", "stepsInto", "(IZ)I"⟩, 9), (⟨"ModalJudgeModel", "lastOpen", "()I"⟩, 9), (⟨"ModalJudgeModel", "in", "(II)Z"⟩, 9)]
theorem lw_r2 : ∀ q ∈ lw_privs_2, lw_okq q := List.forall_mem_cons.mpr ⟨lw_p16, List.forall_mem_cons.mpr ⟨lw_p17, List.forall_mem_cons.mpr ⟨lw_p18, List.forall_mem_cons.mpr ⟨lw_p19, List.forall_mem_cons.mpr ⟨lw_p20, List.forall_mem_cons.mpr ⟨lw_p21, List.forall_mem_cons.mpr ⟨lw_p22, List.forall_mem_cons.mpr ⟨lw_p23, List.forall_mem_cons.mpr ⟨lw_p24, List.forall_mem_cons.mpr ⟨lw_p25, fun _ h => absurd h List.not_mem_nil⟩⟩⟩⟩⟩⟩⟩⟩⟩⟩
def lw_privs : List (MethodName × Nat) := lw_privs_1 ++ (lw_privs_2)
def lw_tbl : List Cond := k2_sels lw_privs ++ tables_1
theorem lw_privs_ok : ∀ q ∈ lw_privs, lw_okq q := by
  show ∀ q ∈ lw_privs_1 ++ (lw_privs_2), lw_okq q
  exact List.forall_mem_append.mpr ⟨lw_r1, lw_r2⟩
-- ===== ONE list of words for every method: the tables' words that hold all through a run =====
def lw_all : List Cond := lw_tbl.filter goodWord
/-- a word of the tables by its place: claim/WORDS.tsv -/
theorem lw_w {w : Cond} (i : Nat) (h : lw_tbl[i]? = some w) (g : goodWord w = true) : w ∈ lw_all := List.mem_filter.mpr ⟨List.mem_of_getElem? h, g⟩
theorem lw_all_tbl {w : Cond} (h : w ∈ lw_all) : w ∈ lw_tbl := (List.mem_filter.mp h).1
theorem lw_self : GoodIn lw_all lw_all := fun w h => ⟨h, good_of_word (List.mem_filter.mp h).2⟩
/-- a class's field words, by their places -/
theorem lw_in (ws : List Cond) (ps : List Nat) (hp : ws = ps.filterMap (fun i => lw_tbl[i]?)) (hg : ws.all goodWord = true) : ∀ w ∈ ws, w ∈ lw_all := by
  intro w h
  have h1 := List.all_eq_true.mp hg w h
  rw [hp] at h
  obtain ⟨i, -, hi⟩ := List.mem_filterMap.mp h
  exact lw_w i hi h1
/-- the words of a contract for the method y with code b, L locals, answer r -/
abbrev ws_ (y : MethodName) (b : ByteArray) (L : Nat) (r : Option FieldType) : List Cond := Cond.code y b L r :: lw_all
theorem lw_meth {y : MethodName} {b : ByteArray} {L : Nat} {r : Option FieldType} (h : Cond.code y b L r ∈ lw_all) : GoodIn lw_all (ws_ y b L r) := by
  intro w hw
  rcases List.mem_cons.mp hw with e | e
  · rw [e]
    exact lw_self _ h
  · exact lw_self _ e
theorem lw_app {a c : List Cond} (ha : ∀ w ∈ a, w ∈ lw_all) (hc : GoodIn lw_all c) : GoodIn lw_all (a ++ c) := by
  intro w hw
  rcases List.mem_append.mp hw with e | e
  · exact lw_self w (ha w e)
  · exact hc w e
/-- what a call through an object asks: cwV n hts (lw_V ..) -/
theorem lw_V {own : String} {idx : Nat} {C : String} {y : MethodName} {b : ByteArray} {L : Nat} {r : Option FieldType} (h1 : Cond.methodLink own idx y ∈ lw_all) (h2 : Cond.instanceMethod y ∈ lw_all) (h3 : Cond.selects C y y ∈ lw_all) (h4 : Cond.initialized C ∈ lw_all) (h5 : Cond.code y b L r ∈ lw_all) : GoodIn lw_all (wsV own idx C y (ws_ y b L r)) := by
  refine lw_app ?_ (lw_meth h5)
  intro w hw
  simp only [List.mem_cons, List.not_mem_nil, or_false] at hw
  rcases hw with e | e | e | e
  · rw [e]; exact h1
  · rw [e]; exact h2
  · rw [e]; exact h3
  · rw [e]; exact h4
/-- what a static call asks: va_cwS n hts (lw_S ..) -/
theorem lw_S {own : String} {idx : Nat} {y : MethodName} {b : ByteArray} {L : Nat} {r : Option FieldType} (h1 : Cond.methodLink own idx y ∈ lw_all) (h2 : Cond.static y ∈ lw_all) (h3 : Cond.initialized y.cls ∈ lw_all) (h4 : Cond.code y b L r ∈ lw_all) : GoodIn lw_all (va_wsS own idx y (ws_ y b L r)) := by
  refine lw_app ?_ (lw_meth h4)
  intro w hw
  simp only [List.mem_cons, List.not_mem_nil, or_false] at hw
  rcases hw with e | e | e
  · rw [e]; exact h1
  · rw [e]; exact h2
  · rw [e]; exact h3
/-- the words of a contract for a method WITH HANDLERS (hh: its table) -/
abbrev wsW_ (y : MethodName) (b : ByteArray) (L : Nat) (r : Option FieldType) (hh : List (Nat × Nat × Nat × Nat)) : List Cond := Cond.codeWith y b L r hh :: lw_all
theorem lw_methW {y : MethodName} {b : ByteArray} {L : Nat} {r : Option FieldType} {hh : List (Nat × Nat × Nat × Nat)} (h : Cond.codeWith y b L r hh ∈ lw_all) : GoodIn lw_all (wsW_ y b L r hh) := by
  intro w hw
  rcases List.mem_cons.mp hw with e | e
  · rw [e]
    exact lw_self _ h
  · exact lw_self _ e
/-- any list of words by their places (lw_in), good -/
theorem lw_good {ws : List Cond} (h : ∀ w ∈ ws, w ∈ lw_all) : GoodIn lw_all ws := fun w hw => lw_self w (h w hw)
/-- what a call of a method with handlers asks: vx_cwVW n hts (lw_VW ..), vx_cwSW n hts (lw_SW ..) -/
theorem lw_VW {own : String} {idx : Nat} {C : String} {y : MethodName} {b : ByteArray} {L : Nat} {r : Option FieldType} {hh : List (Nat × Nat × Nat × Nat)} (h1 : Cond.methodLink own idx y ∈ lw_all) (h2 : Cond.instanceMethod y ∈ lw_all) (h3 : Cond.selects C y y ∈ lw_all) (h4 : Cond.initialized C ∈ lw_all) (h5 : Cond.codeWith y b L r hh ∈ lw_all) : GoodIn lw_all (wsV own idx C y (wsW_ y b L r hh)) := by
  refine lw_app ?_ (lw_methW h5)
  intro w hw
  simp only [List.mem_cons, List.not_mem_nil, or_false] at hw
  rcases hw with e | e | e | e
  · rw [e]; exact h1
  · rw [e]; exact h2
  · rw [e]; exact h3
  · rw [e]; exact h4
theorem lw_SW {own : String} {idx : Nat} {y : MethodName} {b : ByteArray} {L : Nat} {r : Option FieldType} {hh : List (Nat × Nat × Nat × Nat)} (h1 : Cond.methodLink own idx y ∈ lw_all) (h2 : Cond.static y ∈ lw_all) (h3 : Cond.initialized y.cls ∈ lw_all) (h4 : Cond.codeWith y b L r hh ∈ lw_all) : GoodIn lw_all (va_wsS own idx y (wsW_ y b L r hh)) := by
  refine lw_app ?_ (lw_methW h4)
  intro w hw
  simp only [List.mem_cons, List.not_mem_nil, or_false] at hw
  rcases hw with e | e | e
  · rw [e]; exact h1
  · rw [e]; exact h2
  · rw [e]; exact h3
/-- a word by its place in its run of the tables -/
theorem lw_at {r : List Cond} (hr : ∀ w ∈ r, w ∈ lw_tbl) {w : Cond} (i : Nat) (h : r[i]? = some w) : w ∈ lw_tbl := hr w (List.mem_of_getElem? h)
theorem lw_g {w : Cond} (h : w ∈ lw_tbl) (g : goodWord w = true) : w ∈ lw_all := List.mem_filter.mpr ⟨h, g⟩
theorem lw_ms : ∀ w ∈ k2_sels lw_privs, w ∈ lw_tbl := fun w h => show w ∈ k2_sels lw_privs ++ tables_1 from List.mem_append_left _ h
theorem lw_m1 : ∀ w ∈ tables_1_1, w ∈ lw_tbl := fun w h => show w ∈ k2_sels lw_privs ++ tables_1 from List.mem_append_right (k2_sels lw_privs) (show w ∈ tables_1 from List.mem_append_left _ h)
theorem lw_m2 : ∀ w ∈ tables_1_2, w ∈ lw_tbl := fun w h => show w ∈ k2_sels lw_privs ++ tables_1 from List.mem_append_right (k2_sels lw_privs) (show w ∈ tables_1 from List.mem_append_right _ h)
theorem qs0 : (Cond.selects "ModalJudge" ⟨"ModalJudge", "isState", "(I)Z"⟩ ⟨"ModalJudge", "isState", "(I)Z"⟩) ∈ lw_all := lw_g (lw_at lw_ms 0 rfl) rfl
theorem qs1 : (Cond.selects "ModalJudge" ⟨"ModalJudge", "changeFormula", "()V"⟩ ⟨"ModalJudge", "changeFormula", "()V"⟩) ∈ lw_all := lw_g (lw_at lw_ms 1 rfl) rfl
theorem qs2 : (Cond.selects "ModalJudge" ⟨"ModalJudge", "parse", "()V"⟩ ⟨"ModalJudge", "parse", "()V"⟩) ∈ lw_all := lw_g (lw_at lw_ms 2 rfl) rfl
theorem qs3 : (Cond.selects "ModalJudge" ⟨"ModalJudge", "termsBehind", "(I)I"⟩ ⟨"ModalJudge", "termsBehind", "(I)I"⟩) ∈ lw_all := lw_g (lw_at lw_ms 3 rfl) rfl
theorem qs4 : (Cond.selects "ModalJudge" ⟨"ModalJudge", "bindAll", "()Z"⟩ ⟨"ModalJudge", "bindAll", "()Z"⟩) ∈ lw_all := lw_g (lw_at lw_ms 4 rfl) rfl
theorem qs5 : (Cond.selects "ModalJudge" ⟨"ModalJudge", "binds", "(I)Z"⟩ ⟨"ModalJudge", "binds", "(I)Z"⟩) ∈ lw_all := lw_g (lw_at lw_ms 5 rfl) rfl
theorem qs6 : (Cond.selects "ModalJudge" ⟨"ModalJudge", "findBinder", "(II)Z"⟩ ⟨"ModalJudge", "findBinder", "(II)Z"⟩) ∈ lw_all := lw_g (lw_at lw_ms 6 rfl) rfl
theorem qs7 : (Cond.selects "ModalJudge" ⟨"ModalJudge", "solve", "()V"⟩ ⟨"ModalJudge", "solve", "()V"⟩) ∈ lw_all := lw_g (lw_at lw_ms 7 rfl) rfl
theorem qs8 : (Cond.selects "ModalJudge" ⟨"ModalJudge", "countLeast", "()V"⟩ ⟨"ModalJudge", "countLeast", "()V"⟩) ∈ lw_all := lw_g (lw_at lw_ms 8 rfl) rfl
theorem qs9 : (Cond.selects "ModalJudge" ⟨"ModalJudge", "demanded", "(II)I"⟩ ⟨"ModalJudge", "demanded", "(II)I"⟩) ∈ lw_all := lw_g (lw_at lw_ms 9 rfl) rfl
theorem qs10 : (Cond.selects "ModalJudge" ⟨"ModalJudge", "before", "(II)I"⟩ ⟨"ModalJudge", "before", "(II)I"⟩) ∈ lw_all := lw_g (lw_at lw_ms 10 rfl) rfl
theorem qs11 : (Cond.selects "ModalJudge" ⟨"ModalJudge", "unpack", "(I)V"⟩ ⟨"ModalJudge", "unpack", "(I)V"⟩) ∈ lw_all := lw_g (lw_at lw_ms 11 rfl) rfl
theorem qs12 : (Cond.selects "ModalJudge" ⟨"ModalJudge", "packed", "()I"⟩ ⟨"ModalJudge", "packed", "()I"⟩) ∈ lw_all := lw_g (lw_at lw_ms 12 rfl) rfl
theorem qs13 : (Cond.selects "ModalJudge" ⟨"ModalJudge", "overSteps", "(IIZ)I"⟩ ⟨"ModalJudge", "overSteps", "(IIZ)I"⟩) ∈ lw_all := lw_g (lw_at lw_ms 13 rfl) rfl
theorem qs14 : (Cond.selects "ModalJudgeModel" ⟨"ModalJudgeModel", "isState", "(I)Z"⟩ ⟨"ModalJudgeModel", "isState", "(I)Z"⟩) ∈ lw_all := lw_g (lw_at lw_ms 14 rfl) rfl
theorem qs15 : (Cond.selects "ModalJudgeModel" ⟨"ModalJudgeModel", "counterpart", "(I)I"⟩ ⟨"ModalJudgeModel", "counterpart", "(I)I"⟩) ∈ lw_all := lw_g (lw_at lw_ms 15 rfl) rfl
theorem qs16 : (Cond.selects "ModalJudgeModel" ⟨"ModalJudgeModel", "findEnds", "()Z"⟩ ⟨"ModalJudgeModel", "findEnds", "()Z"⟩) ∈ lw_all := lw_g (lw_at lw_ms 16 rfl) rfl
theorem qs17 : (Cond.selects "ModalJudgeModel" ⟨"ModalJudgeModel", "arity", "(I)I"⟩ ⟨"ModalJudgeModel", "arity", "(I)I"⟩) ∈ lw_all := lw_g (lw_at lw_ms 17 rfl) rfl
theorem qs18 : (Cond.selects "ModalJudgeModel" ⟨"ModalJudgeModel", "binds", "(I)Z"⟩ ⟨"ModalJudgeModel", "binds", "(I)Z"⟩) ∈ lw_all := lw_g (lw_at lw_ms 18 rfl) rfl
theorem qs19 : (Cond.selects "ModalJudgeModel" ⟨"ModalJudgeModel", "binderOf", "(I)I"⟩ ⟨"ModalJudgeModel", "binderOf", "(I)I"⟩) ∈ lw_all := lw_g (lw_at lw_ms 19 rfl) rfl
theorem qs20 : (Cond.selects "ModalJudgeModel" ⟨"ModalJudgeModel", "find", "()I"⟩ ⟨"ModalJudgeModel", "find", "()I"⟩) ∈ lw_all := lw_g (lw_at lw_ms 20 rfl) rfl
theorem qs21 : (Cond.selects "ModalJudgeModel" ⟨"ModalJudgeModel", "first", "(I)I"⟩ ⟨"ModalJudgeModel", "first", "(I)I"⟩) ∈ lw_all := lw_g (lw_at lw_ms 21 rfl) rfl
theorem qs22 : (Cond.selects "ModalJudgeModel" ⟨"ModalJudgeModel", "value", "()I"⟩ ⟨"ModalJudgeModel", "value", "()I"⟩) ∈ lw_all := lw_g (lw_at lw_ms 22 rfl) rfl
theorem qs23 : (Cond.selects "ModalJudgeModel" ⟨"ModalJudgeModel", "stepsInto", "(IZ)I"⟩ ⟨"ModalJudgeModel", "stepsInto", "(IZ)I"⟩) ∈ lw_all := lw_g (lw_at lw_ms 23 rfl) rfl
theorem qs24 : (Cond.selects "ModalJudgeModel" ⟨"ModalJudgeModel", "lastOpen", "()I"⟩ ⟨"ModalJudgeModel", "lastOpen", "()I"⟩) ∈ lw_all := lw_g (lw_at lw_ms 24 rfl) rfl
theorem qs25 : (Cond.selects "ModalJudgeModel" ⟨"ModalJudgeModel", "in", "(II)Z"⟩ ⟨"ModalJudgeModel", "in", "(II)Z"⟩) ∈ lw_all := lw_g (lw_at lw_ms 25 rfl) rfl
end
section
/-! ModalJudge -/
set_option maxRecDepth 100000
def RX0 : String := "ModalJudge"
def TX0 : u_T := fun k => match k with
  | 0 => ("ModalJudge", "stepsOf", "[I", true)
  | 1 => ("ModalJudge", "marks", "[I", true)
  | 2 => ("ModalJudge", "tokenCount", "I", false)
  | 3 => ("ModalJudge", "tokens", "[B", true)
  | 4 => ("ModalJudge", "parsed", "Z", false)
  | 5 => ("ModalJudge", "isSound", "Z", false)
  | 6 => ("ModalJudge", "deepest", "I", false)
  | 7 => ("ModalJudge", "termEnd", "[B", true)
  | 8 => ("ModalJudge", "secondTerm", "[B", true)
  | 9 => ("ModalJudge", "binder", "[B", true)
  | 10 => ("ModalJudge", "depthOf", "[B", true)
  | 11 => ("ModalJudge", "solved", "Z", false)
  | 12 => ("ModalJudge", "measure", "[I", true)
  | 13 => ("ModalJudge", "mostAt", "[B", true)
  | _ => ("ModalJudge", "digits", "[B", true)
def tyX0 : Nat → FieldType := fun k => match k with
  | 0 => .array .int
  | 1 => .array .int
  | 2 => .int
  | 3 => .array .byte
  | 4 => .boolean
  | 5 => .boolean
  | 6 => .int
  | 7 => .array .byte
  | 8 => .array .byte
  | 9 => .array .byte
  | 10 => .array .byte
  | 11 => .boolean
  | 12 => .array .int
  | 13 => .array .byte
  | _ => .array .byte
abbrev wsX00 : List Cond := u_ws RX0 TX0 15
set_option maxRecDepth 100000 in
theorem nmX0 : ∀ a, a < 15 → ∀ b, b < 15 → a ≠ b → (TX0 a).2.1 ≠ (TX0 b).2.1 := by decide +kernel
set_option maxRecDepth 100000 in
theorem tyX0_ok : ∀ k, k < 15 → parseFieldDescriptor (TX0 k).2.2.1 = some (tyX0 k) := by decide +kernel
abbrev cX0_init : ByteArray := prog_1_method_1_code
def yX0_init : MethodName := ⟨RX0, "<init>", "()V"⟩
abbrev cX0_step : ByteArray := prog_1_method_2_code
def yX0_step : MethodName := ⟨RX0, "step", "(IIZ)Z"⟩
abbrev cX0_isState : ByteArray := prog_1_method_8_code
def yX0_isState : MethodName := ⟨RX0, "isState", "(I)Z"⟩
abbrev cX0_mark : ByteArray := prog_1_method_3_code
def yX0_mark : MethodName := ⟨RX0, "mark", "(II)Z"⟩
abbrev cX0_token : ByteArray := prog_1_method_4_code
def yX0_token : MethodName := ⟨RX0, "token", "(I)I"⟩
abbrev cX0_changeFormula : ByteArray := prog_1_method_7_code
def yX0_changeFormula : MethodName := ⟨RX0, "changeFormula", "()V"⟩
abbrev cX0_wipe : ByteArray := prog_1_method_5_code
def yX0_wipe : MethodName := ⟨RX0, "wipe", "()I"⟩
abbrev cX0_turn : ByteArray := prog_1_method_6_code
def yX0_turn : MethodName := ⟨RX0, "turn", "()I"⟩
abbrev cX0_sound : ByteArray := prog_1_method_9_code
def yX0_sound : MethodName := ⟨RX0, "sound", "()Z"⟩
abbrev cX0_parse : ByteArray := prog_1_method_16_code
def yX0_parse : MethodName := ⟨RX0, "parse", "()V"⟩
abbrev cX0_termsBehind : ByteArray := prog_1_method_15_code
def yX0_termsBehind : MethodName := ⟨RX0, "termsBehind", "(I)I"⟩
abbrev cX0_bindAll : ByteArray := prog_1_method_17_code
def yX0_bindAll : MethodName := ⟨RX0, "bindAll", "()Z"⟩
abbrev cX0_binds : ByteArray := prog_1_method_14_code
def yX0_binds : MethodName := ⟨RX0, "binds", "(I)Z"⟩
abbrev cX0_findBinder : ByteArray := prog_1_method_18_code
def yX0_findBinder : MethodName := ⟨RX0, "findBinder", "(II)Z"⟩
abbrev cX0_holds : ByteArray := prog_1_method_10_code
def yX0_holds : MethodName := ⟨RX0, "holds", "(I)Z"⟩
abbrev cX0_solve : ByteArray := prog_1_method_25_code
def yX0_solve : MethodName := ⟨RX0, "solve", "()V"⟩
abbrev cX0_countLeast : ByteArray := prog_1_method_24_code
def yX0_countLeast : MethodName := ⟨RX0, "countLeast", "()V"⟩
abbrev cX0_demanded : ByteArray := prog_1_method_22_code
def yX0_demanded : MethodName := ⟨RX0, "demanded", "(II)I"⟩
abbrev cX0_before : ByteArray := prog_1_method_21_code
def yX0_before : MethodName := ⟨RX0, "before", "(II)I"⟩
abbrev cX0_unpack : ByteArray := prog_1_method_20_code
def yX0_unpack : MethodName := ⟨RX0, "unpack", "(I)V"⟩
abbrev cX0_packed : ByteArray := prog_1_method_19_code
def yX0_packed : MethodName := ⟨RX0, "packed", "()I"⟩
abbrev cX0_overSteps : ByteArray := prog_1_method_23_code
def yX0_overSteps : MethodName := ⟨RX0, "overSteps", "(IIZ)I"⟩
abbrev cX0_set : ByteArray := prog_1_method_11_code
def yX0_set : MethodName := ⟨RX0, "set", "()I"⟩
abbrev cX0_depth : ByteArray := prog_1_method_12_code
def yX0_depth : MethodName := ⟨RX0, "depth", "()I"⟩
abbrev cX0_steps : ByteArray := prog_1_method_13_code
def yX0_steps : MethodName := ⟨RX0, "steps", "(I)I"⟩
theorem q27 : (Jvm.Cond.initialized "ModalJudge") ∈ lw_all := lw_g (lw_at lw_m1 1 rfl) rfl
theorem q30 : (Jvm.Cond.instantiable "ModalJudge" (15 : Nat)) ∈ lw_all := lw_g (lw_at lw_m1 4 rfl) rfl
theorem q32 : (Jvm.Cond.instanceMethod ({ cls := "ModalJudge", name := "<init>", desc := "()V" } : Jvm.MethodName)) ∈ lw_all := lw_g (lw_at lw_m1 6 rfl) rfl
theorem q33 : (Jvm.Cond.code ({ cls := "ModalJudge", name := "<init>", desc := "()V" } : Jvm.MethodName) prog_1_method_1_code (1 : Nat) (Option.none : Option Jvm.ClassFile.FieldType)) ∈ lw_all := lw_g (lw_at lw_m1 7 rfl) rfl
theorem q34 : (Jvm.Cond.methodLink "ModalJudge" (1 : Nat) ({ cls := "java/lang/Object", name := "<init>", desc := "()V" } : Jvm.MethodName)) ∈ lw_all := lw_g (lw_at lw_m1 8 rfl) rfl
theorem q37 : (Jvm.Cond.fieldLink "ModalJudge" (7 : Nat) "ModalJudge" "stepsOf" "[I") ∈ lw_all := lw_g (lw_at lw_m1 11 rfl) rfl
theorem q38 : (Jvm.Cond.fieldLink "ModalJudge" (13 : Nat) "ModalJudge" "marks" "[I") ∈ lw_all := lw_g (lw_at lw_m1 12 rfl) rfl
theorem q39 : (Jvm.Cond.fieldLink "ModalJudge" (49 : Nat) "ModalJudge" "tokenCount" "I") ∈ lw_all := lw_g (lw_at lw_m1 13 rfl) rfl
theorem q40 : (Jvm.Cond.fieldLink "ModalJudge" (16 : Nat) "ModalJudge" "tokens" "[B") ∈ lw_all := lw_g (lw_at lw_m1 14 rfl) rfl
theorem q41 : (Jvm.Cond.fieldLink "ModalJudge" (56 : Nat) "ModalJudge" "parsed" "Z") ∈ lw_all := lw_g (lw_at lw_m1 15 rfl) rfl
theorem q42 : (Jvm.Cond.fieldLink "ModalJudge" (62 : Nat) "ModalJudge" "isSound" "Z") ∈ lw_all := lw_g (lw_at lw_m1 16 rfl) rfl
theorem q43 : (Jvm.Cond.fieldLink "ModalJudge" (69 : Nat) "ModalJudge" "deepest" "I") ∈ lw_all := lw_g (lw_at lw_m1 17 rfl) rfl
theorem q44 : (Jvm.Cond.fieldLink "ModalJudge" (20 : Nat) "ModalJudge" "termEnd" "[B") ∈ lw_all := lw_g (lw_at lw_m1 18 rfl) rfl
theorem q45 : (Jvm.Cond.fieldLink "ModalJudge" (23 : Nat) "ModalJudge" "secondTerm" "[B") ∈ lw_all := lw_g (lw_at lw_m1 19 rfl) rfl
theorem q46 : (Jvm.Cond.fieldLink "ModalJudge" (26 : Nat) "ModalJudge" "binder" "[B") ∈ lw_all := lw_g (lw_at lw_m1 20 rfl) rfl
theorem q47 : (Jvm.Cond.fieldLink "ModalJudge" (29 : Nat) "ModalJudge" "depthOf" "[B") ∈ lw_all := lw_g (lw_at lw_m1 21 rfl) rfl
theorem q48 : (Jvm.Cond.fieldLink "ModalJudge" (45 : Nat) "ModalJudge" "solved" "Z") ∈ lw_all := lw_g (lw_at lw_m1 22 rfl) rfl
theorem q49 : (Jvm.Cond.fieldLink "ModalJudge" (32 : Nat) "ModalJudge" "measure" "[I") ∈ lw_all := lw_g (lw_at lw_m1 23 rfl) rfl
theorem q50 : (Jvm.Cond.fieldLink "ModalJudge" (35 : Nat) "ModalJudge" "mostAt" "[B") ∈ lw_all := lw_g (lw_at lw_m1 24 rfl) rfl
theorem q51 : (Jvm.Cond.fieldLink "ModalJudge" (38 : Nat) "ModalJudge" "digits" "[B") ∈ lw_all := lw_g (lw_at lw_m1 25 rfl) rfl
theorem q52 : (Jvm.Cond.laysFinal "ModalJudge" "ModalJudge" "stepsOf" "[I") ∈ lw_all := lw_g (lw_at lw_m1 26 rfl) rfl
theorem q53 : (Jvm.Cond.soleField "ModalJudge" "stepsOf") ∈ lw_all := lw_g (lw_at lw_m1 27 rfl) rfl
theorem q54 : (Jvm.Cond.laysFinal "ModalJudge" "ModalJudge" "marks" "[I") ∈ lw_all := lw_g (lw_at lw_m1 28 rfl) rfl
theorem q55 : (Jvm.Cond.soleField "ModalJudge" "marks") ∈ lw_all := lw_g (lw_at lw_m1 29 rfl) rfl
theorem q56 : (Jvm.Cond.lays "ModalJudge" "ModalJudge" "tokenCount" "I") ∈ lw_all := lw_g (lw_at lw_m1 30 rfl) rfl
theorem q57 : (Jvm.Cond.soleField "ModalJudge" "tokenCount") ∈ lw_all := lw_g (lw_at lw_m1 31 rfl) rfl
theorem q58 : (Jvm.Cond.laysFinal "ModalJudge" "ModalJudge" "tokens" "[B") ∈ lw_all := lw_g (lw_at lw_m1 32 rfl) rfl
theorem q59 : (Jvm.Cond.soleField "ModalJudge" "tokens") ∈ lw_all := lw_g (lw_at lw_m1 33 rfl) rfl
theorem q60 : (Jvm.Cond.lays "ModalJudge" "ModalJudge" "parsed" "Z") ∈ lw_all := lw_g (lw_at lw_m1 34 rfl) rfl
theorem q61 : (Jvm.Cond.soleField "ModalJudge" "parsed") ∈ lw_all := lw_g (lw_at lw_m1 35 rfl) rfl
theorem q62 : (Jvm.Cond.lays "ModalJudge" "ModalJudge" "isSound" "Z") ∈ lw_all := lw_g (lw_at lw_m1 36 rfl) rfl
theorem q63 : (Jvm.Cond.soleField "ModalJudge" "isSound") ∈ lw_all := lw_g (lw_at lw_m1 37 rfl) rfl
theorem q64 : (Jvm.Cond.lays "ModalJudge" "ModalJudge" "deepest" "I") ∈ lw_all := lw_g (lw_at lw_m1 38 rfl) rfl
theorem q65 : (Jvm.Cond.soleField "ModalJudge" "deepest") ∈ lw_all := lw_g (lw_at lw_m1 39 rfl) rfl
theorem q66 : (Jvm.Cond.laysFinal "ModalJudge" "ModalJudge" "termEnd" "[B") ∈ lw_all := lw_g (lw_at lw_m1 40 rfl) rfl
theorem q67 : (Jvm.Cond.soleField "ModalJudge" "termEnd") ∈ lw_all := lw_g (lw_at lw_m1 41 rfl) rfl
theorem q68 : (Jvm.Cond.laysFinal "ModalJudge" "ModalJudge" "secondTerm" "[B") ∈ lw_all := lw_g (lw_at lw_m1 42 rfl) rfl
theorem q69 : (Jvm.Cond.soleField "ModalJudge" "secondTerm") ∈ lw_all := lw_g (lw_at lw_m1 43 rfl) rfl
theorem q70 : (Jvm.Cond.laysFinal "ModalJudge" "ModalJudge" "binder" "[B") ∈ lw_all := lw_g (lw_at lw_m1 44 rfl) rfl
theorem q71 : (Jvm.Cond.soleField "ModalJudge" "binder") ∈ lw_all := lw_g (lw_at lw_m1 45 rfl) rfl
theorem q72 : (Jvm.Cond.laysFinal "ModalJudge" "ModalJudge" "depthOf" "[B") ∈ lw_all := lw_g (lw_at lw_m1 46 rfl) rfl
theorem q73 : (Jvm.Cond.soleField "ModalJudge" "depthOf") ∈ lw_all := lw_g (lw_at lw_m1 47 rfl) rfl
theorem q74 : (Jvm.Cond.lays "ModalJudge" "ModalJudge" "solved" "Z") ∈ lw_all := lw_g (lw_at lw_m1 48 rfl) rfl
theorem q75 : (Jvm.Cond.soleField "ModalJudge" "solved") ∈ lw_all := lw_g (lw_at lw_m1 49 rfl) rfl
theorem q76 : (Jvm.Cond.laysFinal "ModalJudge" "ModalJudge" "measure" "[I") ∈ lw_all := lw_g (lw_at lw_m1 50 rfl) rfl
theorem q77 : (Jvm.Cond.soleField "ModalJudge" "measure") ∈ lw_all := lw_g (lw_at lw_m1 51 rfl) rfl
theorem q78 : (Jvm.Cond.laysFinal "ModalJudge" "ModalJudge" "mostAt" "[B") ∈ lw_all := lw_g (lw_at lw_m1 52 rfl) rfl
theorem q79 : (Jvm.Cond.soleField "ModalJudge" "mostAt") ∈ lw_all := lw_g (lw_at lw_m1 53 rfl) rfl
theorem q80 : (Jvm.Cond.laysFinal "ModalJudge" "ModalJudge" "digits" "[B") ∈ lw_all := lw_g (lw_at lw_m1 54 rfl) rfl
theorem q81 : (Jvm.Cond.soleField "ModalJudge" "digits") ∈ lw_all := lw_g (lw_at lw_m1 55 rfl) rfl
theorem q82 : (Jvm.Cond.superclass "ModalJudge" "java/lang/Object") ∈ lw_all := lw_g (lw_at lw_m1 56 rfl) rfl
theorem q86 : (Jvm.Cond.instanceMethod ({ cls := "ModalJudge", name := "step", desc := "(IIZ)Z" } : Jvm.MethodName)) ∈ lw_all := lw_g (lw_at lw_m1 60 rfl) rfl
theorem q87 : (Jvm.Cond.selects "ModalJudge" ({ cls := "ModalJudge", name := "step", desc := "(IIZ)Z" } : Jvm.MethodName) ({ cls := "ModalJudge", name := "step", desc := "(IIZ)Z" } : Jvm.MethodName)) ∈ lw_all := lw_g (lw_at lw_m1 61 rfl) rfl
theorem q88 : (Jvm.Cond.code ({ cls := "ModalJudge", name := "step", desc := "(IIZ)Z" } : Jvm.MethodName) prog_1_method_2_code (4 : Nat) (Option.some Jvm.ClassFile.FieldType.boolean)) ∈ lw_all := lw_g (lw_at lw_m1 62 rfl) rfl
theorem q89 : (Jvm.Cond.methodLink "ModalJudge" (41 : Nat) ({ cls := "ModalJudge", name := "isState", desc := "(I)Z" } : Jvm.MethodName)) ∈ lw_all := lw_g (lw_at lw_m1 63 rfl) rfl
theorem q90 : (Jvm.Cond.privateMethod ({ cls := "ModalJudge", name := "isState", desc := "(I)Z" } : Jvm.MethodName)) ∈ lw_tbl := lw_at lw_m1 64 rfl
theorem q91 : (Jvm.Cond.instanceMethod ({ cls := "ModalJudge", name := "isState", desc := "(I)Z" } : Jvm.MethodName)) ∈ lw_all := lw_g (lw_at lw_m1 65 rfl) rfl
theorem q92 : (Jvm.Cond.code ({ cls := "ModalJudge", name := "isState", desc := "(I)Z" } : Jvm.MethodName) prog_1_method_8_code (2 : Nat) (Option.some Jvm.ClassFile.FieldType.boolean)) ∈ lw_all := lw_g (lw_at lw_m1 66 rfl) rfl
theorem q94 : (Jvm.Cond.instanceMethod ({ cls := "ModalJudge", name := "mark", desc := "(II)Z" } : Jvm.MethodName)) ∈ lw_all := lw_g (lw_at lw_m1 68 rfl) rfl
theorem q95 : (Jvm.Cond.selects "ModalJudge" ({ cls := "ModalJudge", name := "mark", desc := "(II)Z" } : Jvm.MethodName) ({ cls := "ModalJudge", name := "mark", desc := "(II)Z" } : Jvm.MethodName)) ∈ lw_all := lw_g (lw_at lw_m1 69 rfl) rfl
theorem q96 : (Jvm.Cond.code ({ cls := "ModalJudge", name := "mark", desc := "(II)Z" } : Jvm.MethodName) prog_1_method_3_code (3 : Nat) (Option.some Jvm.ClassFile.FieldType.boolean)) ∈ lw_all := lw_g (lw_at lw_m1 70 rfl) rfl
theorem q98 : (Jvm.Cond.instanceMethod ({ cls := "ModalJudge", name := "token", desc := "(I)I" } : Jvm.MethodName)) ∈ lw_all := lw_g (lw_at lw_m1 72 rfl) rfl
theorem q99 : (Jvm.Cond.selects "ModalJudge" ({ cls := "ModalJudge", name := "token", desc := "(I)I" } : Jvm.MethodName) ({ cls := "ModalJudge", name := "token", desc := "(I)I" } : Jvm.MethodName)) ∈ lw_all := lw_g (lw_at lw_m1 73 rfl) rfl
theorem q100 : (Jvm.Cond.code ({ cls := "ModalJudge", name := "token", desc := "(I)I" } : Jvm.MethodName) prog_1_method_4_code (2 : Nat) (Option.some Jvm.ClassFile.FieldType.int)) ∈ lw_all := lw_g (lw_at lw_m1 74 rfl) rfl
theorem q101 : (Jvm.Cond.methodLink "ModalJudge" (53 : Nat) ({ cls := "ModalJudge", name := "changeFormula", desc := "()V" } : Jvm.MethodName)) ∈ lw_all := lw_g (lw_at lw_m1 75 rfl) rfl
theorem q102 : (Jvm.Cond.privateMethod ({ cls := "ModalJudge", name := "changeFormula", desc := "()V" } : Jvm.MethodName)) ∈ lw_tbl := lw_at lw_m1 76 rfl
theorem q103 : (Jvm.Cond.instanceMethod ({ cls := "ModalJudge", name := "changeFormula", desc := "()V" } : Jvm.MethodName)) ∈ lw_all := lw_g (lw_at lw_m1 77 rfl) rfl
theorem q104 : (Jvm.Cond.code ({ cls := "ModalJudge", name := "changeFormula", desc := "()V" } : Jvm.MethodName) prog_1_method_7_code (1 : Nat) (Option.none : Option Jvm.ClassFile.FieldType)) ∈ lw_all := lw_g (lw_at lw_m1 78 rfl) rfl
theorem q106 : (Jvm.Cond.instanceMethod ({ cls := "ModalJudge", name := "wipe", desc := "()I" } : Jvm.MethodName)) ∈ lw_all := lw_g (lw_at lw_m1 80 rfl) rfl
theorem q107 : (Jvm.Cond.selects "ModalJudge" ({ cls := "ModalJudge", name := "wipe", desc := "()I" } : Jvm.MethodName) ({ cls := "ModalJudge", name := "wipe", desc := "()I" } : Jvm.MethodName)) ∈ lw_all := lw_g (lw_at lw_m1 81 rfl) rfl
theorem q108 : (Jvm.Cond.code ({ cls := "ModalJudge", name := "wipe", desc := "()I" } : Jvm.MethodName) prog_1_method_5_code (2 : Nat) (Option.some Jvm.ClassFile.FieldType.int)) ∈ lw_all := lw_g (lw_at lw_m1 82 rfl) rfl
theorem q110 : (Jvm.Cond.instanceMethod ({ cls := "ModalJudge", name := "turn", desc := "()I" } : Jvm.MethodName)) ∈ lw_all := lw_g (lw_at lw_m1 84 rfl) rfl
theorem q111 : (Jvm.Cond.selects "ModalJudge" ({ cls := "ModalJudge", name := "turn", desc := "()I" } : Jvm.MethodName) ({ cls := "ModalJudge", name := "turn", desc := "()I" } : Jvm.MethodName)) ∈ lw_all := lw_g (lw_at lw_m1 85 rfl) rfl
theorem q112 : (Jvm.Cond.code ({ cls := "ModalJudge", name := "turn", desc := "()I" } : Jvm.MethodName) prog_1_method_6_code (4 : Nat) (Option.some Jvm.ClassFile.FieldType.int)) ∈ lw_all := lw_g (lw_at lw_m1 86 rfl) rfl
theorem q114 : (Jvm.Cond.instanceMethod ({ cls := "ModalJudge", name := "sound", desc := "()Z" } : Jvm.MethodName)) ∈ lw_all := lw_g (lw_at lw_m1 88 rfl) rfl
theorem q115 : (Jvm.Cond.selects "ModalJudge" ({ cls := "ModalJudge", name := "sound", desc := "()Z" } : Jvm.MethodName) ({ cls := "ModalJudge", name := "sound", desc := "()Z" } : Jvm.MethodName)) ∈ lw_all := lw_g (lw_at lw_m1 89 rfl) rfl
theorem q116 : (Jvm.Cond.code ({ cls := "ModalJudge", name := "sound", desc := "()Z" } : Jvm.MethodName) prog_1_method_9_code (1 : Nat) (Option.some Jvm.ClassFile.FieldType.boolean)) ∈ lw_all := lw_g (lw_at lw_m1 90 rfl) rfl
theorem q117 : (Jvm.Cond.methodLink "ModalJudge" (59 : Nat) ({ cls := "ModalJudge", name := "parse", desc := "()V" } : Jvm.MethodName)) ∈ lw_all := lw_g (lw_at lw_m1 91 rfl) rfl
theorem q118 : (Jvm.Cond.privateMethod ({ cls := "ModalJudge", name := "parse", desc := "()V" } : Jvm.MethodName)) ∈ lw_tbl := lw_at lw_m1 92 rfl
theorem q119 : (Jvm.Cond.instanceMethod ({ cls := "ModalJudge", name := "parse", desc := "()V" } : Jvm.MethodName)) ∈ lw_all := lw_g (lw_at lw_m1 93 rfl) rfl
theorem q120 : (Jvm.Cond.code ({ cls := "ModalJudge", name := "parse", desc := "()V" } : Jvm.MethodName) prog_1_method_16_code (5 : Nat) (Option.none : Option Jvm.ClassFile.FieldType)) ∈ lw_all := lw_g (lw_at lw_m1 94 rfl) rfl
theorem q121 : (Jvm.Cond.methodLink "ModalJudge" (72 : Nat) ({ cls := "ModalJudge", name := "termsBehind", desc := "(I)I" } : Jvm.MethodName)) ∈ lw_all := lw_g (lw_at lw_m1 95 rfl) rfl
theorem q122 : (Jvm.Cond.privateMethod ({ cls := "ModalJudge", name := "termsBehind", desc := "(I)I" } : Jvm.MethodName)) ∈ lw_tbl := lw_at lw_m1 96 rfl
theorem q123 : (Jvm.Cond.instanceMethod ({ cls := "ModalJudge", name := "termsBehind", desc := "(I)I" } : Jvm.MethodName)) ∈ lw_all := lw_g (lw_at lw_m1 97 rfl) rfl
theorem q124 : (Jvm.Cond.code ({ cls := "ModalJudge", name := "termsBehind", desc := "(I)I" } : Jvm.MethodName) prog_1_method_15_code (2 : Nat) (Option.some Jvm.ClassFile.FieldType.int)) ∈ lw_all := lw_g (lw_at lw_m1 98 rfl) rfl
theorem q125 : (Jvm.Cond.methodLink "ModalJudge" (76 : Nat) ({ cls := "ModalJudge", name := "bindAll", desc := "()Z" } : Jvm.MethodName)) ∈ lw_all := lw_g (lw_at lw_m1 99 rfl) rfl
theorem q126 : (Jvm.Cond.privateMethod ({ cls := "ModalJudge", name := "bindAll", desc := "()Z" } : Jvm.MethodName)) ∈ lw_tbl := lw_at lw_m1 100 rfl
theorem q127 : (Jvm.Cond.instanceMethod ({ cls := "ModalJudge", name := "bindAll", desc := "()Z" } : Jvm.MethodName)) ∈ lw_all := lw_g (lw_at lw_m1 101 rfl) rfl
theorem q128 : (Jvm.Cond.code ({ cls := "ModalJudge", name := "bindAll", desc := "()Z" } : Jvm.MethodName) prog_1_method_17_code (4 : Nat) (Option.some Jvm.ClassFile.FieldType.boolean)) ∈ lw_all := lw_g (lw_at lw_m1 102 rfl) rfl
theorem q129 : (Jvm.Cond.methodLink "ModalJudge" (80 : Nat) ({ cls := "ModalJudge", name := "binds", desc := "(I)Z" } : Jvm.MethodName)) ∈ lw_all := lw_g (lw_at lw_m1 103 rfl) rfl
theorem q130 : (Jvm.Cond.privateMethod ({ cls := "ModalJudge", name := "binds", desc := "(I)Z" } : Jvm.MethodName)) ∈ lw_tbl := lw_at lw_m1 104 rfl
theorem q131 : (Jvm.Cond.instanceMethod ({ cls := "ModalJudge", name := "binds", desc := "(I)Z" } : Jvm.MethodName)) ∈ lw_all := lw_g (lw_at lw_m1 105 rfl) rfl
theorem q132 : (Jvm.Cond.code ({ cls := "ModalJudge", name := "binds", desc := "(I)Z" } : Jvm.MethodName) prog_1_method_14_code (2 : Nat) (Option.some Jvm.ClassFile.FieldType.boolean)) ∈ lw_all := lw_g (lw_at lw_m1 106 rfl) rfl
theorem q133 : (Jvm.Cond.methodLink "ModalJudge" (83 : Nat) ({ cls := "ModalJudge", name := "findBinder", desc := "(II)Z" } : Jvm.MethodName)) ∈ lw_all := lw_g (lw_at lw_m1 107 rfl) rfl
theorem q134 : (Jvm.Cond.privateMethod ({ cls := "ModalJudge", name := "findBinder", desc := "(II)Z" } : Jvm.MethodName)) ∈ lw_tbl := lw_at lw_m1 108 rfl
theorem q135 : (Jvm.Cond.instanceMethod ({ cls := "ModalJudge", name := "findBinder", desc := "(II)Z" } : Jvm.MethodName)) ∈ lw_all := lw_g (lw_at lw_m1 109 rfl) rfl
theorem q136 : (Jvm.Cond.code ({ cls := "ModalJudge", name := "findBinder", desc := "(II)Z" } : Jvm.MethodName) prog_1_method_18_code (5 : Nat) (Option.some Jvm.ClassFile.FieldType.boolean)) ∈ lw_all := lw_g (lw_at lw_m1 110 rfl) rfl
theorem q138 : (Jvm.Cond.instanceMethod ({ cls := "ModalJudge", name := "holds", desc := "(I)Z" } : Jvm.MethodName)) ∈ lw_all := lw_g (lw_at lw_m1 112 rfl) rfl
theorem q139 : (Jvm.Cond.selects "ModalJudge" ({ cls := "ModalJudge", name := "holds", desc := "(I)Z" } : Jvm.MethodName) ({ cls := "ModalJudge", name := "holds", desc := "(I)Z" } : Jvm.MethodName)) ∈ lw_all := lw_g (lw_at lw_m1 113 rfl) rfl
theorem q140 : (Jvm.Cond.code ({ cls := "ModalJudge", name := "holds", desc := "(I)Z" } : Jvm.MethodName) prog_1_method_10_code (2 : Nat) (Option.some Jvm.ClassFile.FieldType.boolean)) ∈ lw_all := lw_g (lw_at lw_m1 114 rfl) rfl
theorem q141 : (Jvm.Cond.methodLink "ModalJudge" (65 : Nat) ({ cls := "ModalJudge", name := "solve", desc := "()V" } : Jvm.MethodName)) ∈ lw_all := lw_g (lw_at lw_m1 115 rfl) rfl
theorem q142 : (Jvm.Cond.privateMethod ({ cls := "ModalJudge", name := "solve", desc := "()V" } : Jvm.MethodName)) ∈ lw_tbl := lw_at lw_m1 116 rfl
theorem q143 : (Jvm.Cond.instanceMethod ({ cls := "ModalJudge", name := "solve", desc := "()V" } : Jvm.MethodName)) ∈ lw_all := lw_g (lw_at lw_m1 117 rfl) rfl
theorem q144 : (Jvm.Cond.code ({ cls := "ModalJudge", name := "solve", desc := "()V" } : Jvm.MethodName) prog_1_method_25_code (5 : Nat) (Option.none : Option Jvm.ClassFile.FieldType)) ∈ lw_all := lw_g (lw_at lw_m1 118 rfl) rfl
theorem q145 : (Jvm.Cond.methodLink "ModalJudge" (103 : Nat) ({ cls := "ModalJudge", name := "countLeast", desc := "()V" } : Jvm.MethodName)) ∈ lw_all := lw_g (lw_at lw_m1 119 rfl) rfl
theorem q146 : (Jvm.Cond.privateMethod ({ cls := "ModalJudge", name := "countLeast", desc := "()V" } : Jvm.MethodName)) ∈ lw_tbl := lw_at lw_m1 120 rfl
theorem q147 : (Jvm.Cond.instanceMethod ({ cls := "ModalJudge", name := "countLeast", desc := "()V" } : Jvm.MethodName)) ∈ lw_all := lw_g (lw_at lw_m1 121 rfl) rfl
theorem q148 : (Jvm.Cond.code ({ cls := "ModalJudge", name := "countLeast", desc := "()V" } : Jvm.MethodName) prog_1_method_24_code (2 : Nat) (Option.none : Option Jvm.ClassFile.FieldType)) ∈ lw_all := lw_g (lw_at lw_m1 122 rfl) rfl
theorem q149 : (Jvm.Cond.methodLink "ModalJudge" (106 : Nat) ({ cls := "ModalJudge", name := "demanded", desc := "(II)I" } : Jvm.MethodName)) ∈ lw_all := lw_g (lw_at lw_m1 123 rfl) rfl
theorem q150 : (Jvm.Cond.privateMethod ({ cls := "ModalJudge", name := "demanded", desc := "(II)I" } : Jvm.MethodName)) ∈ lw_tbl := lw_at lw_m1 124 rfl
theorem q151 : (Jvm.Cond.instanceMethod ({ cls := "ModalJudge", name := "demanded", desc := "(II)I" } : Jvm.MethodName)) ∈ lw_all := lw_g (lw_at lw_m1 125 rfl) rfl
theorem q152 : (Jvm.Cond.code ({ cls := "ModalJudge", name := "demanded", desc := "(II)I" } : Jvm.MethodName) prog_1_method_22_code (6 : Nat) (Option.some Jvm.ClassFile.FieldType.int)) ∈ lw_all := lw_g (lw_at lw_m1 126 rfl) rfl
theorem q153 : (Jvm.Cond.constant "ModalJudge" (68 : Nat) (1000000 : Int32)) ∈ lw_all := lw_g (lw_at lw_m1 127 rfl) rfl
theorem q154 : (Jvm.Cond.methodLink "ModalJudge" (95 : Nat) ({ cls := "ModalJudge", name := "before", desc := "(II)I" } : Jvm.MethodName)) ∈ lw_all := lw_g (lw_at lw_m1 128 rfl) rfl
theorem q155 : (Jvm.Cond.privateMethod ({ cls := "ModalJudge", name := "before", desc := "(II)I" } : Jvm.MethodName)) ∈ lw_tbl := lw_at lw_m1 129 rfl
theorem q156 : (Jvm.Cond.instanceMethod ({ cls := "ModalJudge", name := "before", desc := "(II)I" } : Jvm.MethodName)) ∈ lw_all := lw_g (lw_at lw_m1 130 rfl) rfl
theorem q157 : (Jvm.Cond.code ({ cls := "ModalJudge", name := "before", desc := "(II)I" } : Jvm.MethodName) prog_1_method_21_code (6 : Nat) (Option.some Jvm.ClassFile.FieldType.int)) ∈ lw_all := lw_g (lw_at lw_m1 131 rfl) rfl
theorem q158 : (Jvm.Cond.methodLink "ModalJudge" (87 : Nat) ({ cls := "ModalJudge", name := "unpack", desc := "(I)V" } : Jvm.MethodName)) ∈ lw_all := lw_g (lw_at lw_m1 132 rfl) rfl
theorem q159 : (Jvm.Cond.privateMethod ({ cls := "ModalJudge", name := "unpack", desc := "(I)V" } : Jvm.MethodName)) ∈ lw_tbl := lw_at lw_m1 133 rfl
theorem q160 : (Jvm.Cond.instanceMethod ({ cls := "ModalJudge", name := "unpack", desc := "(I)V" } : Jvm.MethodName)) ∈ lw_all := lw_g (lw_at lw_m1 134 rfl) rfl
theorem q161 : (Jvm.Cond.code ({ cls := "ModalJudge", name := "unpack", desc := "(I)V" } : Jvm.MethodName) prog_1_method_20_code (4 : Nat) (Option.none : Option Jvm.ClassFile.FieldType)) ∈ lw_all := lw_g (lw_at lw_m1 135 rfl) rfl
theorem q162 : (Jvm.Cond.methodLink "ModalJudge" (91 : Nat) ({ cls := "ModalJudge", name := "packed", desc := "()I" } : Jvm.MethodName)) ∈ lw_all := lw_g (lw_at lw_m1 136 rfl) rfl
theorem q163 : (Jvm.Cond.privateMethod ({ cls := "ModalJudge", name := "packed", desc := "()I" } : Jvm.MethodName)) ∈ lw_tbl := lw_at lw_m1 137 rfl
theorem q164 : (Jvm.Cond.instanceMethod ({ cls := "ModalJudge", name := "packed", desc := "()I" } : Jvm.MethodName)) ∈ lw_all := lw_g (lw_at lw_m1 138 rfl) rfl
theorem q165 : (Jvm.Cond.code ({ cls := "ModalJudge", name := "packed", desc := "()I" } : Jvm.MethodName) prog_1_method_19_code (1 : Nat) (Option.some Jvm.ClassFile.FieldType.int)) ∈ lw_all := lw_g (lw_at lw_m1 139 rfl) rfl
theorem q166 : (Jvm.Cond.methodLink "ModalJudge" (99 : Nat) ({ cls := "ModalJudge", name := "overSteps", desc := "(IIZ)I" } : Jvm.MethodName)) ∈ lw_all := lw_g (lw_at lw_m1 140 rfl) rfl
theorem q167 : (Jvm.Cond.privateMethod ({ cls := "ModalJudge", name := "overSteps", desc := "(IIZ)I" } : Jvm.MethodName)) ∈ lw_tbl := lw_at lw_m1 141 rfl
theorem q168 : (Jvm.Cond.instanceMethod ({ cls := "ModalJudge", name := "overSteps", desc := "(IIZ)I" } : Jvm.MethodName)) ∈ lw_all := lw_g (lw_at lw_m1 142 rfl) rfl
theorem q169 : (Jvm.Cond.code ({ cls := "ModalJudge", name := "overSteps", desc := "(IIZ)I" } : Jvm.MethodName) prog_1_method_23_code (7 : Nat) (Option.some Jvm.ClassFile.FieldType.int)) ∈ lw_all := lw_g (lw_at lw_m1 143 rfl) rfl
theorem q171 : (Jvm.Cond.instanceMethod ({ cls := "ModalJudge", name := "set", desc := "()I" } : Jvm.MethodName)) ∈ lw_all := lw_g (lw_at lw_m1 145 rfl) rfl
theorem q172 : (Jvm.Cond.selects "ModalJudge" ({ cls := "ModalJudge", name := "set", desc := "()I" } : Jvm.MethodName) ({ cls := "ModalJudge", name := "set", desc := "()I" } : Jvm.MethodName)) ∈ lw_all := lw_g (lw_at lw_m1 146 rfl) rfl
theorem q173 : (Jvm.Cond.code ({ cls := "ModalJudge", name := "set", desc := "()I" } : Jvm.MethodName) prog_1_method_11_code (3 : Nat) (Option.some Jvm.ClassFile.FieldType.int)) ∈ lw_all := lw_g (lw_at lw_m1 147 rfl) rfl
theorem q175 : (Jvm.Cond.instanceMethod ({ cls := "ModalJudge", name := "depth", desc := "()I" } : Jvm.MethodName)) ∈ lw_all := lw_g (lw_at lw_m1 149 rfl) rfl
theorem q176 : (Jvm.Cond.selects "ModalJudge" ({ cls := "ModalJudge", name := "depth", desc := "()I" } : Jvm.MethodName) ({ cls := "ModalJudge", name := "depth", desc := "()I" } : Jvm.MethodName)) ∈ lw_all := lw_g (lw_at lw_m1 150 rfl) rfl
theorem q177 : (Jvm.Cond.code ({ cls := "ModalJudge", name := "depth", desc := "()I" } : Jvm.MethodName) prog_1_method_12_code (1 : Nat) (Option.some Jvm.ClassFile.FieldType.int)) ∈ lw_all := lw_g (lw_at lw_m1 151 rfl) rfl
theorem q179 : (Jvm.Cond.instanceMethod ({ cls := "ModalJudge", name := "steps", desc := "(I)I" } : Jvm.MethodName)) ∈ lw_all := lw_g (lw_at lw_m1 153 rfl) rfl
theorem q180 : (Jvm.Cond.selects "ModalJudge" ({ cls := "ModalJudge", name := "steps", desc := "(I)I" } : Jvm.MethodName) ({ cls := "ModalJudge", name := "steps", desc := "(I)I" } : Jvm.MethodName)) ∈ lw_all := lw_g (lw_at lw_m1 154 rfl) rfl
theorem q181 : (Jvm.Cond.code ({ cls := "ModalJudge", name := "steps", desc := "(I)I" } : Jvm.MethodName) prog_1_method_13_code (2 : Nat) (Option.some Jvm.ClassFile.FieldType.int)) ∈ lw_all := lw_g (lw_at lw_m1 155 rfl) rfl
theorem in_X0 : ∀ w ∈ wsX00, w ∈ lw_all := lw_in wsX00 [52, 54, 56, 58, 60, 62, 64, 66, 68, 70, 72, 74, 76, 78, 80] (by decide +kernel) (by decide +kernel)

/-! java/lang/Object -/
set_option maxRecDepth 100000
def RJ0 : String := "java/lang/Object"
abbrev cJ0_init : ByteArray := object_method_1_code
def yJ0_init : MethodName := ⟨RJ0, "<init>", "()V"⟩
theorem q35 : (Jvm.Cond.instanceMethod ({ cls := "java/lang/Object", name := "<init>", desc := "()V" } : Jvm.MethodName)) ∈ lw_all := lw_g (lw_at lw_m1 9 rfl) rfl
theorem q36 : (Jvm.Cond.code ({ cls := "java/lang/Object", name := "<init>", desc := "()V" } : Jvm.MethodName) object_method_1_code (1 : Nat) (Option.none : Option Jvm.ClassFile.FieldType)) ∈ lw_all := lw_g (lw_at lw_m1 10 rfl) rfl

theorem dJ0_init_0 : decode cJ0_init 0 = .ok (.return_, 1) := by decide +kernel
end
section
/-! ModalJudgeModel -/
set_option maxRecDepth 100000
def RX1 : String := "ModalJudgeModel"
def TX1 : u_T := fun k => match k with
  | 0 => ("ModalJudgeModel", "next", "[I", false)
  | 1 => ("ModalJudgeModel", "marks", "[I", false)
  | 2 => ("ModalJudgeModel", "n", "I", false)
  | 3 => ("ModalJudgeModel", "tokens", "[I", false)
  | 4 => ("ModalJudgeModel", "end", "[I", false)
  | 5 => ("ModalJudgeModel", "binder", "[I", false)
  | 6 => ("ModalJudgeModel", "fixed", "[I", false)
  | 7 => ("ModalJudgeModel", "body", "[I", false)
  | _ => ("ModalJudgeModel", "stack", "[I", false)
def tyX1 : Nat → FieldType := fun k => match k with
  | 0 => .array .int
  | 1 => .array .int
  | 2 => .int
  | 3 => .array .int
  | 4 => .array .int
  | 5 => .array .int
  | 6 => .array .int
  | 7 => .array .int
  | _ => .array .int
abbrev wsX10 : List Cond := u_ws RX1 TX1 9
theorem nmX1 : ∀ a, a < 9 → ∀ b, b < 9 → a ≠ b → (TX1 a).2.1 ≠ (TX1 b).2.1 := by decide +kernel
theorem tyX1_ok : ∀ k, k < 9 → parseFieldDescriptor (TX1 k).2.2.1 = some (tyX1 k) := by decide +kernel
abbrev cX1_init : ByteArray := prog_3_method_1_code
def yX1_init : MethodName := ⟨RX1, "<init>", "()V"⟩
abbrev cX1_step : ByteArray := prog_3_method_4_code
def yX1_step : MethodName := ⟨RX1, "step", "(IIZ)Z"⟩
abbrev cX1_isState : ByteArray := prog_3_method_2_code
def yX1_isState : MethodName := ⟨RX1, "isState", "(I)Z"⟩
abbrev cX1_mark : ByteArray := prog_3_method_5_code
def yX1_mark : MethodName := ⟨RX1, "mark", "(II)Z"⟩
abbrev cX1_token : ByteArray := prog_3_method_6_code
def yX1_token : MethodName := ⟨RX1, "token", "(I)I"⟩
abbrev cX1_wipe : ByteArray := prog_3_method_7_code
def yX1_wipe : MethodName := ⟨RX1, "wipe", "()I"⟩
abbrev cX1_turn : ByteArray := prog_3_method_9_code
def yX1_turn : MethodName := ⟨RX1, "turn", "()I"⟩
abbrev cX1_counterpart : ByteArray := prog_3_method_8_code
def yX1_counterpart : MethodName := ⟨RX1, "counterpart", "(I)I"⟩
abbrev cX1_sound : ByteArray := prog_3_method_14_code
def yX1_sound : MethodName := ⟨RX1, "sound", "()Z"⟩
abbrev cX1_findEnds : ByteArray := prog_3_method_12_code
def yX1_findEnds : MethodName := ⟨RX1, "findEnds", "()Z"⟩
abbrev cX1_arity : ByteArray := prog_3_method_11_code
def yX1_arity : MethodName := ⟨RX1, "arity", "(I)I"⟩
abbrev cX1_binds : ByteArray := prog_3_method_10_code
def yX1_binds : MethodName := ⟨RX1, "binds", "(I)Z"⟩
abbrev cX1_binderOf : ByteArray := prog_3_method_13_code
def yX1_binderOf : MethodName := ⟨RX1, "binderOf", "(I)I"⟩
abbrev cX1_holds : ByteArray := prog_3_method_20_code
def yX1_holds : MethodName := ⟨RX1, "holds", "(I)Z"⟩
abbrev cX1_find : ByteArray := prog_3_method_19_code
def yX1_find : MethodName := ⟨RX1, "find", "()I"⟩
abbrev cX1_first : ByteArray := prog_3_method_16_code
def yX1_first : MethodName := ⟨RX1, "first", "(I)I"⟩
abbrev cX1_value : ByteArray := prog_3_method_17_code
def yX1_value : MethodName := ⟨RX1, "value", "()I"⟩
abbrev cX1_stepsInto : ByteArray := prog_3_method_15_code
def yX1_stepsInto : MethodName := ⟨RX1, "stepsInto", "(IZ)I"⟩
abbrev cX1_lastOpen : ByteArray := prog_3_method_18_code
def yX1_lastOpen : MethodName := ⟨RX1, "lastOpen", "()I"⟩
abbrev cX1_in : ByteArray := prog_3_method_3_code
def yX1_in : MethodName := ⟨RX1, "in", "(II)Z"⟩
abbrev cX1_set : ByteArray := prog_3_method_21_code
def yX1_set : MethodName := ⟨RX1, "set", "()I"⟩
abbrev cX1_depth : ByteArray := prog_3_method_22_code
def yX1_depth : MethodName := ⟨RX1, "depth", "()I"⟩
abbrev cX1_steps : ByteArray := prog_3_method_23_code
def yX1_steps : MethodName := ⟨RX1, "steps", "(I)I"⟩
theorem q28 : (Jvm.Cond.initialized "ModalJudgeModel") ∈ lw_all := lw_g (lw_at lw_m1 2 rfl) rfl
theorem q183 : (Jvm.Cond.instantiable "ModalJudgeModel" (9 : Nat)) ∈ lw_all := lw_g (lw_at lw_m1 157 rfl) rfl
theorem q185 : (Jvm.Cond.instanceMethod ({ cls := "ModalJudgeModel", name := "<init>", desc := "()V" } : Jvm.MethodName)) ∈ lw_all := lw_g (lw_at lw_m1 159 rfl) rfl
theorem q186 : (Jvm.Cond.code ({ cls := "ModalJudgeModel", name := "<init>", desc := "()V" } : Jvm.MethodName) prog_3_method_1_code (1 : Nat) (Option.none : Option Jvm.ClassFile.FieldType)) ∈ lw_all := lw_g (lw_at lw_m1 160 rfl) rfl
theorem q187 : (Jvm.Cond.methodLink "ModalJudgeModel" (1 : Nat) ({ cls := "java/lang/Object", name := "<init>", desc := "()V" } : Jvm.MethodName)) ∈ lw_all := lw_g (lw_at lw_m1 161 rfl) rfl
theorem q188 : (Jvm.Cond.fieldLink "ModalJudgeModel" (7 : Nat) "ModalJudgeModel" "next" "[I") ∈ lw_all := lw_g (lw_at lw_m1 162 rfl) rfl
theorem q189 : (Jvm.Cond.fieldLink "ModalJudgeModel" (13 : Nat) "ModalJudgeModel" "marks" "[I") ∈ lw_all := lw_g (lw_at lw_m1 163 rfl) rfl
theorem q190 : (Jvm.Cond.fieldLink "ModalJudgeModel" (16 : Nat) "ModalJudgeModel" "n" "I") ∈ lw_all := lw_g (lw_at lw_m1 164 rfl) rfl
theorem q191 : (Jvm.Cond.fieldLink "ModalJudgeModel" (20 : Nat) "ModalJudgeModel" "tokens" "[I") ∈ lw_all := lw_g (lw_at lw_m1 165 rfl) rfl
theorem q192 : (Jvm.Cond.fieldLink "ModalJudgeModel" (23 : Nat) "ModalJudgeModel" "end" "[I") ∈ lw_all := lw_g (lw_at lw_m1 166 rfl) rfl
theorem q193 : (Jvm.Cond.fieldLink "ModalJudgeModel" (26 : Nat) "ModalJudgeModel" "binder" "[I") ∈ lw_all := lw_g (lw_at lw_m1 167 rfl) rfl
theorem q194 : (Jvm.Cond.fieldLink "ModalJudgeModel" (29 : Nat) "ModalJudgeModel" "fixed" "[I") ∈ lw_all := lw_g (lw_at lw_m1 168 rfl) rfl
theorem q195 : (Jvm.Cond.fieldLink "ModalJudgeModel" (32 : Nat) "ModalJudgeModel" "body" "[I") ∈ lw_all := lw_g (lw_at lw_m1 169 rfl) rfl
theorem q196 : (Jvm.Cond.fieldLink "ModalJudgeModel" (35 : Nat) "ModalJudgeModel" "stack" "[I") ∈ lw_all := lw_g (lw_at lw_m1 170 rfl) rfl
theorem q197 : (Jvm.Cond.lays "ModalJudgeModel" "ModalJudgeModel" "next" "[I") ∈ lw_all := lw_g (lw_at lw_m1 171 rfl) rfl
theorem q198 : (Jvm.Cond.soleField "ModalJudgeModel" "next") ∈ lw_all := lw_g (lw_at lw_m1 172 rfl) rfl
theorem q199 : (Jvm.Cond.lays "ModalJudgeModel" "ModalJudgeModel" "marks" "[I") ∈ lw_all := lw_g (lw_at lw_m1 173 rfl) rfl
theorem q200 : (Jvm.Cond.soleField "ModalJudgeModel" "marks") ∈ lw_all := lw_g (lw_at lw_m1 174 rfl) rfl
theorem q201 : (Jvm.Cond.lays "ModalJudgeModel" "ModalJudgeModel" "n" "I") ∈ lw_all := lw_g (lw_at lw_m1 175 rfl) rfl
theorem q202 : (Jvm.Cond.soleField "ModalJudgeModel" "n") ∈ lw_all := lw_g (lw_at lw_m1 176 rfl) rfl
theorem q203 : (Jvm.Cond.lays "ModalJudgeModel" "ModalJudgeModel" "tokens" "[I") ∈ lw_all := lw_g (lw_at lw_m1 177 rfl) rfl
theorem q204 : (Jvm.Cond.soleField "ModalJudgeModel" "tokens") ∈ lw_all := lw_g (lw_at lw_m1 178 rfl) rfl
theorem q205 : (Jvm.Cond.lays "ModalJudgeModel" "ModalJudgeModel" "end" "[I") ∈ lw_all := lw_g (lw_at lw_m1 179 rfl) rfl
theorem q206 : (Jvm.Cond.soleField "ModalJudgeModel" "end") ∈ lw_all := lw_g (lw_at lw_m1 180 rfl) rfl
theorem q207 : (Jvm.Cond.lays "ModalJudgeModel" "ModalJudgeModel" "binder" "[I") ∈ lw_all := lw_g (lw_at lw_m1 181 rfl) rfl
theorem q208 : (Jvm.Cond.soleField "ModalJudgeModel" "binder") ∈ lw_all := lw_g (lw_at lw_m1 182 rfl) rfl
theorem q209 : (Jvm.Cond.lays "ModalJudgeModel" "ModalJudgeModel" "fixed" "[I") ∈ lw_all := lw_g (lw_at lw_m1 183 rfl) rfl
theorem q210 : (Jvm.Cond.soleField "ModalJudgeModel" "fixed") ∈ lw_all := lw_g (lw_at lw_m1 184 rfl) rfl
theorem q211 : (Jvm.Cond.lays "ModalJudgeModel" "ModalJudgeModel" "body" "[I") ∈ lw_all := lw_g (lw_at lw_m1 185 rfl) rfl
theorem q212 : (Jvm.Cond.soleField "ModalJudgeModel" "body") ∈ lw_all := lw_g (lw_at lw_m1 186 rfl) rfl
theorem q213 : (Jvm.Cond.lays "ModalJudgeModel" "ModalJudgeModel" "stack" "[I") ∈ lw_all := lw_g (lw_at lw_m1 187 rfl) rfl
theorem q214 : (Jvm.Cond.soleField "ModalJudgeModel" "stack") ∈ lw_all := lw_g (lw_at lw_m1 188 rfl) rfl
theorem q215 : (Jvm.Cond.superclass "ModalJudgeModel" "java/lang/Object") ∈ lw_all := lw_g (lw_at lw_m1 189 rfl) rfl
theorem q217 : (Jvm.Cond.instanceMethod ({ cls := "ModalJudgeModel", name := "step", desc := "(IIZ)Z" } : Jvm.MethodName)) ∈ lw_all := lw_g (lw_at lw_m1 191 rfl) rfl
theorem q218 : (Jvm.Cond.selects "ModalJudgeModel" ({ cls := "ModalJudgeModel", name := "step", desc := "(IIZ)Z" } : Jvm.MethodName) ({ cls := "ModalJudgeModel", name := "step", desc := "(IIZ)Z" } : Jvm.MethodName)) ∈ lw_all := lw_g (lw_at lw_m1 192 rfl) rfl
theorem q219 : (Jvm.Cond.code ({ cls := "ModalJudgeModel", name := "step", desc := "(IIZ)Z" } : Jvm.MethodName) prog_3_method_4_code (4 : Nat) (Option.some Jvm.ClassFile.FieldType.boolean)) ∈ lw_all := lw_g (lw_at lw_m1 193 rfl) rfl
theorem q220 : (Jvm.Cond.methodLink "ModalJudgeModel" (38 : Nat) ({ cls := "ModalJudgeModel", name := "isState", desc := "(I)Z" } : Jvm.MethodName)) ∈ lw_all := lw_g (lw_at lw_m1 194 rfl) rfl
theorem q221 : (Jvm.Cond.privateMethod ({ cls := "ModalJudgeModel", name := "isState", desc := "(I)Z" } : Jvm.MethodName)) ∈ lw_tbl := lw_at lw_m1 195 rfl
theorem q222 : (Jvm.Cond.instanceMethod ({ cls := "ModalJudgeModel", name := "isState", desc := "(I)Z" } : Jvm.MethodName)) ∈ lw_all := lw_g (lw_at lw_m1 196 rfl) rfl
theorem q223 : (Jvm.Cond.code ({ cls := "ModalJudgeModel", name := "isState", desc := "(I)Z" } : Jvm.MethodName) prog_3_method_2_code (2 : Nat) (Option.some Jvm.ClassFile.FieldType.boolean)) ∈ lw_all := lw_g (lw_at lw_m1 197 rfl) rfl
theorem q225 : (Jvm.Cond.instanceMethod ({ cls := "ModalJudgeModel", name := "mark", desc := "(II)Z" } : Jvm.MethodName)) ∈ lw_all := lw_g (lw_at lw_m1 199 rfl) rfl
theorem q226 : (Jvm.Cond.selects "ModalJudgeModel" ({ cls := "ModalJudgeModel", name := "mark", desc := "(II)Z" } : Jvm.MethodName) ({ cls := "ModalJudgeModel", name := "mark", desc := "(II)Z" } : Jvm.MethodName)) ∈ lw_all := lw_g (lw_at lw_m1 200 rfl) rfl
theorem q227 : (Jvm.Cond.code ({ cls := "ModalJudgeModel", name := "mark", desc := "(II)Z" } : Jvm.MethodName) prog_3_method_5_code (3 : Nat) (Option.some Jvm.ClassFile.FieldType.boolean)) ∈ lw_all := lw_g (lw_at lw_m1 201 rfl) rfl
theorem q229 : (Jvm.Cond.instanceMethod ({ cls := "ModalJudgeModel", name := "token", desc := "(I)I" } : Jvm.MethodName)) ∈ lw_all := lw_g (lw_at lw_m1 203 rfl) rfl
theorem q230 : (Jvm.Cond.selects "ModalJudgeModel" ({ cls := "ModalJudgeModel", name := "token", desc := "(I)I" } : Jvm.MethodName) ({ cls := "ModalJudgeModel", name := "token", desc := "(I)I" } : Jvm.MethodName)) ∈ lw_all := lw_g (lw_at lw_m1 204 rfl) rfl
theorem q231 : (Jvm.Cond.code ({ cls := "ModalJudgeModel", name := "token", desc := "(I)I" } : Jvm.MethodName) prog_3_method_6_code (2 : Nat) (Option.some Jvm.ClassFile.FieldType.int)) ∈ lw_all := lw_g (lw_at lw_m1 205 rfl) rfl
theorem q233 : (Jvm.Cond.instanceMethod ({ cls := "ModalJudgeModel", name := "wipe", desc := "()I" } : Jvm.MethodName)) ∈ lw_all := lw_g (lw_at lw_m1 207 rfl) rfl
theorem q234 : (Jvm.Cond.selects "ModalJudgeModel" ({ cls := "ModalJudgeModel", name := "wipe", desc := "()I" } : Jvm.MethodName) ({ cls := "ModalJudgeModel", name := "wipe", desc := "()I" } : Jvm.MethodName)) ∈ lw_all := lw_g (lw_at lw_m1 208 rfl) rfl
theorem q235 : (Jvm.Cond.code ({ cls := "ModalJudgeModel", name := "wipe", desc := "()I" } : Jvm.MethodName) prog_3_method_7_code (2 : Nat) (Option.some Jvm.ClassFile.FieldType.int)) ∈ lw_all := lw_g (lw_at lw_m1 209 rfl) rfl
theorem q237 : (Jvm.Cond.instanceMethod ({ cls := "ModalJudgeModel", name := "turn", desc := "()I" } : Jvm.MethodName)) ∈ lw_all := lw_g (lw_at lw_m1 211 rfl) rfl
theorem q238 : (Jvm.Cond.selects "ModalJudgeModel" ({ cls := "ModalJudgeModel", name := "turn", desc := "()I" } : Jvm.MethodName) ({ cls := "ModalJudgeModel", name := "turn", desc := "()I" } : Jvm.MethodName)) ∈ lw_all := lw_g (lw_at lw_m1 212 rfl) rfl
theorem q239 : (Jvm.Cond.code ({ cls := "ModalJudgeModel", name := "turn", desc := "()I" } : Jvm.MethodName) prog_3_method_9_code (4 : Nat) (Option.some Jvm.ClassFile.FieldType.int)) ∈ lw_all := lw_g (lw_at lw_m1 213 rfl) rfl
theorem q240 : (Jvm.Cond.methodLink "ModalJudgeModel" (42 : Nat) ({ cls := "ModalJudgeModel", name := "counterpart", desc := "(I)I" } : Jvm.MethodName)) ∈ lw_all := lw_g (lw_at lw_m1 214 rfl) rfl
theorem q241 : (Jvm.Cond.privateMethod ({ cls := "ModalJudgeModel", name := "counterpart", desc := "(I)I" } : Jvm.MethodName)) ∈ lw_tbl := lw_at lw_m1 215 rfl
theorem q242 : (Jvm.Cond.instanceMethod ({ cls := "ModalJudgeModel", name := "counterpart", desc := "(I)I" } : Jvm.MethodName)) ∈ lw_all := lw_g (lw_at lw_m1 216 rfl) rfl
theorem q243 : (Jvm.Cond.code ({ cls := "ModalJudgeModel", name := "counterpart", desc := "(I)I" } : Jvm.MethodName) prog_3_method_8_code (2 : Nat) (Option.some Jvm.ClassFile.FieldType.int)) ∈ lw_all := lw_g (lw_at lw_m1 217 rfl) rfl
theorem q245 : (Jvm.Cond.instanceMethod ({ cls := "ModalJudgeModel", name := "sound", desc := "()Z" } : Jvm.MethodName)) ∈ lw_all := lw_g (lw_at lw_m1 219 rfl) rfl
theorem q246 : (Jvm.Cond.selects "ModalJudgeModel" ({ cls := "ModalJudgeModel", name := "sound", desc := "()Z" } : Jvm.MethodName) ({ cls := "ModalJudgeModel", name := "sound", desc := "()Z" } : Jvm.MethodName)) ∈ lw_all := lw_g (lw_at lw_m1 220 rfl) rfl
theorem q247 : (Jvm.Cond.code ({ cls := "ModalJudgeModel", name := "sound", desc := "()Z" } : Jvm.MethodName) prog_3_method_14_code (3 : Nat) (Option.some Jvm.ClassFile.FieldType.boolean)) ∈ lw_all := lw_g (lw_at lw_m1 221 rfl) rfl
theorem q248 : (Jvm.Cond.methodLink "ModalJudgeModel" (52 : Nat) ({ cls := "ModalJudgeModel", name := "findEnds", desc := "()Z" } : Jvm.MethodName)) ∈ lw_all := lw_g (lw_at lw_m1 222 rfl) rfl
theorem q249 : (Jvm.Cond.privateMethod ({ cls := "ModalJudgeModel", name := "findEnds", desc := "()Z" } : Jvm.MethodName)) ∈ lw_tbl := lw_at lw_m1 223 rfl
theorem q250 : (Jvm.Cond.instanceMethod ({ cls := "ModalJudgeModel", name := "findEnds", desc := "()Z" } : Jvm.MethodName)) ∈ lw_all := lw_g (lw_at lw_m1 224 rfl) rfl
theorem q251 : (Jvm.Cond.code ({ cls := "ModalJudgeModel", name := "findEnds", desc := "()Z" } : Jvm.MethodName) prog_3_method_12_code (4 : Nat) (Option.some Jvm.ClassFile.FieldType.boolean)) ∈ lw_all := lw_g (lw_at lw_m1 225 rfl) rfl
theorem q252 : (Jvm.Cond.methodLink "ModalJudgeModel" (46 : Nat) ({ cls := "ModalJudgeModel", name := "arity", desc := "(I)I" } : Jvm.MethodName)) ∈ lw_all := lw_g (lw_at lw_m1 226 rfl) rfl
theorem q253 : (Jvm.Cond.privateMethod ({ cls := "ModalJudgeModel", name := "arity", desc := "(I)I" } : Jvm.MethodName)) ∈ lw_tbl := lw_at lw_m1 227 rfl
theorem q254 : (Jvm.Cond.instanceMethod ({ cls := "ModalJudgeModel", name := "arity", desc := "(I)I" } : Jvm.MethodName)) ∈ lw_all := lw_g (lw_at lw_m1 228 rfl) rfl
theorem q255 : (Jvm.Cond.code ({ cls := "ModalJudgeModel", name := "arity", desc := "(I)I" } : Jvm.MethodName) prog_3_method_11_code (2 : Nat) (Option.some Jvm.ClassFile.FieldType.int)) ∈ lw_all := lw_g (lw_at lw_m1 229 rfl) rfl
theorem q256 : (Jvm.Cond.methodLink "ModalJudgeModel" (49 : Nat) ({ cls := "ModalJudgeModel", name := "binds", desc := "(I)Z" } : Jvm.MethodName)) ∈ lw_all := lw_g (lw_at lw_m1 230 rfl) rfl
theorem q257 : (Jvm.Cond.privateMethod ({ cls := "ModalJudgeModel", name := "binds", desc := "(I)Z" } : Jvm.MethodName)) ∈ lw_tbl := lw_at lw_m1 231 rfl
theorem q258 : (Jvm.Cond.instanceMethod ({ cls := "ModalJudgeModel", name := "binds", desc := "(I)Z" } : Jvm.MethodName)) ∈ lw_all := lw_g (lw_at lw_m1 232 rfl) rfl
theorem q259 : (Jvm.Cond.code ({ cls := "ModalJudgeModel", name := "binds", desc := "(I)Z" } : Jvm.MethodName) prog_3_method_10_code (2 : Nat) (Option.some Jvm.ClassFile.FieldType.boolean)) ∈ lw_all := lw_g (lw_at lw_m1 233 rfl) rfl
theorem q260 : (Jvm.Cond.methodLink "ModalJudgeModel" (56 : Nat) ({ cls := "ModalJudgeModel", name := "binderOf", desc := "(I)I" } : Jvm.MethodName)) ∈ lw_all := lw_g (lw_at lw_m1 234 rfl) rfl
theorem q261 : (Jvm.Cond.privateMethod ({ cls := "ModalJudgeModel", name := "binderOf", desc := "(I)I" } : Jvm.MethodName)) ∈ lw_tbl := lw_at lw_m1 235 rfl
theorem q262 : (Jvm.Cond.instanceMethod ({ cls := "ModalJudgeModel", name := "binderOf", desc := "(I)I" } : Jvm.MethodName)) ∈ lw_all := lw_g (lw_at lw_m1 236 rfl) rfl
theorem q263 : (Jvm.Cond.code ({ cls := "ModalJudgeModel", name := "binderOf", desc := "(I)I" } : Jvm.MethodName) prog_3_method_13_code (3 : Nat) (Option.some Jvm.ClassFile.FieldType.int)) ∈ lw_all := lw_g (lw_at lw_m1 237 rfl) rfl
theorem q265 : (Jvm.Cond.instanceMethod ({ cls := "ModalJudgeModel", name := "holds", desc := "(I)Z" } : Jvm.MethodName)) ∈ lw_all := lw_g (lw_at lw_m1 239 rfl) rfl
theorem q266 : (Jvm.Cond.selects "ModalJudgeModel" ({ cls := "ModalJudgeModel", name := "holds", desc := "(I)Z" } : Jvm.MethodName) ({ cls := "ModalJudgeModel", name := "holds", desc := "(I)Z" } : Jvm.MethodName)) ∈ lw_all := lw_g (lw_at lw_m2 0 rfl) rfl
theorem q267 : (Jvm.Cond.code ({ cls := "ModalJudgeModel", name := "holds", desc := "(I)Z" } : Jvm.MethodName) prog_3_method_20_code (3 : Nat) (Option.some Jvm.ClassFile.FieldType.boolean)) ∈ lw_all := lw_g (lw_at lw_m2 1 rfl) rfl
theorem q268 : (Jvm.Cond.methodLink "ModalJudgeModel" (73 : Nat) ({ cls := "ModalJudgeModel", name := "sound", desc := "()Z" } : Jvm.MethodName)) ∈ lw_all := lw_g (lw_at lw_m2 2 rfl) rfl
theorem q269 : (Jvm.Cond.methodLink "ModalJudgeModel" (76 : Nat) ({ cls := "ModalJudgeModel", name := "find", desc := "()I" } : Jvm.MethodName)) ∈ lw_all := lw_g (lw_at lw_m2 3 rfl) rfl
theorem q270 : (Jvm.Cond.privateMethod ({ cls := "ModalJudgeModel", name := "find", desc := "()I" } : Jvm.MethodName)) ∈ lw_tbl := lw_at lw_m2 4 rfl
theorem q271 : (Jvm.Cond.instanceMethod ({ cls := "ModalJudgeModel", name := "find", desc := "()I" } : Jvm.MethodName)) ∈ lw_all := lw_g (lw_at lw_m2 5 rfl) rfl
theorem q272 : (Jvm.Cond.code ({ cls := "ModalJudgeModel", name := "find", desc := "()I" } : Jvm.MethodName) prog_3_method_19_code (5 : Nat) (Option.some Jvm.ClassFile.FieldType.int)) ∈ lw_all := lw_g (lw_at lw_m2 6 rfl) rfl
theorem q273 : (Jvm.Cond.methodLink "ModalJudgeModel" (63 : Nat) ({ cls := "ModalJudgeModel", name := "first", desc := "(I)I" } : Jvm.MethodName)) ∈ lw_all := lw_g (lw_at lw_m2 7 rfl) rfl
theorem q274 : (Jvm.Cond.privateMethod ({ cls := "ModalJudgeModel", name := "first", desc := "(I)I" } : Jvm.MethodName)) ∈ lw_tbl := lw_at lw_m2 8 rfl
theorem q275 : (Jvm.Cond.instanceMethod ({ cls := "ModalJudgeModel", name := "first", desc := "(I)I" } : Jvm.MethodName)) ∈ lw_all := lw_g (lw_at lw_m2 9 rfl) rfl
theorem q276 : (Jvm.Cond.code ({ cls := "ModalJudgeModel", name := "first", desc := "(I)I" } : Jvm.MethodName) prog_3_method_16_code (2 : Nat) (Option.some Jvm.ClassFile.FieldType.int)) ∈ lw_all := lw_g (lw_at lw_m2 10 rfl) rfl
theorem q277 : (Jvm.Cond.methodLink "ModalJudgeModel" (66 : Nat) ({ cls := "ModalJudgeModel", name := "value", desc := "()I" } : Jvm.MethodName)) ∈ lw_all := lw_g (lw_at lw_m2 11 rfl) rfl
theorem q278 : (Jvm.Cond.privateMethod ({ cls := "ModalJudgeModel", name := "value", desc := "()I" } : Jvm.MethodName)) ∈ lw_tbl := lw_at lw_m2 12 rfl
theorem q279 : (Jvm.Cond.instanceMethod ({ cls := "ModalJudgeModel", name := "value", desc := "()I" } : Jvm.MethodName)) ∈ lw_all := lw_g (lw_at lw_m2 13 rfl) rfl
theorem q280 : (Jvm.Cond.code ({ cls := "ModalJudgeModel", name := "value", desc := "()I" } : Jvm.MethodName) prog_3_method_17_code (7 : Nat) (Option.some Jvm.ClassFile.FieldType.int)) ∈ lw_all := lw_g (lw_at lw_m2 14 rfl) rfl
theorem q281 : (Jvm.Cond.methodLink "ModalJudgeModel" (59 : Nat) ({ cls := "ModalJudgeModel", name := "stepsInto", desc := "(IZ)I" } : Jvm.MethodName)) ∈ lw_all := lw_g (lw_at lw_m2 15 rfl) rfl
theorem q282 : (Jvm.Cond.privateMethod ({ cls := "ModalJudgeModel", name := "stepsInto", desc := "(IZ)I" } : Jvm.MethodName)) ∈ lw_tbl := lw_at lw_m2 16 rfl
theorem q283 : (Jvm.Cond.instanceMethod ({ cls := "ModalJudgeModel", name := "stepsInto", desc := "(IZ)I" } : Jvm.MethodName)) ∈ lw_all := lw_g (lw_at lw_m2 17 rfl) rfl
theorem q284 : (Jvm.Cond.code ({ cls := "ModalJudgeModel", name := "stepsInto", desc := "(IZ)I" } : Jvm.MethodName) prog_3_method_15_code (6 : Nat) (Option.some Jvm.ClassFile.FieldType.int)) ∈ lw_all := lw_g (lw_at lw_m2 18 rfl) rfl
theorem q285 : (Jvm.Cond.methodLink "ModalJudgeModel" (70 : Nat) ({ cls := "ModalJudgeModel", name := "lastOpen", desc := "()I" } : Jvm.MethodName)) ∈ lw_all := lw_g (lw_at lw_m2 19 rfl) rfl
theorem q286 : (Jvm.Cond.privateMethod ({ cls := "ModalJudgeModel", name := "lastOpen", desc := "()I" } : Jvm.MethodName)) ∈ lw_tbl := lw_at lw_m2 20 rfl
theorem q287 : (Jvm.Cond.instanceMethod ({ cls := "ModalJudgeModel", name := "lastOpen", desc := "()I" } : Jvm.MethodName)) ∈ lw_all := lw_g (lw_at lw_m2 21 rfl) rfl
theorem q288 : (Jvm.Cond.code ({ cls := "ModalJudgeModel", name := "lastOpen", desc := "()I" } : Jvm.MethodName) prog_3_method_18_code (2 : Nat) (Option.some Jvm.ClassFile.FieldType.int)) ∈ lw_all := lw_g (lw_at lw_m2 22 rfl) rfl
theorem q289 : (Jvm.Cond.methodLink "ModalJudgeModel" (79 : Nat) ({ cls := "ModalJudgeModel", name := "in", desc := "(II)Z" } : Jvm.MethodName)) ∈ lw_all := lw_g (lw_at lw_m2 23 rfl) rfl
theorem q290 : (Jvm.Cond.privateMethod ({ cls := "ModalJudgeModel", name := "in", desc := "(II)Z" } : Jvm.MethodName)) ∈ lw_tbl := lw_at lw_m2 24 rfl
theorem q291 : (Jvm.Cond.instanceMethod ({ cls := "ModalJudgeModel", name := "in", desc := "(II)Z" } : Jvm.MethodName)) ∈ lw_all := lw_g (lw_at lw_m2 25 rfl) rfl
theorem q292 : (Jvm.Cond.code ({ cls := "ModalJudgeModel", name := "in", desc := "(II)Z" } : Jvm.MethodName) prog_3_method_3_code (3 : Nat) (Option.some Jvm.ClassFile.FieldType.boolean)) ∈ lw_all := lw_g (lw_at lw_m2 26 rfl) rfl
theorem q294 : (Jvm.Cond.instanceMethod ({ cls := "ModalJudgeModel", name := "set", desc := "()I" } : Jvm.MethodName)) ∈ lw_all := lw_g (lw_at lw_m2 28 rfl) rfl
theorem q295 : (Jvm.Cond.selects "ModalJudgeModel" ({ cls := "ModalJudgeModel", name := "set", desc := "()I" } : Jvm.MethodName) ({ cls := "ModalJudgeModel", name := "set", desc := "()I" } : Jvm.MethodName)) ∈ lw_all := lw_g (lw_at lw_m2 29 rfl) rfl
theorem q296 : (Jvm.Cond.code ({ cls := "ModalJudgeModel", name := "set", desc := "()I" } : Jvm.MethodName) prog_3_method_21_code (1 : Nat) (Option.some Jvm.ClassFile.FieldType.int)) ∈ lw_all := lw_g (lw_at lw_m2 30 rfl) rfl
theorem q298 : (Jvm.Cond.instanceMethod ({ cls := "ModalJudgeModel", name := "depth", desc := "()I" } : Jvm.MethodName)) ∈ lw_all := lw_g (lw_at lw_m2 32 rfl) rfl
theorem q299 : (Jvm.Cond.selects "ModalJudgeModel" ({ cls := "ModalJudgeModel", name := "depth", desc := "()I" } : Jvm.MethodName) ({ cls := "ModalJudgeModel", name := "depth", desc := "()I" } : Jvm.MethodName)) ∈ lw_all := lw_g (lw_at lw_m2 33 rfl) rfl
theorem q300 : (Jvm.Cond.code ({ cls := "ModalJudgeModel", name := "depth", desc := "()I" } : Jvm.MethodName) prog_3_method_22_code (5 : Nat) (Option.some Jvm.ClassFile.FieldType.int)) ∈ lw_all := lw_g (lw_at lw_m2 34 rfl) rfl
theorem q302 : (Jvm.Cond.instanceMethod ({ cls := "ModalJudgeModel", name := "steps", desc := "(I)I" } : Jvm.MethodName)) ∈ lw_all := lw_g (lw_at lw_m2 36 rfl) rfl
theorem q303 : (Jvm.Cond.selects "ModalJudgeModel" ({ cls := "ModalJudgeModel", name := "steps", desc := "(I)I" } : Jvm.MethodName) ({ cls := "ModalJudgeModel", name := "steps", desc := "(I)I" } : Jvm.MethodName)) ∈ lw_all := lw_g (lw_at lw_m2 37 rfl) rfl
theorem q304 : (Jvm.Cond.code ({ cls := "ModalJudgeModel", name := "steps", desc := "(I)I" } : Jvm.MethodName) prog_3_method_23_code (2 : Nat) (Option.some Jvm.ClassFile.FieldType.int)) ∈ lw_all := lw_g (lw_at lw_m2 38 rfl) rfl
theorem in_X1 : ∀ w ∈ wsX10, w ∈ lw_all := lw_in wsX10 [197, 199, 201, 203, 205, 207, 209, 211, 213] (by decide +kernel) (by decide +kernel)

theorem q26 : (Jvm.Cond.initialized "ModalJudgeLaw") ∈ lw_all := lw_g (lw_at lw_m1 0 rfl) rfl
set_option maxRecDepth 100000
theorem q29 : (Jvm.Cond.classLink "ModalJudgeLaw" (7 : Nat) "ModalJudge") ∈ lw_all := lw_g (lw_at lw_m1 3 rfl) rfl
theorem q31 : (Jvm.Cond.methodLink "ModalJudgeLaw" (9 : Nat) ({ cls := "ModalJudge", name := "<init>", desc := "()V" } : Jvm.MethodName)) ∈ lw_all := lw_g (lw_at lw_m1 5 rfl) rfl
theorem q85 : (Jvm.Cond.methodLink "ModalJudgeLaw" (13 : Nat) ({ cls := "ModalJudge", name := "step", desc := "(IIZ)Z" } : Jvm.MethodName)) ∈ lw_all := lw_g (lw_at lw_m1 59 rfl) rfl
theorem q93 : (Jvm.Cond.methodLink "ModalJudgeLaw" (18 : Nat) ({ cls := "ModalJudge", name := "mark", desc := "(II)Z" } : Jvm.MethodName)) ∈ lw_all := lw_g (lw_at lw_m1 67 rfl) rfl
theorem q97 : (Jvm.Cond.methodLink "ModalJudgeLaw" (23 : Nat) ({ cls := "ModalJudge", name := "token", desc := "(I)I" } : Jvm.MethodName)) ∈ lw_all := lw_g (lw_at lw_m1 71 rfl) rfl
theorem q105 : (Jvm.Cond.methodLink "ModalJudgeLaw" (28 : Nat) ({ cls := "ModalJudge", name := "wipe", desc := "()I" } : Jvm.MethodName)) ∈ lw_all := lw_g (lw_at lw_m1 79 rfl) rfl
theorem q109 : (Jvm.Cond.methodLink "ModalJudgeLaw" (33 : Nat) ({ cls := "ModalJudge", name := "turn", desc := "()I" } : Jvm.MethodName)) ∈ lw_all := lw_g (lw_at lw_m1 83 rfl) rfl
theorem q113 : (Jvm.Cond.methodLink "ModalJudgeLaw" (37 : Nat) ({ cls := "ModalJudge", name := "sound", desc := "()Z" } : Jvm.MethodName)) ∈ lw_all := lw_g (lw_at lw_m1 87 rfl) rfl
theorem q137 : (Jvm.Cond.methodLink "ModalJudgeLaw" (42 : Nat) ({ cls := "ModalJudge", name := "holds", desc := "(I)Z" } : Jvm.MethodName)) ∈ lw_all := lw_g (lw_at lw_m1 111 rfl) rfl
theorem q170 : (Jvm.Cond.methodLink "ModalJudgeLaw" (47 : Nat) ({ cls := "ModalJudge", name := "set", desc := "()I" } : Jvm.MethodName)) ∈ lw_all := lw_g (lw_at lw_m1 144 rfl) rfl
theorem q174 : (Jvm.Cond.methodLink "ModalJudgeLaw" (51 : Nat) ({ cls := "ModalJudge", name := "depth", desc := "()I" } : Jvm.MethodName)) ∈ lw_all := lw_g (lw_at lw_m1 148 rfl) rfl
theorem q178 : (Jvm.Cond.methodLink "ModalJudgeLaw" (55 : Nat) ({ cls := "ModalJudge", name := "steps", desc := "(I)I" } : Jvm.MethodName)) ∈ lw_all := lw_g (lw_at lw_m1 152 rfl) rfl
theorem q182 : (Jvm.Cond.classLink "ModalJudgeLaw" (10 : Nat) "ModalJudgeModel") ∈ lw_all := lw_g (lw_at lw_m1 156 rfl) rfl
theorem q184 : (Jvm.Cond.methodLink "ModalJudgeLaw" (12 : Nat) ({ cls := "ModalJudgeModel", name := "<init>", desc := "()V" } : Jvm.MethodName)) ∈ lw_all := lw_g (lw_at lw_m1 158 rfl) rfl
theorem q216 : (Jvm.Cond.methodLink "ModalJudgeLaw" (17 : Nat) ({ cls := "ModalJudgeModel", name := "step", desc := "(IIZ)Z" } : Jvm.MethodName)) ∈ lw_all := lw_g (lw_at lw_m1 190 rfl) rfl
theorem q224 : (Jvm.Cond.methodLink "ModalJudgeLaw" (22 : Nat) ({ cls := "ModalJudgeModel", name := "mark", desc := "(II)Z" } : Jvm.MethodName)) ∈ lw_all := lw_g (lw_at lw_m1 198 rfl) rfl
theorem q228 : (Jvm.Cond.methodLink "ModalJudgeLaw" (27 : Nat) ({ cls := "ModalJudgeModel", name := "token", desc := "(I)I" } : Jvm.MethodName)) ∈ lw_all := lw_g (lw_at lw_m1 202 rfl) rfl
theorem q232 : (Jvm.Cond.methodLink "ModalJudgeLaw" (32 : Nat) ({ cls := "ModalJudgeModel", name := "wipe", desc := "()I" } : Jvm.MethodName)) ∈ lw_all := lw_g (lw_at lw_m1 206 rfl) rfl
theorem q236 : (Jvm.Cond.methodLink "ModalJudgeLaw" (36 : Nat) ({ cls := "ModalJudgeModel", name := "turn", desc := "()I" } : Jvm.MethodName)) ∈ lw_all := lw_g (lw_at lw_m1 210 rfl) rfl
theorem q244 : (Jvm.Cond.methodLink "ModalJudgeLaw" (41 : Nat) ({ cls := "ModalJudgeModel", name := "sound", desc := "()Z" } : Jvm.MethodName)) ∈ lw_all := lw_g (lw_at lw_m1 218 rfl) rfl
theorem q264 : (Jvm.Cond.methodLink "ModalJudgeLaw" (46 : Nat) ({ cls := "ModalJudgeModel", name := "holds", desc := "(I)Z" } : Jvm.MethodName)) ∈ lw_all := lw_g (lw_at lw_m1 238 rfl) rfl
theorem q293 : (Jvm.Cond.methodLink "ModalJudgeLaw" (50 : Nat) ({ cls := "ModalJudgeModel", name := "set", desc := "()I" } : Jvm.MethodName)) ∈ lw_all := lw_g (lw_at lw_m2 27 rfl) rfl
theorem q297 : (Jvm.Cond.methodLink "ModalJudgeLaw" (54 : Nat) ({ cls := "ModalJudgeModel", name := "depth", desc := "()I" } : Jvm.MethodName)) ∈ lw_all := lw_g (lw_at lw_m2 31 rfl) rfl
theorem q301 : (Jvm.Cond.methodLink "ModalJudgeLaw" (58 : Nat) ({ cls := "ModalJudgeModel", name := "steps", desc := "(I)I" } : Jvm.MethodName)) ∈ lw_all := lw_g (lw_at lw_m2 35 rfl) rfl

theorem q83 : (Jvm.Cond.arrayClass Jvm.ClassFile.FieldType.int) ∈ lw_all := lw_g (lw_at lw_m1 57 rfl) rfl
set_option maxRecDepth 100000
theorem q84 : (Jvm.Cond.arrayClass Jvm.ClassFile.FieldType.byte) ∈ lw_all := lw_g (lw_at lw_m1 58 rfl) rfl

/-! the law's own entry -/
set_option maxRecDepth 100000
abbrev cL_law : ByteArray := code
end
section
set_option maxRecDepth 100000
theorem dX0_init_0 : decode cX0_init 0 = .ok (.aload_n 0, 1) := by decide +kernel
theorem dX0_init_1 : decode cX0_init 1 = .ok (.invokespecial 1, 3) := by decide +kernel
theorem dX0_init_4 : decode cX0_init 4 = .ok (.aload_n 0, 1) := by decide +kernel
theorem dX0_init_5 : decode cX0_init 5 = .ok (.bipush 6, 2) := by decide +kernel
theorem dX0_init_7 : decode cX0_init 7 = .ok (.newarray .int, 2) := by decide +kernel
theorem dX0_init_9 : decode cX0_init 9 = .ok (.putfield 7, 3) := by decide +kernel
theorem dX0_init_12 : decode cX0_init 12 = .ok (.aload_n 0, 1) := by decide +kernel
theorem dX0_init_13 : decode cX0_init 13 = .ok (.iconst 3, 1) := by decide +kernel
theorem dX0_init_14 : decode cX0_init 14 = .ok (.newarray .int, 2) := by decide +kernel
theorem dX0_init_16 : decode cX0_init 16 = .ok (.putfield 13, 3) := by decide +kernel
theorem dX0_init_19 : decode cX0_init 19 = .ok (.aload_n 0, 1) := by decide +kernel
theorem dX0_init_20 : decode cX0_init 20 = .ok (.bipush 12, 2) := by decide +kernel
theorem dX0_init_22 : decode cX0_init 22 = .ok (.newarray .byte, 2) := by decide +kernel
theorem dX0_init_24 : decode cX0_init 24 = .ok (.putfield 16, 3) := by decide +kernel
theorem dX0_init_27 : decode cX0_init 27 = .ok (.aload_n 0, 1) := by decide +kernel
theorem dX0_init_28 : decode cX0_init 28 = .ok (.bipush 12, 2) := by decide +kernel
theorem dX0_init_30 : decode cX0_init 30 = .ok (.newarray .byte, 2) := by decide +kernel
theorem dX0_init_32 : decode cX0_init 32 = .ok (.putfield 20, 3) := by decide +kernel
theorem dX0_init_35 : decode cX0_init 35 = .ok (.aload_n 0, 1) := by decide +kernel
theorem dX0_init_36 : decode cX0_init 36 = .ok (.bipush 12, 2) := by decide +kernel
theorem dX0_init_38 : decode cX0_init 38 = .ok (.newarray .byte, 2) := by decide +kernel
theorem dX0_init_40 : decode cX0_init 40 = .ok (.putfield 23, 3) := by decide +kernel
theorem dX0_init_43 : decode cX0_init 43 = .ok (.aload_n 0, 1) := by decide +kernel
theorem dX0_init_44 : decode cX0_init 44 = .ok (.bipush 12, 2) := by decide +kernel
theorem dX0_init_46 : decode cX0_init 46 = .ok (.newarray .byte, 2) := by decide +kernel
theorem dX0_init_48 : decode cX0_init 48 = .ok (.putfield 26, 3) := by decide +kernel
theorem dX0_init_51 : decode cX0_init 51 = .ok (.aload_n 0, 1) := by decide +kernel
theorem dX0_init_52 : decode cX0_init 52 = .ok (.bipush 12, 2) := by decide +kernel
theorem dX0_init_54 : decode cX0_init 54 = .ok (.newarray .byte, 2) := by decide +kernel
theorem dX0_init_56 : decode cX0_init 56 = .ok (.putfield 29, 3) := by decide +kernel
theorem dX0_init_59 : decode cX0_init 59 = .ok (.aload_n 0, 1) := by decide +kernel
theorem dX0_init_60 : decode cX0_init 60 = .ok (.bipush 72, 2) := by decide +kernel
theorem dX0_init_62 : decode cX0_init 62 = .ok (.newarray .int, 2) := by decide +kernel
theorem dX0_init_64 : decode cX0_init 64 = .ok (.putfield 32, 3) := by decide +kernel
theorem dX0_init_67 : decode cX0_init 67 = .ok (.aload_n 0, 1) := by decide +kernel
theorem dX0_init_68 : decode cX0_init 68 = .ok (.iconst 4, 1) := by decide +kernel
theorem dX0_init_69 : decode cX0_init 69 = .ok (.newarray .byte, 2) := by decide +kernel
theorem dX0_init_71 : decode cX0_init 71 = .ok (.putfield 35, 3) := by decide +kernel
theorem dX0_init_74 : decode cX0_init 74 = .ok (.aload_n 0, 1) := by decide +kernel
theorem dX0_init_75 : decode cX0_init 75 = .ok (.iconst 4, 1) := by decide +kernel
theorem dX0_init_76 : decode cX0_init 76 = .ok (.newarray .byte, 2) := by decide +kernel
theorem dX0_init_78 : decode cX0_init 78 = .ok (.putfield 38, 3) := by decide +kernel
theorem dX0_init_81 : decode cX0_init 81 = .ok (.return_, 1) := by decide +kernel
theorem dX0_step_0 : decode cX0_step 0 = .ok (.aload_n 0, 1) := by decide +kernel
theorem dX0_step_1 : decode cX0_step 1 = .ok (.iload_n 1, 1) := by decide +kernel
theorem dX0_step_2 : decode cX0_step 2 = .ok (.invokevirtual 41, 3) := by decide +kernel
theorem dX0_step_5 : decode cX0_step 5 = .ok (.ifCond .eq 11, 3) := by decide +kernel
theorem dX0_step_8 : decode cX0_step 8 = .ok (.aload_n 0, 1) := by decide +kernel
theorem dX0_step_9 : decode cX0_step 9 = .ok (.iload_n 2, 1) := by decide +kernel
theorem dX0_step_10 : decode cX0_step 10 = .ok (.invokevirtual 41, 3) := by decide +kernel
theorem dX0_step_13 : decode cX0_step 13 = .ok (.ifCond .ne 5, 3) := by decide +kernel
theorem dX0_step_16 : decode cX0_step 16 = .ok (.iconst 0, 1) := by decide +kernel
theorem dX0_step_17 : decode cX0_step 17 = .ok (.ireturn, 1) := by decide +kernel
theorem dX0_step_18 : decode cX0_step 18 = .ok (.iload_n 3, 1) := by decide +kernel
theorem dX0_step_19 : decode cX0_step 19 = .ok (.ifCond .eq 18, 3) := by decide +kernel
theorem dX0_step_22 : decode cX0_step 22 = .ok (.aload_n 0, 1) := by decide +kernel
theorem dX0_step_23 : decode cX0_step 23 = .ok (.getfield 7, 3) := by decide +kernel
theorem dX0_step_26 : decode cX0_step 26 = .ok (.iload_n 1, 1) := by decide +kernel
theorem dX0_step_27 : decode cX0_step 27 = .ok (.dup2, 1) := by decide +kernel
theorem dX0_step_28 : decode cX0_step 28 = .ok (.iaload, 1) := by decide +kernel
theorem dX0_step_29 : decode cX0_step 29 = .ok (.iconst 1, 1) := by decide +kernel
theorem dX0_step_30 : decode cX0_step 30 = .ok (.iload_n 2, 1) := by decide +kernel
theorem dX0_step_31 : decode cX0_step 31 = .ok (.ishl, 1) := by decide +kernel
theorem dX0_step_32 : decode cX0_step 32 = .ok (.ior, 1) := by decide +kernel
theorem dX0_step_33 : decode cX0_step 33 = .ok (.iastore, 1) := by decide +kernel
theorem dX0_step_34 : decode cX0_step 34 = .ok (.goto 17, 3) := by decide +kernel
theorem dX0_step_37 : decode cX0_step 37 = .ok (.aload_n 0, 1) := by decide +kernel
theorem dX0_step_38 : decode cX0_step 38 = .ok (.getfield 7, 3) := by decide +kernel
theorem dX0_step_41 : decode cX0_step 41 = .ok (.iload_n 1, 1) := by decide +kernel
theorem dX0_step_42 : decode cX0_step 42 = .ok (.dup2, 1) := by decide +kernel
theorem dX0_step_43 : decode cX0_step 43 = .ok (.iaload, 1) := by decide +kernel
theorem dX0_step_44 : decode cX0_step 44 = .ok (.iconst 1, 1) := by decide +kernel
theorem dX0_step_45 : decode cX0_step 45 = .ok (.iload_n 2, 1) := by decide +kernel
theorem dX0_step_46 : decode cX0_step 46 = .ok (.ishl, 1) := by decide +kernel
theorem dX0_step_47 : decode cX0_step 47 = .ok (.iconst (-1), 1) := by decide +kernel
theorem dX0_step_48 : decode cX0_step 48 = .ok (.ixor, 1) := by decide +kernel
theorem dX0_step_49 : decode cX0_step 49 = .ok (.iand, 1) := by decide +kernel
theorem dX0_step_50 : decode cX0_step 50 = .ok (.iastore, 1) := by decide +kernel
theorem dX0_step_51 : decode cX0_step 51 = .ok (.aload_n 0, 1) := by decide +kernel
theorem dX0_step_52 : decode cX0_step 52 = .ok (.iconst 0, 1) := by decide +kernel
theorem dX0_step_53 : decode cX0_step 53 = .ok (.putfield 45, 3) := by decide +kernel
theorem dX0_step_56 : decode cX0_step 56 = .ok (.iconst 1, 1) := by decide +kernel
theorem dX0_step_57 : decode cX0_step 57 = .ok (.ireturn, 1) := by decide +kernel
theorem dX0_isState_0 : decode cX0_isState 0 = .ok (.iload_n 1, 1) := by decide +kernel
theorem dX0_isState_1 : decode cX0_isState 1 = .ok (.ifCond .lt 13, 3) := by decide +kernel
theorem dX0_isState_4 : decode cX0_isState 4 = .ok (.iload_n 1, 1) := by decide +kernel
theorem dX0_isState_5 : decode cX0_isState 5 = .ok (.bipush 6, 2) := by decide +kernel
theorem dX0_isState_7 : decode cX0_isState 7 = .ok (.if_icmp .ge 7, 3) := by decide +kernel
theorem dX0_isState_10 : decode cX0_isState 10 = .ok (.iconst 1, 1) := by decide +kernel
theorem dX0_isState_11 : decode cX0_isState 11 = .ok (.goto 4, 3) := by decide +kernel
theorem dX0_isState_14 : decode cX0_isState 14 = .ok (.iconst 0, 1) := by decide +kernel
theorem dX0_isState_15 : decode cX0_isState 15 = .ok (.ireturn, 1) := by decide +kernel
theorem dX0_mark_0 : decode cX0_mark 0 = .ok (.iload_n 1, 1) := by decide +kernel
theorem dX0_mark_1 : decode cX0_mark 1 = .ok (.ifCond .lt 18, 3) := by decide +kernel
theorem dX0_mark_4 : decode cX0_mark 4 = .ok (.iload_n 1, 1) := by decide +kernel
theorem dX0_mark_5 : decode cX0_mark 5 = .ok (.iconst 2, 1) := by decide +kernel
theorem dX0_mark_6 : decode cX0_mark 6 = .ok (.if_icmp .gt 13, 3) := by decide +kernel
theorem dX0_mark_9 : decode cX0_mark 9 = .ok (.iload_n 2, 1) := by decide +kernel
theorem dX0_mark_10 : decode cX0_mark 10 = .ok (.ifCond .lt 9, 3) := by decide +kernel
theorem dX0_mark_13 : decode cX0_mark 13 = .ok (.iload_n 2, 1) := by decide +kernel
theorem dX0_mark_14 : decode cX0_mark 14 = .ok (.bipush 63, 2) := by decide +kernel
theorem dX0_mark_16 : decode cX0_mark 16 = .ok (.if_icmp .le 5, 3) := by decide +kernel
theorem dX0_mark_19 : decode cX0_mark 19 = .ok (.iconst 0, 1) := by decide +kernel
theorem dX0_mark_20 : decode cX0_mark 20 = .ok (.ireturn, 1) := by decide +kernel
theorem dX0_mark_21 : decode cX0_mark 21 = .ok (.aload_n 0, 1) := by decide +kernel
theorem dX0_mark_22 : decode cX0_mark 22 = .ok (.getfield 13, 3) := by decide +kernel
theorem dX0_mark_25 : decode cX0_mark 25 = .ok (.iload_n 1, 1) := by decide +kernel
theorem dX0_mark_26 : decode cX0_mark 26 = .ok (.iload_n 2, 1) := by decide +kernel
theorem dX0_mark_27 : decode cX0_mark 27 = .ok (.iastore, 1) := by decide +kernel
theorem dX0_mark_28 : decode cX0_mark 28 = .ok (.aload_n 0, 1) := by decide +kernel
theorem dX0_mark_29 : decode cX0_mark 29 = .ok (.iconst 0, 1) := by decide +kernel
theorem dX0_mark_30 : decode cX0_mark 30 = .ok (.putfield 45, 3) := by decide +kernel
theorem dX0_mark_33 : decode cX0_mark 33 = .ok (.iconst 1, 1) := by decide +kernel
theorem dX0_mark_34 : decode cX0_mark 34 = .ok (.ireturn, 1) := by decide +kernel
theorem dX0_token_0 : decode cX0_token 0 = .ok (.aload_n 0, 1) := by decide +kernel
theorem dX0_token_1 : decode cX0_token 1 = .ok (.getfield 49, 3) := by decide +kernel
theorem dX0_token_4 : decode cX0_token 4 = .ok (.bipush 12, 2) := by decide +kernel
theorem dX0_token_6 : decode cX0_token 6 = .ok (.if_icmp .lt 6, 3) := by decide +kernel
theorem dX0_token_9 : decode cX0_token 9 = .ok (.bipush (-2), 2) := by decide +kernel
theorem dX0_token_11 : decode cX0_token 11 = .ok (.ireturn, 1) := by decide +kernel
theorem dX0_token_12 : decode cX0_token 12 = .ok (.iload_n 1, 1) := by decide +kernel
theorem dX0_token_13 : decode cX0_token 13 = .ok (.ifCond .lt 9, 3) := by decide +kernel
theorem dX0_token_16 : decode cX0_token 16 = .ok (.iload_n 1, 1) := by decide +kernel
theorem dX0_token_17 : decode cX0_token 17 = .ok (.bipush 18, 2) := by decide +kernel
theorem dX0_token_19 : decode cX0_token 19 = .ok (.if_icmp .le 5, 3) := by decide +kernel
theorem dX0_token_22 : decode cX0_token 22 = .ok (.iconst (-1), 1) := by decide +kernel
theorem dX0_token_23 : decode cX0_token 23 = .ok (.ireturn, 1) := by decide +kernel
theorem dX0_token_24 : decode cX0_token 24 = .ok (.aload_n 0, 1) := by decide +kernel
theorem dX0_token_25 : decode cX0_token 25 = .ok (.getfield 16, 3) := by decide +kernel
theorem dX0_token_28 : decode cX0_token 28 = .ok (.aload_n 0, 1) := by decide +kernel
theorem dX0_token_29 : decode cX0_token 29 = .ok (.getfield 49, 3) := by decide +kernel
theorem dX0_token_32 : decode cX0_token 32 = .ok (.iload_n 1, 1) := by decide +kernel
theorem dX0_token_33 : decode cX0_token 33 = .ok (.i2b, 1) := by decide +kernel
theorem dX0_token_34 : decode cX0_token 34 = .ok (.bastore, 1) := by decide +kernel
theorem dX0_token_35 : decode cX0_token 35 = .ok (.aload_n 0, 1) := by decide +kernel
theorem dX0_token_36 : decode cX0_token 36 = .ok (.dup, 1) := by decide +kernel
theorem dX0_token_37 : decode cX0_token 37 = .ok (.getfield 49, 3) := by decide +kernel
theorem dX0_token_40 : decode cX0_token 40 = .ok (.iconst 1, 1) := by decide +kernel
theorem dX0_token_41 : decode cX0_token 41 = .ok (.iadd, 1) := by decide +kernel
theorem dX0_token_42 : decode cX0_token 42 = .ok (.putfield 49, 3) := by decide +kernel
theorem dX0_token_45 : decode cX0_token 45 = .ok (.aload_n 0, 1) := by decide +kernel
theorem dX0_token_46 : decode cX0_token 46 = .ok (.invokevirtual 53, 3) := by decide +kernel
theorem dX0_token_49 : decode cX0_token 49 = .ok (.aload_n 0, 1) := by decide +kernel
theorem dX0_token_50 : decode cX0_token 50 = .ok (.getfield 49, 3) := by decide +kernel
theorem dX0_token_53 : decode cX0_token 53 = .ok (.ireturn, 1) := by decide +kernel
theorem dX0_changeFormula_0 : decode cX0_changeFormula 0 = .ok (.aload_n 0, 1) := by decide +kernel
theorem dX0_changeFormula_1 : decode cX0_changeFormula 1 = .ok (.iconst 0, 1) := by decide +kernel
theorem dX0_changeFormula_2 : decode cX0_changeFormula 2 = .ok (.putfield 56, 3) := by decide +kernel
theorem dX0_changeFormula_5 : decode cX0_changeFormula 5 = .ok (.aload_n 0, 1) := by decide +kernel
theorem dX0_changeFormula_6 : decode cX0_changeFormula 6 = .ok (.iconst 0, 1) := by decide +kernel
theorem dX0_changeFormula_7 : decode cX0_changeFormula 7 = .ok (.putfield 45, 3) := by decide +kernel
theorem dX0_changeFormula_10 : decode cX0_changeFormula 10 = .ok (.return_, 1) := by decide +kernel
theorem dX0_wipe_0 : decode cX0_wipe 0 = .ok (.aload_n 0, 1) := by decide +kernel
theorem dX0_wipe_1 : decode cX0_wipe 1 = .ok (.getfield 49, 3) := by decide +kernel
theorem dX0_wipe_4 : decode cX0_wipe 4 = .ok (.istore_n 1, 1) := by decide +kernel
theorem dX0_wipe_5 : decode cX0_wipe 5 = .ok (.aload_n 0, 1) := by decide +kernel
theorem dX0_wipe_6 : decode cX0_wipe 6 = .ok (.iconst 0, 1) := by decide +kernel
theorem dX0_wipe_7 : decode cX0_wipe 7 = .ok (.putfield 49, 3) := by decide +kernel
theorem dX0_wipe_10 : decode cX0_wipe 10 = .ok (.aload_n 0, 1) := by decide +kernel
theorem dX0_wipe_11 : decode cX0_wipe 11 = .ok (.invokevirtual 53, 3) := by decide +kernel
theorem dX0_wipe_14 : decode cX0_wipe 14 = .ok (.iload_n 1, 1) := by decide +kernel
theorem dX0_wipe_15 : decode cX0_wipe 15 = .ok (.ireturn, 1) := by decide +kernel
theorem dX0_turn_0 : decode cX0_turn 0 = .ok (.iconst 0, 1) := by decide +kernel
theorem dX0_turn_1 : decode cX0_turn 1 = .ok (.istore_n 1, 1) := by decide +kernel
theorem dX0_turn_2 : decode cX0_turn 2 = .ok (.iconst 0, 1) := by decide +kernel
theorem dX0_turn_3 : decode cX0_turn 3 = .ok (.istore_n 2, 1) := by decide +kernel
theorem dX0_turn_4 : decode cX0_turn 4 = .ok (.iload_n 2, 1) := by decide +kernel
theorem dX0_turn_5 : decode cX0_turn 5 = .ok (.aload_n 0, 1) := by decide +kernel
theorem dX0_turn_6 : decode cX0_turn 6 = .ok (.getfield 49, 3) := by decide +kernel
theorem dX0_turn_9 : decode cX0_turn 9 = .ok (.if_icmp .ge 99, 3) := by decide +kernel
theorem dX0_turn_12 : decode cX0_turn 12 = .ok (.aload_n 0, 1) := by decide +kernel
theorem dX0_turn_13 : decode cX0_turn 13 = .ok (.getfield 16, 3) := by decide +kernel
theorem dX0_turn_16 : decode cX0_turn 16 = .ok (.iload_n 2, 1) := by decide +kernel
theorem dX0_turn_17 : decode cX0_turn 17 = .ok (.baload, 1) := by decide +kernel
theorem dX0_turn_18 : decode cX0_turn 18 = .ok (.istore_n 3, 1) := by decide +kernel
theorem dX0_turn_19 : decode cX0_turn 19 = .ok (.iload_n 3, 1) := by decide +kernel
theorem dX0_turn_20 : decode cX0_turn 20 = .ok (.bipush 16, 2) := by decide +kernel
theorem dX0_turn_22 : decode cX0_turn 22 = .ok (.if_icmp .lt 6, 3) := by decide +kernel
theorem dX0_turn_25 : decode cX0_turn 25 = .ok (.goto 77, 3) := by decide +kernel
theorem dX0_turn_28 : decode cX0_turn 28 = .ok (.iinc 1 1, 3) := by decide +kernel
theorem dX0_turn_31 : decode cX0_turn 31 = .ok (.iload_n 3, 1) := by decide +kernel
theorem dX0_turn_32 : decode cX0_turn 32 = .ok (.bipush 6, 2) := by decide +kernel
theorem dX0_turn_34 : decode cX0_turn 34 = .ok (.if_icmp .ge 27, 3) := by decide +kernel
theorem dX0_turn_37 : decode cX0_turn 37 = .ok (.aload_n 0, 1) := by decide +kernel
theorem dX0_turn_38 : decode cX0_turn 38 = .ok (.getfield 16, 3) := by decide +kernel
theorem dX0_turn_41 : decode cX0_turn 41 = .ok (.iload_n 2, 1) := by decide +kernel
theorem dX0_turn_42 : decode cX0_turn 42 = .ok (.iload_n 3, 1) := by decide +kernel
theorem dX0_turn_43 : decode cX0_turn 43 = .ok (.iconst 3, 1) := by decide +kernel
theorem dX0_turn_44 : decode cX0_turn 44 = .ok (.if_icmp .ge 9, 3) := by decide +kernel
theorem dX0_turn_47 : decode cX0_turn 47 = .ok (.iload_n 3, 1) := by decide +kernel
theorem dX0_turn_48 : decode cX0_turn 48 = .ok (.iconst 3, 1) := by decide +kernel
theorem dX0_turn_49 : decode cX0_turn 49 = .ok (.iadd, 1) := by decide +kernel
theorem dX0_turn_50 : decode cX0_turn 50 = .ok (.goto 6, 3) := by decide +kernel
theorem dX0_turn_53 : decode cX0_turn 53 = .ok (.iload_n 3, 1) := by decide +kernel
theorem dX0_turn_54 : decode cX0_turn 54 = .ok (.iconst 3, 1) := by decide +kernel
theorem dX0_turn_55 : decode cX0_turn 55 = .ok (.isub, 1) := by decide +kernel
theorem dX0_turn_56 : decode cX0_turn 56 = .ok (.i2b, 1) := by decide +kernel
theorem dX0_turn_57 : decode cX0_turn 57 = .ok (.bastore, 1) := by decide +kernel
theorem dX0_turn_58 : decode cX0_turn 58 = .ok (.goto 44, 3) := by decide +kernel
theorem dX0_turn_61 : decode cX0_turn 61 = .ok (.iload_n 3, 1) := by decide +kernel
theorem dX0_turn_62 : decode cX0_turn 62 = .ok (.bipush 10, 2) := by decide +kernel
theorem dX0_turn_64 : decode cX0_turn 64 = .ok (.if_icmp .ge 16, 3) := by decide +kernel
theorem dX0_turn_67 : decode cX0_turn 67 = .ok (.aload_n 0, 1) := by decide +kernel
theorem dX0_turn_68 : decode cX0_turn 68 = .ok (.getfield 16, 3) := by decide +kernel
theorem dX0_turn_71 : decode cX0_turn 71 = .ok (.iload_n 2, 1) := by decide +kernel
theorem dX0_turn_72 : decode cX0_turn 72 = .ok (.iload_n 3, 1) := by decide +kernel
theorem dX0_turn_73 : decode cX0_turn 73 = .ok (.iconst 1, 1) := by decide +kernel
theorem dX0_turn_74 : decode cX0_turn 74 = .ok (.ixor, 1) := by decide +kernel
theorem dX0_turn_75 : decode cX0_turn 75 = .ok (.i2b, 1) := by decide +kernel
theorem dX0_turn_76 : decode cX0_turn 76 = .ok (.bastore, 1) := by decide +kernel
theorem dX0_turn_77 : decode cX0_turn 77 = .ok (.goto 25, 3) := by decide +kernel
theorem dX0_turn_80 : decode cX0_turn 80 = .ok (.aload_n 0, 1) := by decide +kernel
theorem dX0_turn_81 : decode cX0_turn 81 = .ok (.getfield 16, 3) := by decide +kernel
theorem dX0_turn_84 : decode cX0_turn 84 = .ok (.iload_n 2, 1) := by decide +kernel
theorem dX0_turn_85 : decode cX0_turn 85 = .ok (.iload_n 3, 1) := by decide +kernel
theorem dX0_turn_86 : decode cX0_turn 86 = .ok (.bipush 13, 2) := by decide +kernel
theorem dX0_turn_88 : decode cX0_turn 88 = .ok (.if_icmp .ge 9, 3) := by decide +kernel
theorem dX0_turn_91 : decode cX0_turn 91 = .ok (.iload_n 3, 1) := by decide +kernel
theorem dX0_turn_92 : decode cX0_turn 92 = .ok (.iconst 3, 1) := by decide +kernel
theorem dX0_turn_93 : decode cX0_turn 93 = .ok (.iadd, 1) := by decide +kernel
theorem dX0_turn_94 : decode cX0_turn 94 = .ok (.goto 6, 3) := by decide +kernel
theorem dX0_turn_97 : decode cX0_turn 97 = .ok (.iload_n 3, 1) := by decide +kernel
theorem dX0_turn_98 : decode cX0_turn 98 = .ok (.iconst 3, 1) := by decide +kernel
theorem dX0_turn_99 : decode cX0_turn 99 = .ok (.isub, 1) := by decide +kernel
theorem dX0_turn_100 : decode cX0_turn 100 = .ok (.i2b, 1) := by decide +kernel
theorem dX0_turn_101 : decode cX0_turn 101 = .ok (.bastore, 1) := by decide +kernel
theorem dX0_turn_102 : decode cX0_turn 102 = .ok (.iinc 2 1, 3) := by decide +kernel
theorem dX0_turn_105 : decode cX0_turn 105 = .ok (.goto (-101), 3) := by decide +kernel
theorem dX0_turn_108 : decode cX0_turn 108 = .ok (.aload_n 0, 1) := by decide +kernel
theorem dX0_turn_109 : decode cX0_turn 109 = .ok (.invokevirtual 53, 3) := by decide +kernel
theorem dX0_turn_112 : decode cX0_turn 112 = .ok (.iload_n 1, 1) := by decide +kernel
theorem dX0_turn_113 : decode cX0_turn 113 = .ok (.ireturn, 1) := by decide +kernel
theorem dX0_sound_0 : decode cX0_sound 0 = .ok (.aload_n 0, 1) := by decide +kernel
theorem dX0_sound_1 : decode cX0_sound 1 = .ok (.invokevirtual 59, 3) := by decide +kernel
theorem dX0_sound_4 : decode cX0_sound 4 = .ok (.aload_n 0, 1) := by decide +kernel
theorem dX0_sound_5 : decode cX0_sound 5 = .ok (.getfield 62, 3) := by decide +kernel
theorem dX0_sound_8 : decode cX0_sound 8 = .ok (.ireturn, 1) := by decide +kernel
theorem dX0_parse_0 : decode cX0_parse 0 = .ok (.aload_n 0, 1) := by decide +kernel
theorem dX0_parse_1 : decode cX0_parse 1 = .ok (.getfield 56, 3) := by decide +kernel
theorem dX0_parse_4 : decode cX0_parse 4 = .ok (.ifCond .eq 4, 3) := by decide +kernel
theorem dX0_parse_7 : decode cX0_parse 7 = .ok (.return_, 1) := by decide +kernel
theorem dX0_parse_8 : decode cX0_parse 8 = .ok (.aload_n 0, 1) := by decide +kernel
theorem dX0_parse_9 : decode cX0_parse 9 = .ok (.iconst 1, 1) := by decide +kernel
theorem dX0_parse_10 : decode cX0_parse 10 = .ok (.putfield 56, 3) := by decide +kernel
theorem dX0_parse_13 : decode cX0_parse 13 = .ok (.aload_n 0, 1) := by decide +kernel
theorem dX0_parse_14 : decode cX0_parse 14 = .ok (.iconst 0, 1) := by decide +kernel
theorem dX0_parse_15 : decode cX0_parse 15 = .ok (.putfield 62, 3) := by decide +kernel
theorem dX0_parse_18 : decode cX0_parse 18 = .ok (.aload_n 0, 1) := by decide +kernel
theorem dX0_parse_19 : decode cX0_parse 19 = .ok (.iconst 0, 1) := by decide +kernel
theorem dX0_parse_20 : decode cX0_parse 20 = .ok (.putfield 69, 3) := by decide +kernel
theorem dX0_parse_23 : decode cX0_parse 23 = .ok (.aload_n 0, 1) := by decide +kernel
theorem dX0_parse_24 : decode cX0_parse 24 = .ok (.getfield 49, 3) := by decide +kernel
theorem dX0_parse_27 : decode cX0_parse 27 = .ok (.iconst 1, 1) := by decide +kernel
theorem dX0_parse_28 : decode cX0_parse 28 = .ok (.isub, 1) := by decide +kernel
theorem dX0_parse_29 : decode cX0_parse 29 = .ok (.istore_n 1, 1) := by decide +kernel
theorem dX0_parse_30 : decode cX0_parse 30 = .ok (.iload_n 1, 1) := by decide +kernel
theorem dX0_parse_31 : decode cX0_parse 31 = .ok (.ifCond .lt 71, 3) := by decide +kernel
theorem dX0_parse_34 : decode cX0_parse 34 = .ok (.aload_n 0, 1) := by decide +kernel
theorem dX0_parse_35 : decode cX0_parse 35 = .ok (.aload_n 0, 1) := by decide +kernel
theorem dX0_parse_36 : decode cX0_parse 36 = .ok (.getfield 16, 3) := by decide +kernel
theorem dX0_parse_39 : decode cX0_parse 39 = .ok (.iload_n 1, 1) := by decide +kernel
theorem dX0_parse_40 : decode cX0_parse 40 = .ok (.baload, 1) := by decide +kernel
theorem dX0_parse_41 : decode cX0_parse 41 = .ok (.invokevirtual 72, 3) := by decide +kernel
theorem dX0_parse_44 : decode cX0_parse 44 = .ok (.istore_n 2, 1) := by decide +kernel
theorem dX0_parse_45 : decode cX0_parse 45 = .ok (.iload_n 1, 1) := by decide +kernel
theorem dX0_parse_46 : decode cX0_parse 46 = .ok (.iconst 1, 1) := by decide +kernel
theorem dX0_parse_47 : decode cX0_parse 47 = .ok (.iadd, 1) := by decide +kernel
theorem dX0_parse_48 : decode cX0_parse 48 = .ok (.istore_n 3, 1) := by decide +kernel
theorem dX0_parse_49 : decode cX0_parse 49 = .ok (.iconst 0, 1) := by decide +kernel
theorem dX0_parse_50 : decode cX0_parse 50 = .ok (.istore 4, 2) := by decide +kernel
theorem dX0_parse_52 : decode cX0_parse 52 = .ok (.iload 4, 2) := by decide +kernel
theorem dX0_parse_54 : decode cX0_parse 54 = .ok (.iload_n 2, 1) := by decide +kernel
theorem dX0_parse_55 : decode cX0_parse 55 = .ok (.if_icmp .ge 33, 3) := by decide +kernel
theorem dX0_parse_58 : decode cX0_parse 58 = .ok (.iload_n 3, 1) := by decide +kernel
theorem dX0_parse_59 : decode cX0_parse 59 = .ok (.aload_n 0, 1) := by decide +kernel
theorem dX0_parse_60 : decode cX0_parse 60 = .ok (.getfield 49, 3) := by decide +kernel
theorem dX0_parse_63 : decode cX0_parse 63 = .ok (.if_icmp .lt 4, 3) := by decide +kernel
theorem dX0_parse_66 : decode cX0_parse 66 = .ok (.return_, 1) := by decide +kernel
theorem dX0_parse_67 : decode cX0_parse 67 = .ok (.aload_n 0, 1) := by decide +kernel
theorem dX0_parse_68 : decode cX0_parse 68 = .ok (.getfield 23, 3) := by decide +kernel
end
section
set_option maxRecDepth 100000
theorem dX0_parse_71 : decode cX0_parse 71 = .ok (.iload_n 1, 1) := by decide +kernel
theorem dX0_parse_72 : decode cX0_parse 72 = .ok (.iload_n 3, 1) := by decide +kernel
theorem dX0_parse_73 : decode cX0_parse 73 = .ok (.i2b, 1) := by decide +kernel
theorem dX0_parse_74 : decode cX0_parse 74 = .ok (.bastore, 1) := by decide +kernel
theorem dX0_parse_75 : decode cX0_parse 75 = .ok (.aload_n 0, 1) := by decide +kernel
theorem dX0_parse_76 : decode cX0_parse 76 = .ok (.getfield 20, 3) := by decide +kernel
theorem dX0_parse_79 : decode cX0_parse 79 = .ok (.iload_n 3, 1) := by decide +kernel
theorem dX0_parse_80 : decode cX0_parse 80 = .ok (.baload, 1) := by decide +kernel
theorem dX0_parse_81 : decode cX0_parse 81 = .ok (.istore_n 3, 1) := by decide +kernel
theorem dX0_parse_82 : decode cX0_parse 82 = .ok (.iinc 4 1, 3) := by decide +kernel
theorem dX0_parse_85 : decode cX0_parse 85 = .ok (.goto (-33), 3) := by decide +kernel
theorem dX0_parse_88 : decode cX0_parse 88 = .ok (.aload_n 0, 1) := by decide +kernel
theorem dX0_parse_89 : decode cX0_parse 89 = .ok (.getfield 20, 3) := by decide +kernel
theorem dX0_parse_92 : decode cX0_parse 92 = .ok (.iload_n 1, 1) := by decide +kernel
theorem dX0_parse_93 : decode cX0_parse 93 = .ok (.iload_n 3, 1) := by decide +kernel
theorem dX0_parse_94 : decode cX0_parse 94 = .ok (.i2b, 1) := by decide +kernel
theorem dX0_parse_95 : decode cX0_parse 95 = .ok (.bastore, 1) := by decide +kernel
theorem dX0_parse_96 : decode cX0_parse 96 = .ok (.iinc 1 (-1), 3) := by decide +kernel
theorem dX0_parse_99 : decode cX0_parse 99 = .ok (.goto (-69), 3) := by decide +kernel
theorem dX0_parse_102 : decode cX0_parse 102 = .ok (.aload_n 0, 1) := by decide +kernel
theorem dX0_parse_103 : decode cX0_parse 103 = .ok (.getfield 49, 3) := by decide +kernel
theorem dX0_parse_106 : decode cX0_parse 106 = .ok (.ifCond .eq 16, 3) := by decide +kernel
theorem dX0_parse_109 : decode cX0_parse 109 = .ok (.aload_n 0, 1) := by decide +kernel
theorem dX0_parse_110 : decode cX0_parse 110 = .ok (.getfield 20, 3) := by decide +kernel
theorem dX0_parse_113 : decode cX0_parse 113 = .ok (.iconst 0, 1) := by decide +kernel
theorem dX0_parse_114 : decode cX0_parse 114 = .ok (.baload, 1) := by decide +kernel
theorem dX0_parse_115 : decode cX0_parse 115 = .ok (.aload_n 0, 1) := by decide +kernel
theorem dX0_parse_116 : decode cX0_parse 116 = .ok (.getfield 49, 3) := by decide +kernel
theorem dX0_parse_119 : decode cX0_parse 119 = .ok (.if_icmp .eq 4, 3) := by decide +kernel
theorem dX0_parse_122 : decode cX0_parse 122 = .ok (.return_, 1) := by decide +kernel
theorem dX0_parse_123 : decode cX0_parse 123 = .ok (.aload_n 0, 1) := by decide +kernel
theorem dX0_parse_124 : decode cX0_parse 124 = .ok (.aload_n 0, 1) := by decide +kernel
theorem dX0_parse_125 : decode cX0_parse 125 = .ok (.invokevirtual 76, 3) := by decide +kernel
theorem dX0_parse_128 : decode cX0_parse 128 = .ok (.putfield 62, 3) := by decide +kernel
theorem dX0_parse_131 : decode cX0_parse 131 = .ok (.return_, 1) := by decide +kernel
theorem dX0_termsBehind_0 : decode cX0_termsBehind 0 = .ok (.iload_n 1, 1) := by decide +kernel
theorem dX0_termsBehind_1 : decode cX0_termsBehind 1 = .ok (.bipush 6, 2) := by decide +kernel
theorem dX0_termsBehind_3 : decode cX0_termsBehind 3 = .ok (.if_icmp .eq 9, 3) := by decide +kernel
theorem dX0_termsBehind_6 : decode cX0_termsBehind 6 = .ok (.iload_n 1, 1) := by decide +kernel
theorem dX0_termsBehind_7 : decode cX0_termsBehind 7 = .ok (.bipush 7, 2) := by decide +kernel
theorem dX0_termsBehind_9 : decode cX0_termsBehind 9 = .ok (.if_icmp .ne 5, 3) := by decide +kernel
theorem dX0_termsBehind_12 : decode cX0_termsBehind 12 = .ok (.iconst 2, 1) := by decide +kernel
theorem dX0_termsBehind_13 : decode cX0_termsBehind 13 = .ok (.ireturn, 1) := by decide +kernel
theorem dX0_termsBehind_14 : decode cX0_termsBehind 14 = .ok (.iload_n 1, 1) := by decide +kernel
theorem dX0_termsBehind_15 : decode cX0_termsBehind 15 = .ok (.bipush 8, 2) := by decide +kernel
theorem dX0_termsBehind_17 : decode cX0_termsBehind 17 = .ok (.if_icmp .lt 13, 3) := by decide +kernel
theorem dX0_termsBehind_20 : decode cX0_termsBehind 20 = .ok (.iload_n 1, 1) := by decide +kernel
theorem dX0_termsBehind_21 : decode cX0_termsBehind 21 = .ok (.bipush 16, 2) := by decide +kernel
theorem dX0_termsBehind_23 : decode cX0_termsBehind 23 = .ok (.if_icmp .ge 7, 3) := by decide +kernel
theorem dX0_termsBehind_26 : decode cX0_termsBehind 26 = .ok (.iconst 1, 1) := by decide +kernel
theorem dX0_termsBehind_27 : decode cX0_termsBehind 27 = .ok (.goto 4, 3) := by decide +kernel
theorem dX0_termsBehind_30 : decode cX0_termsBehind 30 = .ok (.iconst 0, 1) := by decide +kernel
theorem dX0_termsBehind_31 : decode cX0_termsBehind 31 = .ok (.ireturn, 1) := by decide +kernel
theorem dX0_bindAll_0 : decode cX0_bindAll 0 = .ok (.iconst 0, 1) := by decide +kernel
theorem dX0_bindAll_1 : decode cX0_bindAll 1 = .ok (.istore_n 1, 1) := by decide +kernel
theorem dX0_bindAll_2 : decode cX0_bindAll 2 = .ok (.iconst 0, 1) := by decide +kernel
theorem dX0_bindAll_3 : decode cX0_bindAll 3 = .ok (.istore_n 2, 1) := by decide +kernel
theorem dX0_bindAll_4 : decode cX0_bindAll 4 = .ok (.iload_n 2, 1) := by decide +kernel
theorem dX0_bindAll_5 : decode cX0_bindAll 5 = .ok (.aload_n 0, 1) := by decide +kernel
theorem dX0_bindAll_6 : decode cX0_bindAll 6 = .ok (.getfield 49, 3) := by decide +kernel
theorem dX0_bindAll_9 : decode cX0_bindAll 9 = .ok (.if_icmp .ge 135, 3) := by decide +kernel
theorem dX0_bindAll_12 : decode cX0_bindAll 12 = .ok (.aload_n 0, 1) := by decide +kernel
theorem dX0_bindAll_13 : decode cX0_bindAll 13 = .ok (.getfield 29, 3) := by decide +kernel
theorem dX0_bindAll_16 : decode cX0_bindAll 16 = .ok (.iload_n 2, 1) := by decide +kernel
theorem dX0_bindAll_17 : decode cX0_bindAll 17 = .ok (.iconst 0, 1) := by decide +kernel
theorem dX0_bindAll_18 : decode cX0_bindAll 18 = .ok (.bastore, 1) := by decide +kernel
theorem dX0_bindAll_19 : decode cX0_bindAll 19 = .ok (.aload_n 0, 1) := by decide +kernel
theorem dX0_bindAll_20 : decode cX0_bindAll 20 = .ok (.getfield 26, 3) := by decide +kernel
theorem dX0_bindAll_23 : decode cX0_bindAll 23 = .ok (.iload_n 2, 1) := by decide +kernel
theorem dX0_bindAll_24 : decode cX0_bindAll 24 = .ok (.iconst (-1), 1) := by decide +kernel
theorem dX0_bindAll_25 : decode cX0_bindAll 25 = .ok (.bastore, 1) := by decide +kernel
theorem dX0_bindAll_26 : decode cX0_bindAll 26 = .ok (.iconst 0, 1) := by decide +kernel
theorem dX0_bindAll_27 : decode cX0_bindAll 27 = .ok (.istore_n 3, 1) := by decide +kernel
theorem dX0_bindAll_28 : decode cX0_bindAll 28 = .ok (.iload_n 3, 1) := by decide +kernel
theorem dX0_bindAll_29 : decode cX0_bindAll 29 = .ok (.iload_n 2, 1) := by decide +kernel
theorem dX0_bindAll_30 : decode cX0_bindAll 30 = .ok (.if_icmp .ge 43, 3) := by decide +kernel
theorem dX0_bindAll_33 : decode cX0_bindAll 33 = .ok (.aload_n 0, 1) := by decide +kernel
theorem dX0_bindAll_34 : decode cX0_bindAll 34 = .ok (.aload_n 0, 1) := by decide +kernel
theorem dX0_bindAll_35 : decode cX0_bindAll 35 = .ok (.getfield 16, 3) := by decide +kernel
theorem dX0_bindAll_38 : decode cX0_bindAll 38 = .ok (.iload_n 3, 1) := by decide +kernel
theorem dX0_bindAll_39 : decode cX0_bindAll 39 = .ok (.baload, 1) := by decide +kernel
theorem dX0_bindAll_40 : decode cX0_bindAll 40 = .ok (.invokevirtual 80, 3) := by decide +kernel
theorem dX0_bindAll_43 : decode cX0_bindAll 43 = .ok (.ifCond .eq 24, 3) := by decide +kernel
theorem dX0_bindAll_46 : decode cX0_bindAll 46 = .ok (.aload_n 0, 1) := by decide +kernel
theorem dX0_bindAll_47 : decode cX0_bindAll 47 = .ok (.getfield 20, 3) := by decide +kernel
theorem dX0_bindAll_50 : decode cX0_bindAll 50 = .ok (.iload_n 3, 1) := by decide +kernel
theorem dX0_bindAll_51 : decode cX0_bindAll 51 = .ok (.baload, 1) := by decide +kernel
theorem dX0_bindAll_52 : decode cX0_bindAll 52 = .ok (.iload_n 2, 1) := by decide +kernel
theorem dX0_bindAll_53 : decode cX0_bindAll 53 = .ok (.if_icmp .le 14, 3) := by decide +kernel
theorem dX0_bindAll_56 : decode cX0_bindAll 56 = .ok (.aload_n 0, 1) := by decide +kernel
theorem dX0_bindAll_57 : decode cX0_bindAll 57 = .ok (.getfield 29, 3) := by decide +kernel
theorem dX0_bindAll_60 : decode cX0_bindAll 60 = .ok (.iload_n 2, 1) := by decide +kernel
theorem dX0_bindAll_61 : decode cX0_bindAll 61 = .ok (.dup2, 1) := by decide +kernel
theorem dX0_bindAll_62 : decode cX0_bindAll 62 = .ok (.baload, 1) := by decide +kernel
theorem dX0_bindAll_63 : decode cX0_bindAll 63 = .ok (.iconst 1, 1) := by decide +kernel
theorem dX0_bindAll_64 : decode cX0_bindAll 64 = .ok (.iadd, 1) := by decide +kernel
theorem dX0_bindAll_65 : decode cX0_bindAll 65 = .ok (.i2b, 1) := by decide +kernel
theorem dX0_bindAll_66 : decode cX0_bindAll 66 = .ok (.bastore, 1) := by decide +kernel
theorem dX0_bindAll_67 : decode cX0_bindAll 67 = .ok (.iinc 3 1, 3) := by decide +kernel
theorem dX0_bindAll_70 : decode cX0_bindAll 70 = .ok (.goto (-42), 3) := by decide +kernel
theorem dX0_bindAll_73 : decode cX0_bindAll 73 = .ok (.aload_n 0, 1) := by decide +kernel
theorem dX0_bindAll_74 : decode cX0_bindAll 74 = .ok (.getfield 16, 3) := by decide +kernel
theorem dX0_bindAll_77 : decode cX0_bindAll 77 = .ok (.iload_n 2, 1) := by decide +kernel
theorem dX0_bindAll_78 : decode cX0_bindAll 78 = .ok (.baload, 1) := by decide +kernel
theorem dX0_bindAll_79 : decode cX0_bindAll 79 = .ok (.istore_n 3, 1) := by decide +kernel
theorem dX0_bindAll_80 : decode cX0_bindAll 80 = .ok (.aload_n 0, 1) := by decide +kernel
theorem dX0_bindAll_81 : decode cX0_bindAll 81 = .ok (.iload_n 3, 1) := by decide +kernel
theorem dX0_bindAll_82 : decode cX0_bindAll 82 = .ok (.invokevirtual 80, 3) := by decide +kernel
theorem dX0_bindAll_85 : decode cX0_bindAll 85 = .ok (.ifCond .eq 33, 3) := by decide +kernel
theorem dX0_bindAll_88 : decode cX0_bindAll 88 = .ok (.iinc 1 1, 3) := by decide +kernel
theorem dX0_bindAll_91 : decode cX0_bindAll 91 = .ok (.aload_n 0, 1) := by decide +kernel
theorem dX0_bindAll_92 : decode cX0_bindAll 92 = .ok (.getfield 29, 3) := by decide +kernel
theorem dX0_bindAll_95 : decode cX0_bindAll 95 = .ok (.iload_n 2, 1) := by decide +kernel
theorem dX0_bindAll_96 : decode cX0_bindAll 96 = .ok (.baload, 1) := by decide +kernel
theorem dX0_bindAll_97 : decode cX0_bindAll 97 = .ok (.iconst 1, 1) := by decide +kernel
theorem dX0_bindAll_98 : decode cX0_bindAll 98 = .ok (.iadd, 1) := by decide +kernel
theorem dX0_bindAll_99 : decode cX0_bindAll 99 = .ok (.aload_n 0, 1) := by decide +kernel
theorem dX0_bindAll_100 : decode cX0_bindAll 100 = .ok (.getfield 69, 3) := by decide +kernel
theorem dX0_bindAll_103 : decode cX0_bindAll 103 = .ok (.if_icmp .le 15, 3) := by decide +kernel
theorem dX0_bindAll_106 : decode cX0_bindAll 106 = .ok (.aload_n 0, 1) := by decide +kernel
theorem dX0_bindAll_107 : decode cX0_bindAll 107 = .ok (.aload_n 0, 1) := by decide +kernel
theorem dX0_bindAll_108 : decode cX0_bindAll 108 = .ok (.getfield 29, 3) := by decide +kernel
theorem dX0_bindAll_111 : decode cX0_bindAll 111 = .ok (.iload_n 2, 1) := by decide +kernel
theorem dX0_bindAll_112 : decode cX0_bindAll 112 = .ok (.baload, 1) := by decide +kernel
theorem dX0_bindAll_113 : decode cX0_bindAll 113 = .ok (.iconst 1, 1) := by decide +kernel
theorem dX0_bindAll_114 : decode cX0_bindAll 114 = .ok (.iadd, 1) := by decide +kernel
theorem dX0_bindAll_115 : decode cX0_bindAll 115 = .ok (.putfield 69, 3) := by decide +kernel
theorem dX0_bindAll_118 : decode cX0_bindAll 118 = .ok (.iload_n 3, 1) := by decide +kernel
theorem dX0_bindAll_119 : decode cX0_bindAll 119 = .ok (.bipush 16, 2) := by decide +kernel
theorem dX0_bindAll_121 : decode cX0_bindAll 121 = .ok (.if_icmp .lt 17, 3) := by decide +kernel
theorem dX0_bindAll_124 : decode cX0_bindAll 124 = .ok (.aload_n 0, 1) := by decide +kernel
theorem dX0_bindAll_125 : decode cX0_bindAll 125 = .ok (.iload_n 2, 1) := by decide +kernel
theorem dX0_bindAll_126 : decode cX0_bindAll 126 = .ok (.iload_n 3, 1) := by decide +kernel
theorem dX0_bindAll_127 : decode cX0_bindAll 127 = .ok (.bipush 16, 2) := by decide +kernel
theorem dX0_bindAll_129 : decode cX0_bindAll 129 = .ok (.isub, 1) := by decide +kernel
theorem dX0_bindAll_130 : decode cX0_bindAll 130 = .ok (.invokevirtual 83, 3) := by decide +kernel
theorem dX0_bindAll_133 : decode cX0_bindAll 133 = .ok (.ifCond .ne 5, 3) := by decide +kernel
theorem dX0_bindAll_136 : decode cX0_bindAll 136 = .ok (.iconst 0, 1) := by decide +kernel
theorem dX0_bindAll_137 : decode cX0_bindAll 137 = .ok (.ireturn, 1) := by decide +kernel
theorem dX0_bindAll_138 : decode cX0_bindAll 138 = .ok (.iinc 2 1, 3) := by decide +kernel
theorem dX0_bindAll_141 : decode cX0_bindAll 141 = .ok (.goto (-137), 3) := by decide +kernel
theorem dX0_bindAll_144 : decode cX0_bindAll 144 = .ok (.iload_n 1, 1) := by decide +kernel
theorem dX0_bindAll_145 : decode cX0_bindAll 145 = .ok (.iconst 4, 1) := by decide +kernel
theorem dX0_bindAll_146 : decode cX0_bindAll 146 = .ok (.if_icmp .gt 7, 3) := by decide +kernel
theorem dX0_bindAll_149 : decode cX0_bindAll 149 = .ok (.iconst 1, 1) := by decide +kernel
theorem dX0_bindAll_150 : decode cX0_bindAll 150 = .ok (.goto 4, 3) := by decide +kernel
theorem dX0_bindAll_153 : decode cX0_bindAll 153 = .ok (.iconst 0, 1) := by decide +kernel
theorem dX0_bindAll_154 : decode cX0_bindAll 154 = .ok (.ireturn, 1) := by decide +kernel
theorem dX0_binds_0 : decode cX0_binds 0 = .ok (.iload_n 1, 1) := by decide +kernel
theorem dX0_binds_1 : decode cX0_binds 1 = .ok (.bipush 10, 2) := by decide +kernel
theorem dX0_binds_3 : decode cX0_binds 3 = .ok (.if_icmp .lt 13, 3) := by decide +kernel
theorem dX0_binds_6 : decode cX0_binds 6 = .ok (.iload_n 1, 1) := by decide +kernel
theorem dX0_binds_7 : decode cX0_binds 7 = .ok (.bipush 16, 2) := by decide +kernel
theorem dX0_binds_9 : decode cX0_binds 9 = .ok (.if_icmp .ge 7, 3) := by decide +kernel
theorem dX0_binds_12 : decode cX0_binds 12 = .ok (.iconst 1, 1) := by decide +kernel
theorem dX0_binds_13 : decode cX0_binds 13 = .ok (.goto 4, 3) := by decide +kernel
theorem dX0_binds_16 : decode cX0_binds 16 = .ok (.iconst 0, 1) := by decide +kernel
theorem dX0_binds_17 : decode cX0_binds 17 = .ok (.ireturn, 1) := by decide +kernel
theorem dX0_findBinder_0 : decode cX0_findBinder 0 = .ok (.iconst 0, 1) := by decide +kernel
theorem dX0_findBinder_1 : decode cX0_findBinder 1 = .ok (.istore_n 3, 1) := by decide +kernel
theorem dX0_findBinder_2 : decode cX0_findBinder 2 = .ok (.iload_n 3, 1) := by decide +kernel
theorem dX0_findBinder_3 : decode cX0_findBinder 3 = .ok (.iload_n 1, 1) := by decide +kernel
theorem dX0_findBinder_4 : decode cX0_findBinder 4 = .ok (.if_icmp .ge 65, 3) := by decide +kernel
theorem dX0_findBinder_7 : decode cX0_findBinder 7 = .ok (.aload_n 0, 1) := by decide +kernel
theorem dX0_findBinder_8 : decode cX0_findBinder 8 = .ok (.getfield 16, 3) := by decide +kernel
theorem dX0_findBinder_11 : decode cX0_findBinder 11 = .ok (.iload_n 3, 1) := by decide +kernel
theorem dX0_findBinder_12 : decode cX0_findBinder 12 = .ok (.baload, 1) := by decide +kernel
theorem dX0_findBinder_13 : decode cX0_findBinder 13 = .ok (.bipush 10, 2) := by decide +kernel
theorem dX0_findBinder_15 : decode cX0_findBinder 15 = .ok (.iload_n 2, 1) := by decide +kernel
theorem dX0_findBinder_16 : decode cX0_findBinder 16 = .ok (.iadd, 1) := by decide +kernel
theorem dX0_findBinder_17 : decode cX0_findBinder 17 = .ok (.if_icmp .eq 16, 3) := by decide +kernel
theorem dX0_findBinder_20 : decode cX0_findBinder 20 = .ok (.aload_n 0, 1) := by decide +kernel
theorem dX0_findBinder_21 : decode cX0_findBinder 21 = .ok (.getfield 16, 3) := by decide +kernel
theorem dX0_findBinder_24 : decode cX0_findBinder 24 = .ok (.iload_n 3, 1) := by decide +kernel
theorem dX0_findBinder_25 : decode cX0_findBinder 25 = .ok (.baload, 1) := by decide +kernel
theorem dX0_findBinder_26 : decode cX0_findBinder 26 = .ok (.bipush 13, 2) := by decide +kernel
theorem dX0_findBinder_28 : decode cX0_findBinder 28 = .ok (.iload_n 2, 1) := by decide +kernel
theorem dX0_findBinder_29 : decode cX0_findBinder 29 = .ok (.iadd, 1) := by decide +kernel
theorem dX0_findBinder_30 : decode cX0_findBinder 30 = .ok (.if_icmp .ne 7, 3) := by decide +kernel
theorem dX0_findBinder_33 : decode cX0_findBinder 33 = .ok (.iconst 1, 1) := by decide +kernel
theorem dX0_findBinder_34 : decode cX0_findBinder 34 = .ok (.goto 4, 3) := by decide +kernel
theorem dX0_findBinder_37 : decode cX0_findBinder 37 = .ok (.iconst 0, 1) := by decide +kernel
theorem dX0_findBinder_38 : decode cX0_findBinder 38 = .ok (.istore 4, 2) := by decide +kernel
theorem dX0_findBinder_40 : decode cX0_findBinder 40 = .ok (.iload 4, 2) := by decide +kernel
theorem dX0_findBinder_42 : decode cX0_findBinder 42 = .ok (.ifCond .eq 21, 3) := by decide +kernel
theorem dX0_findBinder_45 : decode cX0_findBinder 45 = .ok (.aload_n 0, 1) := by decide +kernel
theorem dX0_findBinder_46 : decode cX0_findBinder 46 = .ok (.getfield 20, 3) := by decide +kernel
theorem dX0_findBinder_49 : decode cX0_findBinder 49 = .ok (.iload_n 3, 1) := by decide +kernel
theorem dX0_findBinder_50 : decode cX0_findBinder 50 = .ok (.baload, 1) := by decide +kernel
theorem dX0_findBinder_51 : decode cX0_findBinder 51 = .ok (.iload_n 1, 1) := by decide +kernel
theorem dX0_findBinder_52 : decode cX0_findBinder 52 = .ok (.if_icmp .le 11, 3) := by decide +kernel
theorem dX0_findBinder_55 : decode cX0_findBinder 55 = .ok (.aload_n 0, 1) := by decide +kernel
theorem dX0_findBinder_56 : decode cX0_findBinder 56 = .ok (.getfield 26, 3) := by decide +kernel
theorem dX0_findBinder_59 : decode cX0_findBinder 59 = .ok (.iload_n 1, 1) := by decide +kernel
theorem dX0_findBinder_60 : decode cX0_findBinder 60 = .ok (.iload_n 3, 1) := by decide +kernel
theorem dX0_findBinder_61 : decode cX0_findBinder 61 = .ok (.i2b, 1) := by decide +kernel
theorem dX0_findBinder_62 : decode cX0_findBinder 62 = .ok (.bastore, 1) := by decide +kernel
theorem dX0_findBinder_63 : decode cX0_findBinder 63 = .ok (.iinc 3 1, 3) := by decide +kernel
theorem dX0_findBinder_66 : decode cX0_findBinder 66 = .ok (.goto (-64), 3) := by decide +kernel
theorem dX0_findBinder_69 : decode cX0_findBinder 69 = .ok (.aload_n 0, 1) := by decide +kernel
theorem dX0_findBinder_70 : decode cX0_findBinder 70 = .ok (.getfield 26, 3) := by decide +kernel
theorem dX0_findBinder_73 : decode cX0_findBinder 73 = .ok (.iload_n 1, 1) := by decide +kernel
theorem dX0_findBinder_74 : decode cX0_findBinder 74 = .ok (.baload, 1) := by decide +kernel
theorem dX0_findBinder_75 : decode cX0_findBinder 75 = .ok (.ifCond .lt 7, 3) := by decide +kernel
theorem dX0_findBinder_78 : decode cX0_findBinder 78 = .ok (.iconst 1, 1) := by decide +kernel
theorem dX0_findBinder_79 : decode cX0_findBinder 79 = .ok (.goto 4, 3) := by decide +kernel
theorem dX0_findBinder_82 : decode cX0_findBinder 82 = .ok (.iconst 0, 1) := by decide +kernel
theorem dX0_findBinder_83 : decode cX0_findBinder 83 = .ok (.ireturn, 1) := by decide +kernel
theorem dX0_holds_0 : decode cX0_holds 0 = .ok (.aload_n 0, 1) := by decide +kernel
theorem dX0_holds_1 : decode cX0_holds 1 = .ok (.iload_n 1, 1) := by decide +kernel
theorem dX0_holds_2 : decode cX0_holds 2 = .ok (.invokevirtual 41, 3) := by decide +kernel
theorem dX0_holds_5 : decode cX0_holds 5 = .ok (.ifCond .ne 5, 3) := by decide +kernel
theorem dX0_holds_8 : decode cX0_holds 8 = .ok (.iconst 0, 1) := by decide +kernel
theorem dX0_holds_9 : decode cX0_holds 9 = .ok (.ireturn, 1) := by decide +kernel
theorem dX0_holds_10 : decode cX0_holds 10 = .ok (.aload_n 0, 1) := by decide +kernel
theorem dX0_holds_11 : decode cX0_holds 11 = .ok (.invokevirtual 65, 3) := by decide +kernel
theorem dX0_holds_14 : decode cX0_holds 14 = .ok (.aload_n 0, 1) := by decide +kernel
theorem dX0_holds_15 : decode cX0_holds 15 = .ok (.getfield 62, 3) := by decide +kernel
theorem dX0_holds_18 : decode cX0_holds 18 = .ok (.ifCond .eq 21, 3) := by decide +kernel
theorem dX0_holds_21 : decode cX0_holds 21 = .ok (.aload_n 0, 1) := by decide +kernel
theorem dX0_holds_22 : decode cX0_holds 22 = .ok (.getfield 32, 3) := by decide +kernel
theorem dX0_holds_25 : decode cX0_holds 25 = .ok (.bipush 12, 2) := by decide +kernel
theorem dX0_holds_27 : decode cX0_holds 27 = .ok (.iload_n 1, 1) := by decide +kernel
theorem dX0_holds_28 : decode cX0_holds 28 = .ok (.imul, 1) := by decide +kernel
theorem dX0_holds_29 : decode cX0_holds 29 = .ok (.iaload, 1) := by decide +kernel
theorem dX0_holds_30 : decode cX0_holds 30 = .ok (.ldc 68, 2) := by decide +kernel
theorem dX0_holds_32 : decode cX0_holds 32 = .ok (.if_icmp .ge 7, 3) := by decide +kernel
theorem dX0_holds_35 : decode cX0_holds 35 = .ok (.iconst 1, 1) := by decide +kernel
theorem dX0_holds_36 : decode cX0_holds 36 = .ok (.goto 4, 3) := by decide +kernel
theorem dX0_holds_39 : decode cX0_holds 39 = .ok (.iconst 0, 1) := by decide +kernel
theorem dX0_holds_40 : decode cX0_holds 40 = .ok (.ireturn, 1) := by decide +kernel
theorem dX0_solve_0 : decode cX0_solve 0 = .ok (.aload_n 0, 1) := by decide +kernel
theorem dX0_solve_1 : decode cX0_solve 1 = .ok (.invokevirtual 59, 3) := by decide +kernel
theorem dX0_solve_4 : decode cX0_solve 4 = .ok (.aload_n 0, 1) := by decide +kernel
theorem dX0_solve_5 : decode cX0_solve 5 = .ok (.getfield 45, 3) := by decide +kernel
theorem dX0_solve_8 : decode cX0_solve 8 = .ok (.ifCond .ne 10, 3) := by decide +kernel
theorem dX0_solve_11 : decode cX0_solve 11 = .ok (.aload_n 0, 1) := by decide +kernel
theorem dX0_solve_12 : decode cX0_solve 12 = .ok (.getfield 62, 3) := by decide +kernel
theorem dX0_solve_15 : decode cX0_solve 15 = .ok (.ifCond .ne 4, 3) := by decide +kernel
theorem dX0_solve_18 : decode cX0_solve 18 = .ok (.return_, 1) := by decide +kernel
theorem dX0_solve_19 : decode cX0_solve 19 = .ok (.aload_n 0, 1) := by decide +kernel
theorem dX0_solve_20 : decode cX0_solve 20 = .ok (.iconst 1, 1) := by decide +kernel
theorem dX0_solve_21 : decode cX0_solve 21 = .ok (.putfield 45, 3) := by decide +kernel
theorem dX0_solve_24 : decode cX0_solve 24 = .ok (.aload_n 0, 1) := by decide +kernel
theorem dX0_solve_25 : decode cX0_solve 25 = .ok (.invokevirtual 103, 3) := by decide +kernel
theorem dX0_solve_28 : decode cX0_solve 28 = .ok (.iconst 0, 1) := by decide +kernel
theorem dX0_solve_29 : decode cX0_solve 29 = .ok (.istore_n 1, 1) := by decide +kernel
theorem dX0_solve_30 : decode cX0_solve 30 = .ok (.iload_n 1, 1) := by decide +kernel
theorem dX0_solve_31 : decode cX0_solve 31 = .ok (.bipush 72, 2) := by decide +kernel
theorem dX0_solve_33 : decode cX0_solve 33 = .ok (.if_icmp .ge 16, 3) := by decide +kernel
theorem dX0_solve_36 : decode cX0_solve 36 = .ok (.aload_n 0, 1) := by decide +kernel
theorem dX0_solve_37 : decode cX0_solve 37 = .ok (.getfield 32, 3) := by decide +kernel
theorem dX0_solve_40 : decode cX0_solve 40 = .ok (.iload_n 1, 1) := by decide +kernel
theorem dX0_solve_41 : decode cX0_solve 41 = .ok (.iconst 0, 1) := by decide +kernel
theorem dX0_solve_42 : decode cX0_solve 42 = .ok (.iastore, 1) := by decide +kernel
theorem dX0_solve_43 : decode cX0_solve 43 = .ok (.iinc 1 1, 3) := by decide +kernel
theorem dX0_solve_46 : decode cX0_solve 46 = .ok (.goto (-16), 3) := by decide +kernel
theorem dX0_solve_49 : decode cX0_solve 49 = .ok (.iconst 1, 1) := by decide +kernel
theorem dX0_solve_50 : decode cX0_solve 50 = .ok (.istore_n 1, 1) := by decide +kernel
theorem dX0_solve_51 : decode cX0_solve 51 = .ok (.iload_n 1, 1) := by decide +kernel
theorem dX0_solve_52 : decode cX0_solve 52 = .ok (.ifCond .eq 81, 3) := by decide +kernel
theorem dX0_solve_55 : decode cX0_solve 55 = .ok (.iconst 0, 1) := by decide +kernel
theorem dX0_solve_56 : decode cX0_solve 56 = .ok (.istore_n 1, 1) := by decide +kernel
theorem dX0_solve_57 : decode cX0_solve 57 = .ok (.aload_n 0, 1) := by decide +kernel
theorem dX0_solve_58 : decode cX0_solve 58 = .ok (.getfield 49, 3) := by decide +kernel
theorem dX0_solve_61 : decode cX0_solve 61 = .ok (.iconst 1, 1) := by decide +kernel
theorem dX0_solve_62 : decode cX0_solve 62 = .ok (.isub, 1) := by decide +kernel
theorem dX0_solve_63 : decode cX0_solve 63 = .ok (.istore_n 2, 1) := by decide +kernel
theorem dX0_solve_64 : decode cX0_solve 64 = .ok (.iload_n 2, 1) := by decide +kernel
theorem dX0_solve_65 : decode cX0_solve 65 = .ok (.ifCond .lt 65, 3) := by decide +kernel
theorem dX0_solve_68 : decode cX0_solve 68 = .ok (.iconst 0, 1) := by decide +kernel
theorem dX0_solve_69 : decode cX0_solve 69 = .ok (.istore_n 3, 1) := by decide +kernel
theorem dX0_solve_70 : decode cX0_solve 70 = .ok (.iload_n 3, 1) := by decide +kernel
theorem dX0_solve_71 : decode cX0_solve 71 = .ok (.bipush 6, 2) := by decide +kernel
theorem dX0_solve_73 : decode cX0_solve 73 = .ok (.if_icmp .ge 51, 3) := by decide +kernel
theorem dX0_solve_76 : decode cX0_solve 76 = .ok (.aload_n 0, 1) := by decide +kernel
theorem dX0_solve_77 : decode cX0_solve 77 = .ok (.iload_n 3, 1) := by decide +kernel
theorem dX0_solve_78 : decode cX0_solve 78 = .ok (.iload_n 2, 1) := by decide +kernel
theorem dX0_solve_79 : decode cX0_solve 79 = .ok (.invokevirtual 106, 3) := by decide +kernel
theorem dX0_solve_82 : decode cX0_solve 82 = .ok (.istore 4, 2) := by decide +kernel
end
section
set_option maxRecDepth 100000
theorem dX0_solve_84 : decode cX0_solve 84 = .ok (.iload 4, 2) := by decide +kernel
theorem dX0_solve_86 : decode cX0_solve 86 = .ok (.aload_n 0, 1) := by decide +kernel
theorem dX0_solve_87 : decode cX0_solve 87 = .ok (.getfield 32, 3) := by decide +kernel
theorem dX0_solve_90 : decode cX0_solve 90 = .ok (.bipush 12, 2) := by decide +kernel
theorem dX0_solve_92 : decode cX0_solve 92 = .ok (.iload_n 3, 1) := by decide +kernel
theorem dX0_solve_93 : decode cX0_solve 93 = .ok (.imul, 1) := by decide +kernel
theorem dX0_solve_94 : decode cX0_solve 94 = .ok (.iload_n 2, 1) := by decide +kernel
theorem dX0_solve_95 : decode cX0_solve 95 = .ok (.iadd, 1) := by decide +kernel
theorem dX0_solve_96 : decode cX0_solve 96 = .ok (.iaload, 1) := by decide +kernel
theorem dX0_solve_97 : decode cX0_solve 97 = .ok (.if_icmp .gt 6, 3) := by decide +kernel
theorem dX0_solve_100 : decode cX0_solve 100 = .ok (.goto 18, 3) := by decide +kernel
theorem dX0_solve_103 : decode cX0_solve 103 = .ok (.aload_n 0, 1) := by decide +kernel
theorem dX0_solve_104 : decode cX0_solve 104 = .ok (.getfield 32, 3) := by decide +kernel
theorem dX0_solve_107 : decode cX0_solve 107 = .ok (.bipush 12, 2) := by decide +kernel
theorem dX0_solve_109 : decode cX0_solve 109 = .ok (.iload_n 3, 1) := by decide +kernel
theorem dX0_solve_110 : decode cX0_solve 110 = .ok (.imul, 1) := by decide +kernel
theorem dX0_solve_111 : decode cX0_solve 111 = .ok (.iload_n 2, 1) := by decide +kernel
theorem dX0_solve_112 : decode cX0_solve 112 = .ok (.iadd, 1) := by decide +kernel
theorem dX0_solve_113 : decode cX0_solve 113 = .ok (.iload 4, 2) := by decide +kernel
theorem dX0_solve_115 : decode cX0_solve 115 = .ok (.iastore, 1) := by decide +kernel
theorem dX0_solve_116 : decode cX0_solve 116 = .ok (.iconst 1, 1) := by decide +kernel
theorem dX0_solve_117 : decode cX0_solve 117 = .ok (.istore_n 1, 1) := by decide +kernel
theorem dX0_solve_118 : decode cX0_solve 118 = .ok (.iinc 3 1, 3) := by decide +kernel
theorem dX0_solve_121 : decode cX0_solve 121 = .ok (.goto (-51), 3) := by decide +kernel
theorem dX0_solve_124 : decode cX0_solve 124 = .ok (.iinc 2 (-1), 3) := by decide +kernel
theorem dX0_solve_127 : decode cX0_solve 127 = .ok (.goto (-63), 3) := by decide +kernel
theorem dX0_solve_130 : decode cX0_solve 130 = .ok (.goto (-79), 3) := by decide +kernel
theorem dX0_solve_133 : decode cX0_solve 133 = .ok (.return_, 1) := by decide +kernel
theorem dX0_countLeast_0 : decode cX0_countLeast 0 = .ok (.iconst 0, 1) := by decide +kernel
theorem dX0_countLeast_1 : decode cX0_countLeast 1 = .ok (.istore_n 1, 1) := by decide +kernel
theorem dX0_countLeast_2 : decode cX0_countLeast 2 = .ok (.iload_n 1, 1) := by decide +kernel
theorem dX0_countLeast_3 : decode cX0_countLeast 3 = .ok (.iconst 4, 1) := by decide +kernel
theorem dX0_countLeast_4 : decode cX0_countLeast 4 = .ok (.if_icmp .ge 16, 3) := by decide +kernel
theorem dX0_countLeast_7 : decode cX0_countLeast 7 = .ok (.aload_n 0, 1) := by decide +kernel
theorem dX0_countLeast_8 : decode cX0_countLeast 8 = .ok (.getfield 35, 3) := by decide +kernel
theorem dX0_countLeast_11 : decode cX0_countLeast 11 = .ok (.iload_n 1, 1) := by decide +kernel
theorem dX0_countLeast_12 : decode cX0_countLeast 12 = .ok (.iconst 0, 1) := by decide +kernel
theorem dX0_countLeast_13 : decode cX0_countLeast 13 = .ok (.bastore, 1) := by decide +kernel
theorem dX0_countLeast_14 : decode cX0_countLeast 14 = .ok (.iinc 1 1, 3) := by decide +kernel
theorem dX0_countLeast_17 : decode cX0_countLeast 17 = .ok (.goto (-15), 3) := by decide +kernel
theorem dX0_countLeast_20 : decode cX0_countLeast 20 = .ok (.iconst 0, 1) := by decide +kernel
theorem dX0_countLeast_21 : decode cX0_countLeast 21 = .ok (.istore_n 1, 1) := by decide +kernel
theorem dX0_countLeast_22 : decode cX0_countLeast 22 = .ok (.iload_n 1, 1) := by decide +kernel
theorem dX0_countLeast_23 : decode cX0_countLeast 23 = .ok (.aload_n 0, 1) := by decide +kernel
theorem dX0_countLeast_24 : decode cX0_countLeast 24 = .ok (.getfield 49, 3) := by decide +kernel
theorem dX0_countLeast_27 : decode cX0_countLeast 27 = .ok (.if_icmp .ge 48, 3) := by decide +kernel
theorem dX0_countLeast_30 : decode cX0_countLeast 30 = .ok (.aload_n 0, 1) := by decide +kernel
theorem dX0_countLeast_31 : decode cX0_countLeast 31 = .ok (.getfield 16, 3) := by decide +kernel
theorem dX0_countLeast_34 : decode cX0_countLeast 34 = .ok (.iload_n 1, 1) := by decide +kernel
theorem dX0_countLeast_35 : decode cX0_countLeast 35 = .ok (.baload, 1) := by decide +kernel
theorem dX0_countLeast_36 : decode cX0_countLeast 36 = .ok (.bipush 10, 2) := by decide +kernel
theorem dX0_countLeast_38 : decode cX0_countLeast 38 = .ok (.if_icmp .lt 31, 3) := by decide +kernel
theorem dX0_countLeast_41 : decode cX0_countLeast 41 = .ok (.aload_n 0, 1) := by decide +kernel
theorem dX0_countLeast_42 : decode cX0_countLeast 42 = .ok (.getfield 16, 3) := by decide +kernel
theorem dX0_countLeast_45 : decode cX0_countLeast 45 = .ok (.iload_n 1, 1) := by decide +kernel
theorem dX0_countLeast_46 : decode cX0_countLeast 46 = .ok (.baload, 1) := by decide +kernel
theorem dX0_countLeast_47 : decode cX0_countLeast 47 = .ok (.bipush 13, 2) := by decide +kernel
theorem dX0_countLeast_49 : decode cX0_countLeast 49 = .ok (.if_icmp .ge 20, 3) := by decide +kernel
theorem dX0_countLeast_52 : decode cX0_countLeast 52 = .ok (.aload_n 0, 1) := by decide +kernel
theorem dX0_countLeast_53 : decode cX0_countLeast 53 = .ok (.getfield 35, 3) := by decide +kernel
theorem dX0_countLeast_56 : decode cX0_countLeast 56 = .ok (.aload_n 0, 1) := by decide +kernel
theorem dX0_countLeast_57 : decode cX0_countLeast 57 = .ok (.getfield 29, 3) := by decide +kernel
theorem dX0_countLeast_60 : decode cX0_countLeast 60 = .ok (.iload_n 1, 1) := by decide +kernel
theorem dX0_countLeast_61 : decode cX0_countLeast 61 = .ok (.baload, 1) := by decide +kernel
theorem dX0_countLeast_62 : decode cX0_countLeast 62 = .ok (.dup2, 1) := by decide +kernel
theorem dX0_countLeast_63 : decode cX0_countLeast 63 = .ok (.baload, 1) := by decide +kernel
theorem dX0_countLeast_64 : decode cX0_countLeast 64 = .ok (.bipush 6, 2) := by decide +kernel
theorem dX0_countLeast_66 : decode cX0_countLeast 66 = .ok (.iadd, 1) := by decide +kernel
theorem dX0_countLeast_67 : decode cX0_countLeast 67 = .ok (.i2b, 1) := by decide +kernel
theorem dX0_countLeast_68 : decode cX0_countLeast 68 = .ok (.bastore, 1) := by decide +kernel
theorem dX0_countLeast_69 : decode cX0_countLeast 69 = .ok (.iinc 1 1, 3) := by decide +kernel
theorem dX0_countLeast_72 : decode cX0_countLeast 72 = .ok (.goto (-50), 3) := by decide +kernel
theorem dX0_countLeast_75 : decode cX0_countLeast 75 = .ok (.return_, 1) := by decide +kernel
theorem dX0_demanded_0 : decode cX0_demanded 0 = .ok (.aload_n 0, 1) := by decide +kernel
theorem dX0_demanded_1 : decode cX0_demanded 1 = .ok (.getfield 16, 3) := by decide +kernel
theorem dX0_demanded_4 : decode cX0_demanded 4 = .ok (.iload_n 2, 1) := by decide +kernel
theorem dX0_demanded_5 : decode cX0_demanded 5 = .ok (.baload, 1) := by decide +kernel
theorem dX0_demanded_6 : decode cX0_demanded 6 = .ok (.istore_n 3, 1) := by decide +kernel
theorem dX0_demanded_7 : decode cX0_demanded 7 = .ok (.iload_n 3, 1) := by decide +kernel
theorem dX0_demanded_8 : decode cX0_demanded 8 = .ok (.iconst 3, 1) := by decide +kernel
theorem dX0_demanded_9 : decode cX0_demanded 9 = .ok (.if_icmp .ge 23, 3) := by decide +kernel
theorem dX0_demanded_12 : decode cX0_demanded 12 = .ok (.aload_n 0, 1) := by decide +kernel
theorem dX0_demanded_13 : decode cX0_demanded 13 = .ok (.getfield 13, 3) := by decide +kernel
theorem dX0_demanded_16 : decode cX0_demanded 16 = .ok (.iload_n 3, 1) := by decide +kernel
theorem dX0_demanded_17 : decode cX0_demanded 17 = .ok (.iaload, 1) := by decide +kernel
theorem dX0_demanded_18 : decode cX0_demanded 18 = .ok (.iload_n 1, 1) := by decide +kernel
theorem dX0_demanded_19 : decode cX0_demanded 19 = .ok (.ishr, 1) := by decide +kernel
theorem dX0_demanded_20 : decode cX0_demanded 20 = .ok (.iconst 1, 1) := by decide +kernel
theorem dX0_demanded_21 : decode cX0_demanded 21 = .ok (.iand, 1) := by decide +kernel
theorem dX0_demanded_22 : decode cX0_demanded 22 = .ok (.ifCond .eq 7, 3) := by decide +kernel
theorem dX0_demanded_25 : decode cX0_demanded 25 = .ok (.iconst 0, 1) := by decide +kernel
theorem dX0_demanded_26 : decode cX0_demanded 26 = .ok (.goto 5, 3) := by decide +kernel
theorem dX0_demanded_29 : decode cX0_demanded 29 = .ok (.ldc 68, 2) := by decide +kernel
theorem dX0_demanded_31 : decode cX0_demanded 31 = .ok (.ireturn, 1) := by decide +kernel
theorem dX0_demanded_32 : decode cX0_demanded 32 = .ok (.iload_n 3, 1) := by decide +kernel
theorem dX0_demanded_33 : decode cX0_demanded 33 = .ok (.bipush 6, 2) := by decide +kernel
theorem dX0_demanded_35 : decode cX0_demanded 35 = .ok (.if_icmp .ge 25, 3) := by decide +kernel
theorem dX0_demanded_38 : decode cX0_demanded 38 = .ok (.aload_n 0, 1) := by decide +kernel
theorem dX0_demanded_39 : decode cX0_demanded 39 = .ok (.getfield 13, 3) := by decide +kernel
theorem dX0_demanded_42 : decode cX0_demanded 42 = .ok (.iload_n 3, 1) := by decide +kernel
theorem dX0_demanded_43 : decode cX0_demanded 43 = .ok (.iconst 3, 1) := by decide +kernel
theorem dX0_demanded_44 : decode cX0_demanded 44 = .ok (.isub, 1) := by decide +kernel
theorem dX0_demanded_45 : decode cX0_demanded 45 = .ok (.iaload, 1) := by decide +kernel
theorem dX0_demanded_46 : decode cX0_demanded 46 = .ok (.iload_n 1, 1) := by decide +kernel
theorem dX0_demanded_47 : decode cX0_demanded 47 = .ok (.ishr, 1) := by decide +kernel
theorem dX0_demanded_48 : decode cX0_demanded 48 = .ok (.iconst 1, 1) := by decide +kernel
theorem dX0_demanded_49 : decode cX0_demanded 49 = .ok (.iand, 1) := by decide +kernel
theorem dX0_demanded_50 : decode cX0_demanded 50 = .ok (.ifCond .eq 8, 3) := by decide +kernel
theorem dX0_demanded_53 : decode cX0_demanded 53 = .ok (.ldc 68, 2) := by decide +kernel
theorem dX0_demanded_55 : decode cX0_demanded 55 = .ok (.goto 4, 3) := by decide +kernel
theorem dX0_demanded_58 : decode cX0_demanded 58 = .ok (.iconst 0, 1) := by decide +kernel
theorem dX0_demanded_59 : decode cX0_demanded 59 = .ok (.ireturn, 1) := by decide +kernel
theorem dX0_demanded_60 : decode cX0_demanded 60 = .ok (.iload_n 3, 1) := by decide +kernel
theorem dX0_demanded_61 : decode cX0_demanded 61 = .ok (.bipush 16, 2) := by decide +kernel
theorem dX0_demanded_63 : decode cX0_demanded 63 = .ok (.if_icmp .lt 20, 3) := by decide +kernel
theorem dX0_demanded_66 : decode cX0_demanded 66 = .ok (.aload_n 0, 1) := by decide +kernel
theorem dX0_demanded_67 : decode cX0_demanded 67 = .ok (.getfield 32, 3) := by decide +kernel
theorem dX0_demanded_70 : decode cX0_demanded 70 = .ok (.bipush 12, 2) := by decide +kernel
theorem dX0_demanded_72 : decode cX0_demanded 72 = .ok (.iload_n 1, 1) := by decide +kernel
theorem dX0_demanded_73 : decode cX0_demanded 73 = .ok (.imul, 1) := by decide +kernel
theorem dX0_demanded_74 : decode cX0_demanded 74 = .ok (.aload_n 0, 1) := by decide +kernel
theorem dX0_demanded_75 : decode cX0_demanded 75 = .ok (.getfield 26, 3) := by decide +kernel
theorem dX0_demanded_78 : decode cX0_demanded 78 = .ok (.iload_n 2, 1) := by decide +kernel
theorem dX0_demanded_79 : decode cX0_demanded 79 = .ok (.baload, 1) := by decide +kernel
theorem dX0_demanded_80 : decode cX0_demanded 80 = .ok (.iadd, 1) := by decide +kernel
theorem dX0_demanded_81 : decode cX0_demanded 81 = .ok (.iaload, 1) := by decide +kernel
theorem dX0_demanded_82 : decode cX0_demanded 82 = .ok (.ireturn, 1) := by decide +kernel
theorem dX0_demanded_83 : decode cX0_demanded 83 = .ok (.iload_n 3, 1) := by decide +kernel
theorem dX0_demanded_84 : decode cX0_demanded 84 = .ok (.bipush 6, 2) := by decide +kernel
theorem dX0_demanded_86 : decode cX0_demanded 86 = .ok (.if_icmp .eq 9, 3) := by decide +kernel
theorem dX0_demanded_89 : decode cX0_demanded 89 = .ok (.iload_n 3, 1) := by decide +kernel
theorem dX0_demanded_90 : decode cX0_demanded 90 = .ok (.bipush 7, 2) := by decide +kernel
theorem dX0_demanded_92 : decode cX0_demanded 92 = .ok (.if_icmp .ne 70, 3) := by decide +kernel
theorem dX0_demanded_95 : decode cX0_demanded 95 = .ok (.aload_n 0, 1) := by decide +kernel
theorem dX0_demanded_96 : decode cX0_demanded 96 = .ok (.getfield 32, 3) := by decide +kernel
theorem dX0_demanded_99 : decode cX0_demanded 99 = .ok (.bipush 12, 2) := by decide +kernel
theorem dX0_demanded_101 : decode cX0_demanded 101 = .ok (.iload_n 1, 1) := by decide +kernel
theorem dX0_demanded_102 : decode cX0_demanded 102 = .ok (.imul, 1) := by decide +kernel
theorem dX0_demanded_103 : decode cX0_demanded 103 = .ok (.iload_n 2, 1) := by decide +kernel
theorem dX0_demanded_104 : decode cX0_demanded 104 = .ok (.iadd, 1) := by decide +kernel
theorem dX0_demanded_105 : decode cX0_demanded 105 = .ok (.iconst 1, 1) := by decide +kernel
theorem dX0_demanded_106 : decode cX0_demanded 106 = .ok (.iadd, 1) := by decide +kernel
theorem dX0_demanded_107 : decode cX0_demanded 107 = .ok (.iaload, 1) := by decide +kernel
theorem dX0_demanded_108 : decode cX0_demanded 108 = .ok (.istore 4, 2) := by decide +kernel
theorem dX0_demanded_110 : decode cX0_demanded 110 = .ok (.aload_n 0, 1) := by decide +kernel
theorem dX0_demanded_111 : decode cX0_demanded 111 = .ok (.getfield 32, 3) := by decide +kernel
theorem dX0_demanded_114 : decode cX0_demanded 114 = .ok (.bipush 12, 2) := by decide +kernel
theorem dX0_demanded_116 : decode cX0_demanded 116 = .ok (.iload_n 1, 1) := by decide +kernel
theorem dX0_demanded_117 : decode cX0_demanded 117 = .ok (.imul, 1) := by decide +kernel
theorem dX0_demanded_118 : decode cX0_demanded 118 = .ok (.aload_n 0, 1) := by decide +kernel
theorem dX0_demanded_119 : decode cX0_demanded 119 = .ok (.getfield 23, 3) := by decide +kernel
theorem dX0_demanded_122 : decode cX0_demanded 122 = .ok (.iload_n 2, 1) := by decide +kernel
theorem dX0_demanded_123 : decode cX0_demanded 123 = .ok (.baload, 1) := by decide +kernel
theorem dX0_demanded_124 : decode cX0_demanded 124 = .ok (.iadd, 1) := by decide +kernel
theorem dX0_demanded_125 : decode cX0_demanded 125 = .ok (.iaload, 1) := by decide +kernel
theorem dX0_demanded_126 : decode cX0_demanded 126 = .ok (.istore 5, 2) := by decide +kernel
theorem dX0_demanded_128 : decode cX0_demanded 128 = .ok (.iload 4, 2) := by decide +kernel
theorem dX0_demanded_130 : decode cX0_demanded 130 = .ok (.iload 5, 2) := by decide +kernel
theorem dX0_demanded_132 : decode cX0_demanded 132 = .ok (.if_icmp .ge 7, 3) := by decide +kernel
theorem dX0_demanded_135 : decode cX0_demanded 135 = .ok (.iconst 1, 1) := by decide +kernel
theorem dX0_demanded_136 : decode cX0_demanded 136 = .ok (.goto 4, 3) := by decide +kernel
theorem dX0_demanded_139 : decode cX0_demanded 139 = .ok (.iconst 0, 1) := by decide +kernel
theorem dX0_demanded_140 : decode cX0_demanded 140 = .ok (.iload_n 3, 1) := by decide +kernel
theorem dX0_demanded_141 : decode cX0_demanded 141 = .ok (.bipush 7, 2) := by decide +kernel
theorem dX0_demanded_143 : decode cX0_demanded 143 = .ok (.if_icmp .ne 7, 3) := by decide +kernel
theorem dX0_demanded_146 : decode cX0_demanded 146 = .ok (.iconst 1, 1) := by decide +kernel
theorem dX0_demanded_147 : decode cX0_demanded 147 = .ok (.goto 4, 3) := by decide +kernel
theorem dX0_demanded_150 : decode cX0_demanded 150 = .ok (.iconst 0, 1) := by decide +kernel
theorem dX0_demanded_151 : decode cX0_demanded 151 = .ok (.if_icmp .ne 8, 3) := by decide +kernel
theorem dX0_demanded_154 : decode cX0_demanded 154 = .ok (.iload 4, 2) := by decide +kernel
theorem dX0_demanded_156 : decode cX0_demanded 156 = .ok (.goto 5, 3) := by decide +kernel
theorem dX0_demanded_159 : decode cX0_demanded 159 = .ok (.iload 5, 2) := by decide +kernel
theorem dX0_demanded_161 : decode cX0_demanded 161 = .ok (.ireturn, 1) := by decide +kernel
theorem dX0_demanded_162 : decode cX0_demanded 162 = .ok (.aload_n 0, 1) := by decide +kernel
theorem dX0_demanded_163 : decode cX0_demanded 163 = .ok (.iload_n 3, 1) := by decide +kernel
theorem dX0_demanded_164 : decode cX0_demanded 164 = .ok (.invokevirtual 80, 3) := by decide +kernel
theorem dX0_demanded_167 : decode cX0_demanded 167 = .ok (.ifCond .eq 22, 3) := by decide +kernel
theorem dX0_demanded_170 : decode cX0_demanded 170 = .ok (.aload_n 0, 1) := by decide +kernel
theorem dX0_demanded_171 : decode cX0_demanded 171 = .ok (.iload_n 2, 1) := by decide +kernel
theorem dX0_demanded_172 : decode cX0_demanded 172 = .ok (.aload_n 0, 1) := by decide +kernel
theorem dX0_demanded_173 : decode cX0_demanded 173 = .ok (.getfield 32, 3) := by decide +kernel
theorem dX0_demanded_176 : decode cX0_demanded 176 = .ok (.bipush 12, 2) := by decide +kernel
theorem dX0_demanded_178 : decode cX0_demanded 178 = .ok (.iload_n 1, 1) := by decide +kernel
theorem dX0_demanded_179 : decode cX0_demanded 179 = .ok (.imul, 1) := by decide +kernel
theorem dX0_demanded_180 : decode cX0_demanded 180 = .ok (.iload_n 2, 1) := by decide +kernel
theorem dX0_demanded_181 : decode cX0_demanded 181 = .ok (.iadd, 1) := by decide +kernel
theorem dX0_demanded_182 : decode cX0_demanded 182 = .ok (.iconst 1, 1) := by decide +kernel
theorem dX0_demanded_183 : decode cX0_demanded 183 = .ok (.iadd, 1) := by decide +kernel
theorem dX0_demanded_184 : decode cX0_demanded 184 = .ok (.iaload, 1) := by decide +kernel
theorem dX0_demanded_185 : decode cX0_demanded 185 = .ok (.invokevirtual 95, 3) := by decide +kernel
theorem dX0_demanded_188 : decode cX0_demanded 188 = .ok (.ireturn, 1) := by decide +kernel
theorem dX0_demanded_189 : decode cX0_demanded 189 = .ok (.aload_n 0, 1) := by decide +kernel
theorem dX0_demanded_190 : decode cX0_demanded 190 = .ok (.iload_n 1, 1) := by decide +kernel
theorem dX0_demanded_191 : decode cX0_demanded 191 = .ok (.iload_n 2, 1) := by decide +kernel
theorem dX0_demanded_192 : decode cX0_demanded 192 = .ok (.iload_n 3, 1) := by decide +kernel
theorem dX0_demanded_193 : decode cX0_demanded 193 = .ok (.bipush 8, 2) := by decide +kernel
theorem dX0_demanded_195 : decode cX0_demanded 195 = .ok (.if_icmp .ne 7, 3) := by decide +kernel
theorem dX0_demanded_198 : decode cX0_demanded 198 = .ok (.iconst 1, 1) := by decide +kernel
theorem dX0_demanded_199 : decode cX0_demanded 199 = .ok (.goto 4, 3) := by decide +kernel
theorem dX0_demanded_202 : decode cX0_demanded 202 = .ok (.iconst 0, 1) := by decide +kernel
theorem dX0_demanded_203 : decode cX0_demanded 203 = .ok (.invokevirtual 99, 3) := by decide +kernel
theorem dX0_demanded_206 : decode cX0_demanded 206 = .ok (.ireturn, 1) := by decide +kernel
theorem dX0_before_0 : decode cX0_before 0 = .ok (.aload_n 0, 1) := by decide +kernel
theorem dX0_before_1 : decode cX0_before 1 = .ok (.getfield 16, 3) := by decide +kernel
theorem dX0_before_4 : decode cX0_before 4 = .ok (.iload_n 1, 1) := by decide +kernel
theorem dX0_before_5 : decode cX0_before 5 = .ok (.baload, 1) := by decide +kernel
theorem dX0_before_6 : decode cX0_before 6 = .ok (.istore_n 3, 1) := by decide +kernel
theorem dX0_before_7 : decode cX0_before 7 = .ok (.iload_n 2, 1) := by decide +kernel
theorem dX0_before_8 : decode cX0_before 8 = .ok (.ldc 68, 2) := by decide +kernel
theorem dX0_before_10 : decode cX0_before 10 = .ok (.if_icmp .ge 11, 3) := by decide +kernel
theorem dX0_before_13 : decode cX0_before 13 = .ok (.aload_n 0, 1) := by decide +kernel
theorem dX0_before_14 : decode cX0_before 14 = .ok (.iload_n 3, 1) := by decide +kernel
theorem dX0_before_15 : decode cX0_before 15 = .ok (.invokevirtual 80, 3) := by decide +kernel
theorem dX0_before_18 : decode cX0_before 18 = .ok (.ifCond .ne 5, 3) := by decide +kernel
theorem dX0_before_21 : decode cX0_before 21 = .ok (.iload_n 2, 1) := by decide +kernel
theorem dX0_before_22 : decode cX0_before 22 = .ok (.ireturn, 1) := by decide +kernel
theorem dX0_before_23 : decode cX0_before 23 = .ok (.aload_n 0, 1) := by decide +kernel
theorem dX0_before_24 : decode cX0_before 24 = .ok (.getfield 29, 3) := by decide +kernel
theorem dX0_before_27 : decode cX0_before 27 = .ok (.iload_n 1, 1) := by decide +kernel
theorem dX0_before_28 : decode cX0_before 28 = .ok (.baload, 1) := by decide +kernel
theorem dX0_before_29 : decode cX0_before 29 = .ok (.istore 4, 2) := by decide +kernel
theorem dX0_before_31 : decode cX0_before 31 = .ok (.aload_n 0, 1) := by decide +kernel
theorem dX0_before_32 : decode cX0_before 32 = .ok (.iload_n 2, 1) := by decide +kernel
theorem dX0_before_33 : decode cX0_before 33 = .ok (.invokevirtual 87, 3) := by decide +kernel
theorem dX0_before_36 : decode cX0_before 36 = .ok (.iload 4, 2) := by decide +kernel
theorem dX0_before_38 : decode cX0_before 38 = .ok (.iconst 1, 1) := by decide +kernel
theorem dX0_before_39 : decode cX0_before 39 = .ok (.iadd, 1) := by decide +kernel
theorem dX0_before_40 : decode cX0_before 40 = .ok (.istore 5, 2) := by decide +kernel
theorem dX0_before_42 : decode cX0_before 42 = .ok (.iload 5, 2) := by decide +kernel
theorem dX0_before_44 : decode cX0_before 44 = .ok (.iconst 4, 1) := by decide +kernel
theorem dX0_before_45 : decode cX0_before 45 = .ok (.if_icmp .ge 17, 3) := by decide +kernel
theorem dX0_before_48 : decode cX0_before 48 = .ok (.aload_n 0, 1) := by decide +kernel
theorem dX0_before_49 : decode cX0_before 49 = .ok (.getfield 38, 3) := by decide +kernel
theorem dX0_before_52 : decode cX0_before 52 = .ok (.iload 5, 2) := by decide +kernel
theorem dX0_before_54 : decode cX0_before 54 = .ok (.iconst 0, 1) := by decide +kernel
theorem dX0_before_55 : decode cX0_before 55 = .ok (.bastore, 1) := by decide +kernel
theorem dX0_before_56 : decode cX0_before 56 = .ok (.iinc 5 1, 3) := by decide +kernel
theorem dX0_before_59 : decode cX0_before 59 = .ok (.goto (-17), 3) := by decide +kernel
theorem dX0_before_62 : decode cX0_before 62 = .ok (.iload_n 3, 1) := by decide +kernel
theorem dX0_before_63 : decode cX0_before 63 = .ok (.bipush 13, 2) := by decide +kernel
theorem dX0_before_65 : decode cX0_before 65 = .ok (.if_icmp .lt 16, 3) := by decide +kernel
theorem dX0_before_68 : decode cX0_before 68 = .ok (.aload_n 0, 1) := by decide +kernel
theorem dX0_before_69 : decode cX0_before 69 = .ok (.getfield 38, 3) := by decide +kernel
theorem dX0_before_72 : decode cX0_before 72 = .ok (.iload 4, 2) := by decide +kernel
theorem dX0_before_74 : decode cX0_before 74 = .ok (.iconst 0, 1) := by decide +kernel
theorem dX0_before_75 : decode cX0_before 75 = .ok (.bastore, 1) := by decide +kernel
theorem dX0_before_76 : decode cX0_before 76 = .ok (.aload_n 0, 1) := by decide +kernel
theorem dX0_before_77 : decode cX0_before 77 = .ok (.invokevirtual 91, 3) := by decide +kernel
theorem dX0_before_80 : decode cX0_before 80 = .ok (.ireturn, 1) := by decide +kernel
theorem dX0_before_81 : decode cX0_before 81 = .ok (.iload 4, 2) := by decide +kernel
theorem dX0_before_83 : decode cX0_before 83 = .ok (.istore 5, 2) := by decide +kernel
theorem dX0_before_85 : decode cX0_before 85 = .ok (.iload 5, 2) := by decide +kernel
theorem dX0_before_87 : decode cX0_before 87 = .ok (.ifCond .lt 34, 3) := by decide +kernel
theorem dX0_before_90 : decode cX0_before 90 = .ok (.aload_n 0, 1) := by decide +kernel
theorem dX0_before_91 : decode cX0_before 91 = .ok (.getfield 38, 3) := by decide +kernel
theorem dX0_before_94 : decode cX0_before 94 = .ok (.iload 5, 2) := by decide +kernel
theorem dX0_before_96 : decode cX0_before 96 = .ok (.baload, 1) := by decide +kernel
theorem dX0_before_97 : decode cX0_before 97 = .ok (.aload_n 0, 1) := by decide +kernel
theorem dX0_before_98 : decode cX0_before 98 = .ok (.getfield 35, 3) := by decide +kernel
theorem dX0_before_101 : decode cX0_before 101 = .ok (.iload 5, 2) := by decide +kernel
theorem dX0_before_103 : decode cX0_before 103 = .ok (.baload, 1) := by decide +kernel
theorem dX0_before_104 : decode cX0_before 104 = .ok (.if_icmp .ne 17, 3) := by decide +kernel
theorem dX0_before_107 : decode cX0_before 107 = .ok (.aload_n 0, 1) := by decide +kernel
theorem dX0_before_108 : decode cX0_before 108 = .ok (.getfield 38, 3) := by decide +kernel
theorem dX0_before_111 : decode cX0_before 111 = .ok (.iload 5, 2) := by decide +kernel
theorem dX0_before_113 : decode cX0_before 113 = .ok (.iconst 0, 1) := by decide +kernel
theorem dX0_before_114 : decode cX0_before 114 = .ok (.bastore, 1) := by decide +kernel
theorem dX0_before_115 : decode cX0_before 115 = .ok (.iinc 5 (-1), 3) := by decide +kernel
theorem dX0_before_118 : decode cX0_before 118 = .ok (.goto (-33), 3) := by decide +kernel
theorem dX0_before_121 : decode cX0_before 121 = .ok (.iload 5, 2) := by decide +kernel
theorem dX0_before_123 : decode cX0_before 123 = .ok (.ifCond .ge 6, 3) := by decide +kernel
theorem dX0_before_126 : decode cX0_before 126 = .ok (.ldc 68, 2) := by decide +kernel
theorem dX0_before_128 : decode cX0_before 128 = .ok (.ireturn, 1) := by decide +kernel
theorem dX0_before_129 : decode cX0_before 129 = .ok (.aload_n 0, 1) := by decide +kernel
theorem dX0_before_130 : decode cX0_before 130 = .ok (.getfield 38, 3) := by decide +kernel
theorem dX0_before_133 : decode cX0_before 133 = .ok (.iload 5, 2) := by decide +kernel
theorem dX0_before_135 : decode cX0_before 135 = .ok (.dup2, 1) := by decide +kernel
theorem dX0_before_136 : decode cX0_before 136 = .ok (.baload, 1) := by decide +kernel
theorem dX0_before_137 : decode cX0_before 137 = .ok (.iconst 1, 1) := by decide +kernel
theorem dX0_before_138 : decode cX0_before 138 = .ok (.iadd, 1) := by decide +kernel
end
section
set_option maxRecDepth 100000
theorem dX0_before_139 : decode cX0_before 139 = .ok (.i2b, 1) := by decide +kernel
theorem dX0_before_140 : decode cX0_before 140 = .ok (.bastore, 1) := by decide +kernel
theorem dX0_before_141 : decode cX0_before 141 = .ok (.aload_n 0, 1) := by decide +kernel
theorem dX0_before_142 : decode cX0_before 142 = .ok (.invokevirtual 91, 3) := by decide +kernel
theorem dX0_before_145 : decode cX0_before 145 = .ok (.ireturn, 1) := by decide +kernel
theorem dX0_unpack_0 : decode cX0_unpack 0 = .ok (.iload_n 1, 1) := by decide +kernel
theorem dX0_unpack_1 : decode cX0_unpack 1 = .ok (.istore_n 2, 1) := by decide +kernel
theorem dX0_unpack_2 : decode cX0_unpack 2 = .ok (.iconst 3, 1) := by decide +kernel
theorem dX0_unpack_3 : decode cX0_unpack 3 = .ok (.istore_n 3, 1) := by decide +kernel
theorem dX0_unpack_4 : decode cX0_unpack 4 = .ok (.iload_n 3, 1) := by decide +kernel
theorem dX0_unpack_5 : decode cX0_unpack 5 = .ok (.ifCond .lt 25, 3) := by decide +kernel
theorem dX0_unpack_8 : decode cX0_unpack 8 = .ok (.aload_n 0, 1) := by decide +kernel
theorem dX0_unpack_9 : decode cX0_unpack 9 = .ok (.getfield 38, 3) := by decide +kernel
theorem dX0_unpack_12 : decode cX0_unpack 12 = .ok (.iload_n 3, 1) := by decide +kernel
theorem dX0_unpack_13 : decode cX0_unpack 13 = .ok (.iload_n 2, 1) := by decide +kernel
theorem dX0_unpack_14 : decode cX0_unpack 14 = .ok (.bipush 25, 2) := by decide +kernel
theorem dX0_unpack_16 : decode cX0_unpack 16 = .ok (.irem, 1) := by decide +kernel
theorem dX0_unpack_17 : decode cX0_unpack 17 = .ok (.i2b, 1) := by decide +kernel
theorem dX0_unpack_18 : decode cX0_unpack 18 = .ok (.bastore, 1) := by decide +kernel
theorem dX0_unpack_19 : decode cX0_unpack 19 = .ok (.iload_n 2, 1) := by decide +kernel
theorem dX0_unpack_20 : decode cX0_unpack 20 = .ok (.bipush 25, 2) := by decide +kernel
theorem dX0_unpack_22 : decode cX0_unpack 22 = .ok (.idiv, 1) := by decide +kernel
theorem dX0_unpack_23 : decode cX0_unpack 23 = .ok (.istore_n 2, 1) := by decide +kernel
theorem dX0_unpack_24 : decode cX0_unpack 24 = .ok (.iinc 3 (-1), 3) := by decide +kernel
theorem dX0_unpack_27 : decode cX0_unpack 27 = .ok (.goto (-23), 3) := by decide +kernel
theorem dX0_unpack_30 : decode cX0_unpack 30 = .ok (.return_, 1) := by decide +kernel
theorem dX0_packed_0 : decode cX0_packed 0 = .ok (.bipush 25, 2) := by decide +kernel
theorem dX0_packed_2 : decode cX0_packed 2 = .ok (.aload_n 0, 1) := by decide +kernel
theorem dX0_packed_3 : decode cX0_packed 3 = .ok (.getfield 38, 3) := by decide +kernel
theorem dX0_packed_6 : decode cX0_packed 6 = .ok (.iconst 0, 1) := by decide +kernel
theorem dX0_packed_7 : decode cX0_packed 7 = .ok (.baload, 1) := by decide +kernel
theorem dX0_packed_8 : decode cX0_packed 8 = .ok (.imul, 1) := by decide +kernel
theorem dX0_packed_9 : decode cX0_packed 9 = .ok (.aload_n 0, 1) := by decide +kernel
theorem dX0_packed_10 : decode cX0_packed 10 = .ok (.getfield 38, 3) := by decide +kernel
theorem dX0_packed_13 : decode cX0_packed 13 = .ok (.iconst 1, 1) := by decide +kernel
theorem dX0_packed_14 : decode cX0_packed 14 = .ok (.baload, 1) := by decide +kernel
theorem dX0_packed_15 : decode cX0_packed 15 = .ok (.iadd, 1) := by decide +kernel
theorem dX0_packed_16 : decode cX0_packed 16 = .ok (.bipush 25, 2) := by decide +kernel
theorem dX0_packed_18 : decode cX0_packed 18 = .ok (.imul, 1) := by decide +kernel
theorem dX0_packed_19 : decode cX0_packed 19 = .ok (.aload_n 0, 1) := by decide +kernel
theorem dX0_packed_20 : decode cX0_packed 20 = .ok (.getfield 38, 3) := by decide +kernel
theorem dX0_packed_23 : decode cX0_packed 23 = .ok (.iconst 2, 1) := by decide +kernel
theorem dX0_packed_24 : decode cX0_packed 24 = .ok (.baload, 1) := by decide +kernel
theorem dX0_packed_25 : decode cX0_packed 25 = .ok (.iadd, 1) := by decide +kernel
theorem dX0_packed_26 : decode cX0_packed 26 = .ok (.bipush 25, 2) := by decide +kernel
theorem dX0_packed_28 : decode cX0_packed 28 = .ok (.imul, 1) := by decide +kernel
theorem dX0_packed_29 : decode cX0_packed 29 = .ok (.aload_n 0, 1) := by decide +kernel
theorem dX0_packed_30 : decode cX0_packed 30 = .ok (.getfield 38, 3) := by decide +kernel
theorem dX0_packed_33 : decode cX0_packed 33 = .ok (.iconst 3, 1) := by decide +kernel
theorem dX0_packed_34 : decode cX0_packed 34 = .ok (.baload, 1) := by decide +kernel
theorem dX0_packed_35 : decode cX0_packed 35 = .ok (.iadd, 1) := by decide +kernel
theorem dX0_packed_36 : decode cX0_packed 36 = .ok (.ireturn, 1) := by decide +kernel
theorem dX0_overSteps_0 : decode cX0_overSteps 0 = .ok (.iload_n 3, 1) := by decide +kernel
theorem dX0_overSteps_1 : decode cX0_overSteps 1 = .ok (.ifCond .eq 8, 3) := by decide +kernel
theorem dX0_overSteps_4 : decode cX0_overSteps 4 = .ok (.ldc 68, 2) := by decide +kernel
theorem dX0_overSteps_6 : decode cX0_overSteps 6 = .ok (.goto 4, 3) := by decide +kernel
theorem dX0_overSteps_9 : decode cX0_overSteps 9 = .ok (.iconst 0, 1) := by decide +kernel
theorem dX0_overSteps_10 : decode cX0_overSteps 10 = .ok (.istore 4, 2) := by decide +kernel
theorem dX0_overSteps_12 : decode cX0_overSteps 12 = .ok (.iconst 0, 1) := by decide +kernel
theorem dX0_overSteps_13 : decode cX0_overSteps 13 = .ok (.istore 5, 2) := by decide +kernel
theorem dX0_overSteps_15 : decode cX0_overSteps 15 = .ok (.iload 5, 2) := by decide +kernel
theorem dX0_overSteps_17 : decode cX0_overSteps 17 = .ok (.bipush 6, 2) := by decide +kernel
theorem dX0_overSteps_19 : decode cX0_overSteps 19 = .ok (.if_icmp .ge 67, 3) := by decide +kernel
theorem dX0_overSteps_22 : decode cX0_overSteps 22 = .ok (.aload_n 0, 1) := by decide +kernel
theorem dX0_overSteps_23 : decode cX0_overSteps 23 = .ok (.getfield 7, 3) := by decide +kernel
theorem dX0_overSteps_26 : decode cX0_overSteps 26 = .ok (.iload_n 1, 1) := by decide +kernel
theorem dX0_overSteps_27 : decode cX0_overSteps 27 = .ok (.iaload, 1) := by decide +kernel
theorem dX0_overSteps_28 : decode cX0_overSteps 28 = .ok (.iload 5, 2) := by decide +kernel
theorem dX0_overSteps_30 : decode cX0_overSteps 30 = .ok (.ishr, 1) := by decide +kernel
theorem dX0_overSteps_31 : decode cX0_overSteps 31 = .ok (.iconst 1, 1) := by decide +kernel
theorem dX0_overSteps_32 : decode cX0_overSteps 32 = .ok (.iand, 1) := by decide +kernel
theorem dX0_overSteps_33 : decode cX0_overSteps 33 = .ok (.ifCond .ne 6, 3) := by decide +kernel
theorem dX0_overSteps_36 : decode cX0_overSteps 36 = .ok (.goto 44, 3) := by decide +kernel
theorem dX0_overSteps_39 : decode cX0_overSteps 39 = .ok (.aload_n 0, 1) := by decide +kernel
theorem dX0_overSteps_40 : decode cX0_overSteps 40 = .ok (.getfield 32, 3) := by decide +kernel
theorem dX0_overSteps_43 : decode cX0_overSteps 43 = .ok (.bipush 12, 2) := by decide +kernel
theorem dX0_overSteps_45 : decode cX0_overSteps 45 = .ok (.iload 5, 2) := by decide +kernel
theorem dX0_overSteps_47 : decode cX0_overSteps 47 = .ok (.imul, 1) := by decide +kernel
theorem dX0_overSteps_48 : decode cX0_overSteps 48 = .ok (.iload_n 2, 1) := by decide +kernel
theorem dX0_overSteps_49 : decode cX0_overSteps 49 = .ok (.iadd, 1) := by decide +kernel
theorem dX0_overSteps_50 : decode cX0_overSteps 50 = .ok (.iconst 1, 1) := by decide +kernel
theorem dX0_overSteps_51 : decode cX0_overSteps 51 = .ok (.iadd, 1) := by decide +kernel
theorem dX0_overSteps_52 : decode cX0_overSteps 52 = .ok (.iaload, 1) := by decide +kernel
theorem dX0_overSteps_53 : decode cX0_overSteps 53 = .ok (.istore 6, 2) := by decide +kernel
theorem dX0_overSteps_55 : decode cX0_overSteps 55 = .ok (.iload_n 3, 1) := by decide +kernel
theorem dX0_overSteps_56 : decode cX0_overSteps 56 = .ok (.ifCond .eq 13, 3) := by decide +kernel
theorem dX0_overSteps_59 : decode cX0_overSteps 59 = .ok (.iload 6, 2) := by decide +kernel
theorem dX0_overSteps_61 : decode cX0_overSteps 61 = .ok (.iload 4, 2) := by decide +kernel
theorem dX0_overSteps_63 : decode cX0_overSteps 63 = .ok (.if_icmp .ge 17, 3) := by decide +kernel
theorem dX0_overSteps_66 : decode cX0_overSteps 66 = .ok (.goto 10, 3) := by decide +kernel
theorem dX0_overSteps_69 : decode cX0_overSteps 69 = .ok (.iload 6, 2) := by decide +kernel
theorem dX0_overSteps_71 : decode cX0_overSteps 71 = .ok (.iload 4, 2) := by decide +kernel
theorem dX0_overSteps_73 : decode cX0_overSteps 73 = .ok (.if_icmp .le 7, 3) := by decide +kernel
theorem dX0_overSteps_76 : decode cX0_overSteps 76 = .ok (.iload 6, 2) := by decide +kernel
theorem dX0_overSteps_78 : decode cX0_overSteps 78 = .ok (.istore 4, 2) := by decide +kernel
theorem dX0_overSteps_80 : decode cX0_overSteps 80 = .ok (.iinc 5 1, 3) := by decide +kernel
theorem dX0_overSteps_83 : decode cX0_overSteps 83 = .ok (.goto (-68), 3) := by decide +kernel
theorem dX0_overSteps_86 : decode cX0_overSteps 86 = .ok (.iload 4, 2) := by decide +kernel
theorem dX0_overSteps_88 : decode cX0_overSteps 88 = .ok (.ireturn, 1) := by decide +kernel
theorem dX0_set_0 : decode cX0_set 0 = .ok (.aload_n 0, 1) := by decide +kernel
theorem dX0_set_1 : decode cX0_set 1 = .ok (.invokevirtual 65, 3) := by decide +kernel
theorem dX0_set_4 : decode cX0_set 4 = .ok (.aload_n 0, 1) := by decide +kernel
theorem dX0_set_5 : decode cX0_set 5 = .ok (.getfield 62, 3) := by decide +kernel
theorem dX0_set_8 : decode cX0_set 8 = .ok (.ifCond .ne 6, 3) := by decide +kernel
theorem dX0_set_11 : decode cX0_set 11 = .ok (.bipush (-3), 2) := by decide +kernel
theorem dX0_set_13 : decode cX0_set 13 = .ok (.ireturn, 1) := by decide +kernel
theorem dX0_set_14 : decode cX0_set 14 = .ok (.iconst 0, 1) := by decide +kernel
theorem dX0_set_15 : decode cX0_set 15 = .ok (.istore_n 1, 1) := by decide +kernel
theorem dX0_set_16 : decode cX0_set 16 = .ok (.iconst 0, 1) := by decide +kernel
theorem dX0_set_17 : decode cX0_set 17 = .ok (.istore_n 2, 1) := by decide +kernel
theorem dX0_set_18 : decode cX0_set 18 = .ok (.iload_n 2, 1) := by decide +kernel
theorem dX0_set_19 : decode cX0_set 19 = .ok (.bipush 6, 2) := by decide +kernel
theorem dX0_set_21 : decode cX0_set 21 = .ok (.if_icmp .ge 29, 3) := by decide +kernel
theorem dX0_set_24 : decode cX0_set 24 = .ok (.aload_n 0, 1) := by decide +kernel
theorem dX0_set_25 : decode cX0_set 25 = .ok (.getfield 32, 3) := by decide +kernel
theorem dX0_set_28 : decode cX0_set 28 = .ok (.bipush 12, 2) := by decide +kernel
theorem dX0_set_30 : decode cX0_set 30 = .ok (.iload_n 2, 1) := by decide +kernel
theorem dX0_set_31 : decode cX0_set 31 = .ok (.imul, 1) := by decide +kernel
theorem dX0_set_32 : decode cX0_set 32 = .ok (.iaload, 1) := by decide +kernel
theorem dX0_set_33 : decode cX0_set 33 = .ok (.ldc 68, 2) := by decide +kernel
theorem dX0_set_35 : decode cX0_set 35 = .ok (.if_icmp .ge 9, 3) := by decide +kernel
theorem dX0_set_38 : decode cX0_set 38 = .ok (.iload_n 1, 1) := by decide +kernel
theorem dX0_set_39 : decode cX0_set 39 = .ok (.iconst 1, 1) := by decide +kernel
theorem dX0_set_40 : decode cX0_set 40 = .ok (.iload_n 2, 1) := by decide +kernel
theorem dX0_set_41 : decode cX0_set 41 = .ok (.ishl, 1) := by decide +kernel
theorem dX0_set_42 : decode cX0_set 42 = .ok (.ior, 1) := by decide +kernel
theorem dX0_set_43 : decode cX0_set 43 = .ok (.istore_n 1, 1) := by decide +kernel
theorem dX0_set_44 : decode cX0_set 44 = .ok (.iinc 2 1, 3) := by decide +kernel
theorem dX0_set_47 : decode cX0_set 47 = .ok (.goto (-29), 3) := by decide +kernel
theorem dX0_set_50 : decode cX0_set 50 = .ok (.iload_n 1, 1) := by decide +kernel
theorem dX0_set_51 : decode cX0_set 51 = .ok (.ireturn, 1) := by decide +kernel
theorem dX0_depth_0 : decode cX0_depth 0 = .ok (.aload_n 0, 1) := by decide +kernel
theorem dX0_depth_1 : decode cX0_depth 1 = .ok (.invokevirtual 59, 3) := by decide +kernel
theorem dX0_depth_4 : decode cX0_depth 4 = .ok (.aload_n 0, 1) := by decide +kernel
theorem dX0_depth_5 : decode cX0_depth 5 = .ok (.getfield 62, 3) := by decide +kernel
theorem dX0_depth_8 : decode cX0_depth 8 = .ok (.ifCond .eq 10, 3) := by decide +kernel
theorem dX0_depth_11 : decode cX0_depth 11 = .ok (.aload_n 0, 1) := by decide +kernel
theorem dX0_depth_12 : decode cX0_depth 12 = .ok (.getfield 69, 3) := by decide +kernel
theorem dX0_depth_15 : decode cX0_depth 15 = .ok (.goto 5, 3) := by decide +kernel
theorem dX0_depth_18 : decode cX0_depth 18 = .ok (.bipush (-3), 2) := by decide +kernel
theorem dX0_depth_20 : decode cX0_depth 20 = .ok (.ireturn, 1) := by decide +kernel
theorem dX0_steps_0 : decode cX0_steps 0 = .ok (.aload_n 0, 1) := by decide +kernel
theorem dX0_steps_1 : decode cX0_steps 1 = .ok (.iload_n 1, 1) := by decide +kernel
theorem dX0_steps_2 : decode cX0_steps 2 = .ok (.invokevirtual 41, 3) := by decide +kernel
theorem dX0_steps_5 : decode cX0_steps 5 = .ok (.ifCond .eq 12, 3) := by decide +kernel
theorem dX0_steps_8 : decode cX0_steps 8 = .ok (.aload_n 0, 1) := by decide +kernel
theorem dX0_steps_9 : decode cX0_steps 9 = .ok (.getfield 7, 3) := by decide +kernel
theorem dX0_steps_12 : decode cX0_steps 12 = .ok (.iload_n 1, 1) := by decide +kernel
theorem dX0_steps_13 : decode cX0_steps 13 = .ok (.iaload, 1) := by decide +kernel
theorem dX0_steps_14 : decode cX0_steps 14 = .ok (.goto 4, 3) := by decide +kernel
theorem dX0_steps_17 : decode cX0_steps 17 = .ok (.iconst (-1), 1) := by decide +kernel
theorem dX0_steps_18 : decode cX0_steps 18 = .ok (.ireturn, 1) := by decide +kernel
theorem dX1_init_0 : decode cX1_init 0 = .ok (.aload_n 0, 1) := by decide +kernel
theorem dX1_init_1 : decode cX1_init 1 = .ok (.invokespecial 1, 3) := by decide +kernel
theorem dX1_init_4 : decode cX1_init 4 = .ok (.aload_n 0, 1) := by decide +kernel
theorem dX1_init_5 : decode cX1_init 5 = .ok (.bipush 6, 2) := by decide +kernel
theorem dX1_init_7 : decode cX1_init 7 = .ok (.newarray .int, 2) := by decide +kernel
theorem dX1_init_9 : decode cX1_init 9 = .ok (.putfield 7, 3) := by decide +kernel
theorem dX1_init_12 : decode cX1_init 12 = .ok (.aload_n 0, 1) := by decide +kernel
theorem dX1_init_13 : decode cX1_init 13 = .ok (.iconst 3, 1) := by decide +kernel
theorem dX1_init_14 : decode cX1_init 14 = .ok (.newarray .int, 2) := by decide +kernel
theorem dX1_init_16 : decode cX1_init 16 = .ok (.putfield 13, 3) := by decide +kernel
theorem dX1_init_19 : decode cX1_init 19 = .ok (.aload_n 0, 1) := by decide +kernel
theorem dX1_init_20 : decode cX1_init 20 = .ok (.iconst 0, 1) := by decide +kernel
theorem dX1_init_21 : decode cX1_init 21 = .ok (.putfield 16, 3) := by decide +kernel
theorem dX1_init_24 : decode cX1_init 24 = .ok (.aload_n 0, 1) := by decide +kernel
theorem dX1_init_25 : decode cX1_init 25 = .ok (.bipush 12, 2) := by decide +kernel
theorem dX1_init_27 : decode cX1_init 27 = .ok (.newarray .int, 2) := by decide +kernel
theorem dX1_init_29 : decode cX1_init 29 = .ok (.putfield 20, 3) := by decide +kernel
theorem dX1_init_32 : decode cX1_init 32 = .ok (.aload_n 0, 1) := by decide +kernel
theorem dX1_init_33 : decode cX1_init 33 = .ok (.bipush 13, 2) := by decide +kernel
theorem dX1_init_35 : decode cX1_init 35 = .ok (.newarray .int, 2) := by decide +kernel
theorem dX1_init_37 : decode cX1_init 37 = .ok (.putfield 23, 3) := by decide +kernel
theorem dX1_init_40 : decode cX1_init 40 = .ok (.aload_n 0, 1) := by decide +kernel
theorem dX1_init_41 : decode cX1_init 41 = .ok (.bipush 12, 2) := by decide +kernel
theorem dX1_init_43 : decode cX1_init 43 = .ok (.newarray .int, 2) := by decide +kernel
theorem dX1_init_45 : decode cX1_init 45 = .ok (.putfield 26, 3) := by decide +kernel
theorem dX1_init_48 : decode cX1_init 48 = .ok (.aload_n 0, 1) := by decide +kernel
theorem dX1_init_49 : decode cX1_init 49 = .ok (.bipush 12, 2) := by decide +kernel
theorem dX1_init_51 : decode cX1_init 51 = .ok (.newarray .int, 2) := by decide +kernel
theorem dX1_init_53 : decode cX1_init 53 = .ok (.putfield 29, 3) := by decide +kernel
theorem dX1_init_56 : decode cX1_init 56 = .ok (.aload_n 0, 1) := by decide +kernel
theorem dX1_init_57 : decode cX1_init 57 = .ok (.bipush 12, 2) := by decide +kernel
theorem dX1_init_59 : decode cX1_init 59 = .ok (.newarray .int, 2) := by decide +kernel
theorem dX1_init_61 : decode cX1_init 61 = .ok (.putfield 32, 3) := by decide +kernel
theorem dX1_init_64 : decode cX1_init 64 = .ok (.aload_n 0, 1) := by decide +kernel
theorem dX1_init_65 : decode cX1_init 65 = .ok (.bipush 13, 2) := by decide +kernel
theorem dX1_init_67 : decode cX1_init 67 = .ok (.newarray .int, 2) := by decide +kernel
theorem dX1_init_69 : decode cX1_init 69 = .ok (.putfield 35, 3) := by decide +kernel
theorem dX1_init_72 : decode cX1_init 72 = .ok (.return_, 1) := by decide +kernel
theorem dX1_step_0 : decode cX1_step 0 = .ok (.aload_n 0, 1) := by decide +kernel
theorem dX1_step_1 : decode cX1_step 1 = .ok (.iload_n 1, 1) := by decide +kernel
theorem dX1_step_2 : decode cX1_step 2 = .ok (.invokevirtual 38, 3) := by decide +kernel
theorem dX1_step_5 : decode cX1_step 5 = .ok (.ifCond .eq 11, 3) := by decide +kernel
theorem dX1_step_8 : decode cX1_step 8 = .ok (.aload_n 0, 1) := by decide +kernel
theorem dX1_step_9 : decode cX1_step 9 = .ok (.iload_n 2, 1) := by decide +kernel
theorem dX1_step_10 : decode cX1_step 10 = .ok (.invokevirtual 38, 3) := by decide +kernel
theorem dX1_step_13 : decode cX1_step 13 = .ok (.ifCond .ne 5, 3) := by decide +kernel
theorem dX1_step_16 : decode cX1_step 16 = .ok (.iconst 0, 1) := by decide +kernel
theorem dX1_step_17 : decode cX1_step 17 = .ok (.ireturn, 1) := by decide +kernel
theorem dX1_step_18 : decode cX1_step 18 = .ok (.aload_n 0, 1) := by decide +kernel
theorem dX1_step_19 : decode cX1_step 19 = .ok (.getfield 7, 3) := by decide +kernel
theorem dX1_step_22 : decode cX1_step 22 = .ok (.iload_n 1, 1) := by decide +kernel
theorem dX1_step_23 : decode cX1_step 23 = .ok (.iload_n 3, 1) := by decide +kernel
theorem dX1_step_24 : decode cX1_step 24 = .ok (.ifCond .eq 16, 3) := by decide +kernel
theorem dX1_step_27 : decode cX1_step 27 = .ok (.aload_n 0, 1) := by decide +kernel
theorem dX1_step_28 : decode cX1_step 28 = .ok (.getfield 7, 3) := by decide +kernel
theorem dX1_step_31 : decode cX1_step 31 = .ok (.iload_n 1, 1) := by decide +kernel
theorem dX1_step_32 : decode cX1_step 32 = .ok (.iaload, 1) := by decide +kernel
theorem dX1_step_33 : decode cX1_step 33 = .ok (.iconst 1, 1) := by decide +kernel
theorem dX1_step_34 : decode cX1_step 34 = .ok (.iload_n 2, 1) := by decide +kernel
theorem dX1_step_35 : decode cX1_step 35 = .ok (.ishl, 1) := by decide +kernel
theorem dX1_step_36 : decode cX1_step 36 = .ok (.ior, 1) := by decide +kernel
theorem dX1_step_37 : decode cX1_step 37 = .ok (.goto 15, 3) := by decide +kernel
theorem dX1_step_40 : decode cX1_step 40 = .ok (.aload_n 0, 1) := by decide +kernel
theorem dX1_step_41 : decode cX1_step 41 = .ok (.getfield 7, 3) := by decide +kernel
theorem dX1_step_44 : decode cX1_step 44 = .ok (.iload_n 1, 1) := by decide +kernel
theorem dX1_step_45 : decode cX1_step 45 = .ok (.iaload, 1) := by decide +kernel
theorem dX1_step_46 : decode cX1_step 46 = .ok (.iconst 1, 1) := by decide +kernel
theorem dX1_step_47 : decode cX1_step 47 = .ok (.iload_n 2, 1) := by decide +kernel
theorem dX1_step_48 : decode cX1_step 48 = .ok (.ishl, 1) := by decide +kernel
theorem dX1_step_49 : decode cX1_step 49 = .ok (.iconst (-1), 1) := by decide +kernel
theorem dX1_step_50 : decode cX1_step 50 = .ok (.ixor, 1) := by decide +kernel
theorem dX1_step_51 : decode cX1_step 51 = .ok (.iand, 1) := by decide +kernel
theorem dX1_step_52 : decode cX1_step 52 = .ok (.iastore, 1) := by decide +kernel
theorem dX1_step_53 : decode cX1_step 53 = .ok (.iconst 1, 1) := by decide +kernel
theorem dX1_step_54 : decode cX1_step 54 = .ok (.ireturn, 1) := by decide +kernel
theorem dX1_isState_0 : decode cX1_isState 0 = .ok (.iload_n 1, 1) := by decide +kernel
theorem dX1_isState_1 : decode cX1_isState 1 = .ok (.ifCond .lt 12, 3) := by decide +kernel
theorem dX1_isState_4 : decode cX1_isState 4 = .ok (.iload_n 1, 1) := by decide +kernel
theorem dX1_isState_5 : decode cX1_isState 5 = .ok (.iconst 5, 1) := by decide +kernel
theorem dX1_isState_6 : decode cX1_isState 6 = .ok (.if_icmp .gt 7, 3) := by decide +kernel
theorem dX1_isState_9 : decode cX1_isState 9 = .ok (.iconst 1, 1) := by decide +kernel
theorem dX1_isState_10 : decode cX1_isState 10 = .ok (.goto 4, 3) := by decide +kernel
theorem dX1_isState_13 : decode cX1_isState 13 = .ok (.iconst 0, 1) := by decide +kernel
theorem dX1_isState_14 : decode cX1_isState 14 = .ok (.ireturn, 1) := by decide +kernel
theorem dX1_mark_0 : decode cX1_mark 0 = .ok (.iload_n 1, 1) := by decide +kernel
theorem dX1_mark_1 : decode cX1_mark 1 = .ok (.ifCond .lt 18, 3) := by decide +kernel
theorem dX1_mark_4 : decode cX1_mark 4 = .ok (.iload_n 1, 1) := by decide +kernel
theorem dX1_mark_5 : decode cX1_mark 5 = .ok (.iconst 2, 1) := by decide +kernel
theorem dX1_mark_6 : decode cX1_mark 6 = .ok (.if_icmp .gt 13, 3) := by decide +kernel
theorem dX1_mark_9 : decode cX1_mark 9 = .ok (.iload_n 2, 1) := by decide +kernel
theorem dX1_mark_10 : decode cX1_mark 10 = .ok (.ifCond .lt 9, 3) := by decide +kernel
theorem dX1_mark_13 : decode cX1_mark 13 = .ok (.iload_n 2, 1) := by decide +kernel
theorem dX1_mark_14 : decode cX1_mark 14 = .ok (.bipush 63, 2) := by decide +kernel
theorem dX1_mark_16 : decode cX1_mark 16 = .ok (.if_icmp .le 5, 3) := by decide +kernel
theorem dX1_mark_19 : decode cX1_mark 19 = .ok (.iconst 0, 1) := by decide +kernel
theorem dX1_mark_20 : decode cX1_mark 20 = .ok (.ireturn, 1) := by decide +kernel
theorem dX1_mark_21 : decode cX1_mark 21 = .ok (.aload_n 0, 1) := by decide +kernel
theorem dX1_mark_22 : decode cX1_mark 22 = .ok (.getfield 13, 3) := by decide +kernel
theorem dX1_mark_25 : decode cX1_mark 25 = .ok (.iload_n 1, 1) := by decide +kernel
theorem dX1_mark_26 : decode cX1_mark 26 = .ok (.iload_n 2, 1) := by decide +kernel
theorem dX1_mark_27 : decode cX1_mark 27 = .ok (.iastore, 1) := by decide +kernel
theorem dX1_mark_28 : decode cX1_mark 28 = .ok (.iconst 1, 1) := by decide +kernel
theorem dX1_mark_29 : decode cX1_mark 29 = .ok (.ireturn, 1) := by decide +kernel
theorem dX1_token_0 : decode cX1_token 0 = .ok (.aload_n 0, 1) := by decide +kernel
theorem dX1_token_1 : decode cX1_token 1 = .ok (.getfield 16, 3) := by decide +kernel
theorem dX1_token_4 : decode cX1_token 4 = .ok (.bipush 12, 2) := by decide +kernel
theorem dX1_token_6 : decode cX1_token 6 = .ok (.if_icmp .ne 6, 3) := by decide +kernel
theorem dX1_token_9 : decode cX1_token 9 = .ok (.bipush (-2), 2) := by decide +kernel
theorem dX1_token_11 : decode cX1_token 11 = .ok (.ireturn, 1) := by decide +kernel
theorem dX1_token_12 : decode cX1_token 12 = .ok (.iload_n 1, 1) := by decide +kernel
theorem dX1_token_13 : decode cX1_token 13 = .ok (.ifCond .lt 9, 3) := by decide +kernel
theorem dX1_token_16 : decode cX1_token 16 = .ok (.iload_n 1, 1) := by decide +kernel
theorem dX1_token_17 : decode cX1_token 17 = .ok (.bipush 18, 2) := by decide +kernel
theorem dX1_token_19 : decode cX1_token 19 = .ok (.if_icmp .le 5, 3) := by decide +kernel
theorem dX1_token_22 : decode cX1_token 22 = .ok (.iconst (-1), 1) := by decide +kernel
theorem dX1_token_23 : decode cX1_token 23 = .ok (.ireturn, 1) := by decide +kernel
theorem dX1_token_24 : decode cX1_token 24 = .ok (.aload_n 0, 1) := by decide +kernel
theorem dX1_token_25 : decode cX1_token 25 = .ok (.getfield 20, 3) := by decide +kernel
theorem dX1_token_28 : decode cX1_token 28 = .ok (.aload_n 0, 1) := by decide +kernel
theorem dX1_token_29 : decode cX1_token 29 = .ok (.getfield 16, 3) := by decide +kernel
theorem dX1_token_32 : decode cX1_token 32 = .ok (.iload_n 1, 1) := by decide +kernel
theorem dX1_token_33 : decode cX1_token 33 = .ok (.iastore, 1) := by decide +kernel
theorem dX1_token_34 : decode cX1_token 34 = .ok (.aload_n 0, 1) := by decide +kernel
theorem dX1_token_35 : decode cX1_token 35 = .ok (.dup, 1) := by decide +kernel
theorem dX1_token_36 : decode cX1_token 36 = .ok (.getfield 16, 3) := by decide +kernel
theorem dX1_token_39 : decode cX1_token 39 = .ok (.iconst 1, 1) := by decide +kernel
theorem dX1_token_40 : decode cX1_token 40 = .ok (.iadd, 1) := by decide +kernel
theorem dX1_token_41 : decode cX1_token 41 = .ok (.putfield 16, 3) := by decide +kernel
end
section
set_option maxRecDepth 100000
theorem dX1_token_44 : decode cX1_token 44 = .ok (.aload_n 0, 1) := by decide +kernel
theorem dX1_token_45 : decode cX1_token 45 = .ok (.getfield 16, 3) := by decide +kernel
theorem dX1_token_48 : decode cX1_token 48 = .ok (.ireturn, 1) := by decide +kernel
theorem dX1_wipe_0 : decode cX1_wipe 0 = .ok (.aload_n 0, 1) := by decide +kernel
theorem dX1_wipe_1 : decode cX1_wipe 1 = .ok (.getfield 16, 3) := by decide +kernel
theorem dX1_wipe_4 : decode cX1_wipe 4 = .ok (.istore_n 1, 1) := by decide +kernel
theorem dX1_wipe_5 : decode cX1_wipe 5 = .ok (.aload_n 0, 1) := by decide +kernel
theorem dX1_wipe_6 : decode cX1_wipe 6 = .ok (.iconst 0, 1) := by decide +kernel
theorem dX1_wipe_7 : decode cX1_wipe 7 = .ok (.putfield 16, 3) := by decide +kernel
theorem dX1_wipe_10 : decode cX1_wipe 10 = .ok (.iload_n 1, 1) := by decide +kernel
theorem dX1_wipe_11 : decode cX1_wipe 11 = .ok (.ireturn, 1) := by decide +kernel
theorem dX1_turn_0 : decode cX1_turn 0 = .ok (.iconst 0, 1) := by decide +kernel
theorem dX1_turn_1 : decode cX1_turn 1 = .ok (.istore_n 1, 1) := by decide +kernel
theorem dX1_turn_2 : decode cX1_turn 2 = .ok (.iconst 0, 1) := by decide +kernel
theorem dX1_turn_3 : decode cX1_turn 3 = .ok (.istore_n 2, 1) := by decide +kernel
theorem dX1_turn_4 : decode cX1_turn 4 = .ok (.iload_n 2, 1) := by decide +kernel
theorem dX1_turn_5 : decode cX1_turn 5 = .ok (.aload_n 0, 1) := by decide +kernel
theorem dX1_turn_6 : decode cX1_turn 6 = .ok (.getfield 16, 3) := by decide +kernel
theorem dX1_turn_9 : decode cX1_turn 9 = .ok (.if_icmp .ge 40, 3) := by decide +kernel
theorem dX1_turn_12 : decode cX1_turn 12 = .ok (.aload_n 0, 1) := by decide +kernel
theorem dX1_turn_13 : decode cX1_turn 13 = .ok (.aload_n 0, 1) := by decide +kernel
theorem dX1_turn_14 : decode cX1_turn 14 = .ok (.getfield 20, 3) := by decide +kernel
theorem dX1_turn_17 : decode cX1_turn 17 = .ok (.iload_n 2, 1) := by decide +kernel
theorem dX1_turn_18 : decode cX1_turn 18 = .ok (.iaload, 1) := by decide +kernel
theorem dX1_turn_19 : decode cX1_turn 19 = .ok (.invokevirtual 42, 3) := by decide +kernel
theorem dX1_turn_22 : decode cX1_turn 22 = .ok (.istore_n 3, 1) := by decide +kernel
theorem dX1_turn_23 : decode cX1_turn 23 = .ok (.iload_n 3, 1) := by decide +kernel
theorem dX1_turn_24 : decode cX1_turn 24 = .ok (.aload_n 0, 1) := by decide +kernel
theorem dX1_turn_25 : decode cX1_turn 25 = .ok (.getfield 20, 3) := by decide +kernel
theorem dX1_turn_28 : decode cX1_turn 28 = .ok (.iload_n 2, 1) := by decide +kernel
theorem dX1_turn_29 : decode cX1_turn 29 = .ok (.iaload, 1) := by decide +kernel
theorem dX1_turn_30 : decode cX1_turn 30 = .ok (.if_icmp .eq 6, 3) := by decide +kernel
theorem dX1_turn_33 : decode cX1_turn 33 = .ok (.iinc 1 1, 3) := by decide +kernel
theorem dX1_turn_36 : decode cX1_turn 36 = .ok (.aload_n 0, 1) := by decide +kernel
theorem dX1_turn_37 : decode cX1_turn 37 = .ok (.getfield 20, 3) := by decide +kernel
theorem dX1_turn_40 : decode cX1_turn 40 = .ok (.iload_n 2, 1) := by decide +kernel
theorem dX1_turn_41 : decode cX1_turn 41 = .ok (.iload_n 3, 1) := by decide +kernel
theorem dX1_turn_42 : decode cX1_turn 42 = .ok (.iastore, 1) := by decide +kernel
theorem dX1_turn_43 : decode cX1_turn 43 = .ok (.iinc 2 1, 3) := by decide +kernel
theorem dX1_turn_46 : decode cX1_turn 46 = .ok (.goto (-42), 3) := by decide +kernel
theorem dX1_turn_49 : decode cX1_turn 49 = .ok (.iload_n 1, 1) := by decide +kernel
theorem dX1_turn_50 : decode cX1_turn 50 = .ok (.ireturn, 1) := by decide +kernel
theorem dX1_counterpart_0 : decode cX1_counterpart 0 = .ok (.iload_n 1, 1) := by decide +kernel
theorem dX1_counterpart_1 : decode cX1_counterpart 1 = .ok (.iconst 5, 1) := by decide +kernel
theorem dX1_counterpart_2 : decode cX1_counterpart 2 = .ok (.if_icmp .gt 18, 3) := by decide +kernel
theorem dX1_counterpart_5 : decode cX1_counterpart 5 = .ok (.iload_n 1, 1) := by decide +kernel
theorem dX1_counterpart_6 : decode cX1_counterpart 6 = .ok (.iconst 3, 1) := by decide +kernel
theorem dX1_counterpart_7 : decode cX1_counterpart 7 = .ok (.if_icmp .ge 9, 3) := by decide +kernel
theorem dX1_counterpart_10 : decode cX1_counterpart 10 = .ok (.iload_n 1, 1) := by decide +kernel
theorem dX1_counterpart_11 : decode cX1_counterpart 11 = .ok (.iconst 3, 1) := by decide +kernel
theorem dX1_counterpart_12 : decode cX1_counterpart 12 = .ok (.iadd, 1) := by decide +kernel
theorem dX1_counterpart_13 : decode cX1_counterpart 13 = .ok (.goto 6, 3) := by decide +kernel
theorem dX1_counterpart_16 : decode cX1_counterpart 16 = .ok (.iload_n 1, 1) := by decide +kernel
theorem dX1_counterpart_17 : decode cX1_counterpart 17 = .ok (.iconst 3, 1) := by decide +kernel
theorem dX1_counterpart_18 : decode cX1_counterpart 18 = .ok (.isub, 1) := by decide +kernel
theorem dX1_counterpart_19 : decode cX1_counterpart 19 = .ok (.ireturn, 1) := by decide +kernel
theorem dX1_counterpart_20 : decode cX1_counterpart 20 = .ok (.iload_n 1, 1) := by decide +kernel
theorem dX1_counterpart_21 : decode cX1_counterpart 21 = .ok (.bipush 9, 2) := by decide +kernel
theorem dX1_counterpart_23 : decode cX1_counterpart 23 = .ok (.if_icmp .gt 19, 3) := by decide +kernel
theorem dX1_counterpart_26 : decode cX1_counterpart 26 = .ok (.iload_n 1, 1) := by decide +kernel
theorem dX1_counterpart_27 : decode cX1_counterpart 27 = .ok (.iconst 2, 1) := by decide +kernel
theorem dX1_counterpart_28 : decode cX1_counterpart 28 = .ok (.irem, 1) := by decide +kernel
theorem dX1_counterpart_29 : decode cX1_counterpart 29 = .ok (.ifCond .ne 9, 3) := by decide +kernel
theorem dX1_counterpart_32 : decode cX1_counterpart 32 = .ok (.iload_n 1, 1) := by decide +kernel
theorem dX1_counterpart_33 : decode cX1_counterpart 33 = .ok (.iconst 1, 1) := by decide +kernel
theorem dX1_counterpart_34 : decode cX1_counterpart 34 = .ok (.iadd, 1) := by decide +kernel
theorem dX1_counterpart_35 : decode cX1_counterpart 35 = .ok (.goto 6, 3) := by decide +kernel
theorem dX1_counterpart_38 : decode cX1_counterpart 38 = .ok (.iload_n 1, 1) := by decide +kernel
theorem dX1_counterpart_39 : decode cX1_counterpart 39 = .ok (.iconst 1, 1) := by decide +kernel
theorem dX1_counterpart_40 : decode cX1_counterpart 40 = .ok (.isub, 1) := by decide +kernel
theorem dX1_counterpart_41 : decode cX1_counterpart 41 = .ok (.ireturn, 1) := by decide +kernel
theorem dX1_counterpart_42 : decode cX1_counterpart 42 = .ok (.iload_n 1, 1) := by decide +kernel
theorem dX1_counterpart_43 : decode cX1_counterpart 43 = .ok (.bipush 15, 2) := by decide +kernel
theorem dX1_counterpart_45 : decode cX1_counterpart 45 = .ok (.if_icmp .gt 19, 3) := by decide +kernel
theorem dX1_counterpart_48 : decode cX1_counterpart 48 = .ok (.iload_n 1, 1) := by decide +kernel
theorem dX1_counterpart_49 : decode cX1_counterpart 49 = .ok (.bipush 13, 2) := by decide +kernel
theorem dX1_counterpart_51 : decode cX1_counterpart 51 = .ok (.if_icmp .ge 9, 3) := by decide +kernel
theorem dX1_counterpart_54 : decode cX1_counterpart 54 = .ok (.iload_n 1, 1) := by decide +kernel
theorem dX1_counterpart_55 : decode cX1_counterpart 55 = .ok (.iconst 3, 1) := by decide +kernel
theorem dX1_counterpart_56 : decode cX1_counterpart 56 = .ok (.iadd, 1) := by decide +kernel
theorem dX1_counterpart_57 : decode cX1_counterpart 57 = .ok (.goto 6, 3) := by decide +kernel
theorem dX1_counterpart_60 : decode cX1_counterpart 60 = .ok (.iload_n 1, 1) := by decide +kernel
theorem dX1_counterpart_61 : decode cX1_counterpart 61 = .ok (.iconst 3, 1) := by decide +kernel
theorem dX1_counterpart_62 : decode cX1_counterpart 62 = .ok (.isub, 1) := by decide +kernel
theorem dX1_counterpart_63 : decode cX1_counterpart 63 = .ok (.ireturn, 1) := by decide +kernel
theorem dX1_counterpart_64 : decode cX1_counterpart 64 = .ok (.iload_n 1, 1) := by decide +kernel
theorem dX1_counterpart_65 : decode cX1_counterpart 65 = .ok (.ireturn, 1) := by decide +kernel
theorem dX1_sound_0 : decode cX1_sound 0 = .ok (.aload_n 0, 1) := by decide +kernel
theorem dX1_sound_1 : decode cX1_sound 1 = .ok (.invokevirtual 52, 3) := by decide +kernel
theorem dX1_sound_4 : decode cX1_sound 4 = .ok (.ifCond .ne 5, 3) := by decide +kernel
theorem dX1_sound_7 : decode cX1_sound 7 = .ok (.iconst 0, 1) := by decide +kernel
theorem dX1_sound_8 : decode cX1_sound 8 = .ok (.ireturn, 1) := by decide +kernel
theorem dX1_sound_9 : decode cX1_sound 9 = .ok (.iconst 0, 1) := by decide +kernel
theorem dX1_sound_10 : decode cX1_sound 10 = .ok (.istore_n 1, 1) := by decide +kernel
theorem dX1_sound_11 : decode cX1_sound 11 = .ok (.iconst 0, 1) := by decide +kernel
theorem dX1_sound_12 : decode cX1_sound 12 = .ok (.istore_n 2, 1) := by decide +kernel
theorem dX1_sound_13 : decode cX1_sound 13 = .ok (.iload_n 2, 1) := by decide +kernel
theorem dX1_sound_14 : decode cX1_sound 14 = .ok (.aload_n 0, 1) := by decide +kernel
theorem dX1_sound_15 : decode cX1_sound 15 = .ok (.getfield 16, 3) := by decide +kernel
theorem dX1_sound_18 : decode cX1_sound 18 = .ok (.if_icmp .ge 58, 3) := by decide +kernel
theorem dX1_sound_21 : decode cX1_sound 21 = .ok (.aload_n 0, 1) := by decide +kernel
theorem dX1_sound_22 : decode cX1_sound 22 = .ok (.aload_n 0, 1) := by decide +kernel
theorem dX1_sound_23 : decode cX1_sound 23 = .ok (.getfield 20, 3) := by decide +kernel
theorem dX1_sound_26 : decode cX1_sound 26 = .ok (.iload_n 2, 1) := by decide +kernel
theorem dX1_sound_27 : decode cX1_sound 27 = .ok (.iaload, 1) := by decide +kernel
theorem dX1_sound_28 : decode cX1_sound 28 = .ok (.invokevirtual 49, 3) := by decide +kernel
theorem dX1_sound_31 : decode cX1_sound 31 = .ok (.ifCond .eq 6, 3) := by decide +kernel
theorem dX1_sound_34 : decode cX1_sound 34 = .ok (.iinc 1 1, 3) := by decide +kernel
theorem dX1_sound_37 : decode cX1_sound 37 = .ok (.aload_n 0, 1) := by decide +kernel
theorem dX1_sound_38 : decode cX1_sound 38 = .ok (.getfield 20, 3) := by decide +kernel
theorem dX1_sound_41 : decode cX1_sound 41 = .ok (.iload_n 2, 1) := by decide +kernel
theorem dX1_sound_42 : decode cX1_sound 42 = .ok (.iaload, 1) := by decide +kernel
theorem dX1_sound_43 : decode cX1_sound 43 = .ok (.bipush 16, 2) := by decide +kernel
theorem dX1_sound_45 : decode cX1_sound 45 = .ok (.if_icmp .lt 25, 3) := by decide +kernel
theorem dX1_sound_48 : decode cX1_sound 48 = .ok (.aload_n 0, 1) := by decide +kernel
theorem dX1_sound_49 : decode cX1_sound 49 = .ok (.getfield 26, 3) := by decide +kernel
theorem dX1_sound_52 : decode cX1_sound 52 = .ok (.iload_n 2, 1) := by decide +kernel
theorem dX1_sound_53 : decode cX1_sound 53 = .ok (.aload_n 0, 1) := by decide +kernel
theorem dX1_sound_54 : decode cX1_sound 54 = .ok (.iload_n 2, 1) := by decide +kernel
theorem dX1_sound_55 : decode cX1_sound 55 = .ok (.invokevirtual 56, 3) := by decide +kernel
theorem dX1_sound_58 : decode cX1_sound 58 = .ok (.iastore, 1) := by decide +kernel
theorem dX1_sound_59 : decode cX1_sound 59 = .ok (.aload_n 0, 1) := by decide +kernel
theorem dX1_sound_60 : decode cX1_sound 60 = .ok (.getfield 26, 3) := by decide +kernel
theorem dX1_sound_63 : decode cX1_sound 63 = .ok (.iload_n 2, 1) := by decide +kernel
theorem dX1_sound_64 : decode cX1_sound 64 = .ok (.iaload, 1) := by decide +kernel
theorem dX1_sound_65 : decode cX1_sound 65 = .ok (.ifCond .ge 5, 3) := by decide +kernel
theorem dX1_sound_68 : decode cX1_sound 68 = .ok (.iconst 0, 1) := by decide +kernel
theorem dX1_sound_69 : decode cX1_sound 69 = .ok (.ireturn, 1) := by decide +kernel
theorem dX1_sound_70 : decode cX1_sound 70 = .ok (.iinc 2 1, 3) := by decide +kernel
theorem dX1_sound_73 : decode cX1_sound 73 = .ok (.goto (-60), 3) := by decide +kernel
theorem dX1_sound_76 : decode cX1_sound 76 = .ok (.iload_n 1, 1) := by decide +kernel
theorem dX1_sound_77 : decode cX1_sound 77 = .ok (.iconst 4, 1) := by decide +kernel
theorem dX1_sound_78 : decode cX1_sound 78 = .ok (.if_icmp .gt 7, 3) := by decide +kernel
theorem dX1_sound_81 : decode cX1_sound 81 = .ok (.iconst 1, 1) := by decide +kernel
theorem dX1_sound_82 : decode cX1_sound 82 = .ok (.goto 4, 3) := by decide +kernel
theorem dX1_sound_85 : decode cX1_sound 85 = .ok (.iconst 0, 1) := by decide +kernel
theorem dX1_sound_86 : decode cX1_sound 86 = .ok (.ireturn, 1) := by decide +kernel
theorem dX1_findEnds_0 : decode cX1_findEnds 0 = .ok (.aload_n 0, 1) := by decide +kernel
theorem dX1_findEnds_1 : decode cX1_findEnds 1 = .ok (.getfield 16, 3) := by decide +kernel
theorem dX1_findEnds_4 : decode cX1_findEnds 4 = .ok (.iconst 1, 1) := by decide +kernel
theorem dX1_findEnds_5 : decode cX1_findEnds 5 = .ok (.isub, 1) := by decide +kernel
theorem dX1_findEnds_6 : decode cX1_findEnds 6 = .ok (.istore_n 1, 1) := by decide +kernel
theorem dX1_findEnds_7 : decode cX1_findEnds 7 = .ok (.iload_n 1, 1) := by decide +kernel
theorem dX1_findEnds_8 : decode cX1_findEnds 8 = .ok (.ifCond .lt 59, 3) := by decide +kernel
theorem dX1_findEnds_11 : decode cX1_findEnds 11 = .ok (.iload_n 1, 1) := by decide +kernel
theorem dX1_findEnds_12 : decode cX1_findEnds 12 = .ok (.iconst 1, 1) := by decide +kernel
theorem dX1_findEnds_13 : decode cX1_findEnds 13 = .ok (.iadd, 1) := by decide +kernel
theorem dX1_findEnds_14 : decode cX1_findEnds 14 = .ok (.istore_n 2, 1) := by decide +kernel
theorem dX1_findEnds_15 : decode cX1_findEnds 15 = .ok (.iconst 0, 1) := by decide +kernel
theorem dX1_findEnds_16 : decode cX1_findEnds 16 = .ok (.istore_n 3, 1) := by decide +kernel
theorem dX1_findEnds_17 : decode cX1_findEnds 17 = .ok (.iload_n 3, 1) := by decide +kernel
theorem dX1_findEnds_18 : decode cX1_findEnds 18 = .ok (.aload_n 0, 1) := by decide +kernel
theorem dX1_findEnds_19 : decode cX1_findEnds 19 = .ok (.aload_n 0, 1) := by decide +kernel
theorem dX1_findEnds_20 : decode cX1_findEnds 20 = .ok (.getfield 20, 3) := by decide +kernel
theorem dX1_findEnds_23 : decode cX1_findEnds 23 = .ok (.iload_n 1, 1) := by decide +kernel
theorem dX1_findEnds_24 : decode cX1_findEnds 24 = .ok (.iaload, 1) := by decide +kernel
theorem dX1_findEnds_25 : decode cX1_findEnds 25 = .ok (.invokevirtual 46, 3) := by decide +kernel
theorem dX1_findEnds_28 : decode cX1_findEnds 28 = .ok (.if_icmp .ge 26, 3) := by decide +kernel
theorem dX1_findEnds_31 : decode cX1_findEnds 31 = .ok (.iload_n 2, 1) := by decide +kernel
theorem dX1_findEnds_32 : decode cX1_findEnds 32 = .ok (.aload_n 0, 1) := by decide +kernel
theorem dX1_findEnds_33 : decode cX1_findEnds 33 = .ok (.getfield 16, 3) := by decide +kernel
theorem dX1_findEnds_36 : decode cX1_findEnds 36 = .ok (.if_icmp .lt 5, 3) := by decide +kernel
theorem dX1_findEnds_39 : decode cX1_findEnds 39 = .ok (.iconst 0, 1) := by decide +kernel
theorem dX1_findEnds_40 : decode cX1_findEnds 40 = .ok (.ireturn, 1) := by decide +kernel
theorem dX1_findEnds_41 : decode cX1_findEnds 41 = .ok (.aload_n 0, 1) := by decide +kernel
theorem dX1_findEnds_42 : decode cX1_findEnds 42 = .ok (.getfield 23, 3) := by decide +kernel
theorem dX1_findEnds_45 : decode cX1_findEnds 45 = .ok (.iload_n 2, 1) := by decide +kernel
theorem dX1_findEnds_46 : decode cX1_findEnds 46 = .ok (.iaload, 1) := by decide +kernel
theorem dX1_findEnds_47 : decode cX1_findEnds 47 = .ok (.istore_n 2, 1) := by decide +kernel
theorem dX1_findEnds_48 : decode cX1_findEnds 48 = .ok (.iinc 3 1, 3) := by decide +kernel
theorem dX1_findEnds_51 : decode cX1_findEnds 51 = .ok (.goto (-34), 3) := by decide +kernel
theorem dX1_findEnds_54 : decode cX1_findEnds 54 = .ok (.aload_n 0, 1) := by decide +kernel
theorem dX1_findEnds_55 : decode cX1_findEnds 55 = .ok (.getfield 23, 3) := by decide +kernel
theorem dX1_findEnds_58 : decode cX1_findEnds 58 = .ok (.iload_n 1, 1) := by decide +kernel
theorem dX1_findEnds_59 : decode cX1_findEnds 59 = .ok (.iload_n 2, 1) := by decide +kernel
theorem dX1_findEnds_60 : decode cX1_findEnds 60 = .ok (.iastore, 1) := by decide +kernel
theorem dX1_findEnds_61 : decode cX1_findEnds 61 = .ok (.iinc 1 (-1), 3) := by decide +kernel
theorem dX1_findEnds_64 : decode cX1_findEnds 64 = .ok (.goto (-57), 3) := by decide +kernel
theorem dX1_findEnds_67 : decode cX1_findEnds 67 = .ok (.aload_n 0, 1) := by decide +kernel
theorem dX1_findEnds_68 : decode cX1_findEnds 68 = .ok (.getfield 16, 3) := by decide +kernel
theorem dX1_findEnds_71 : decode cX1_findEnds 71 = .ok (.ifCond .le 20, 3) := by decide +kernel
theorem dX1_findEnds_74 : decode cX1_findEnds 74 = .ok (.aload_n 0, 1) := by decide +kernel
theorem dX1_findEnds_75 : decode cX1_findEnds 75 = .ok (.getfield 23, 3) := by decide +kernel
theorem dX1_findEnds_78 : decode cX1_findEnds 78 = .ok (.iconst 0, 1) := by decide +kernel
theorem dX1_findEnds_79 : decode cX1_findEnds 79 = .ok (.iaload, 1) := by decide +kernel
theorem dX1_findEnds_80 : decode cX1_findEnds 80 = .ok (.aload_n 0, 1) := by decide +kernel
theorem dX1_findEnds_81 : decode cX1_findEnds 81 = .ok (.getfield 16, 3) := by decide +kernel
theorem dX1_findEnds_84 : decode cX1_findEnds 84 = .ok (.if_icmp .ne 7, 3) := by decide +kernel
theorem dX1_findEnds_87 : decode cX1_findEnds 87 = .ok (.iconst 1, 1) := by decide +kernel
theorem dX1_findEnds_88 : decode cX1_findEnds 88 = .ok (.goto 4, 3) := by decide +kernel
theorem dX1_findEnds_91 : decode cX1_findEnds 91 = .ok (.iconst 0, 1) := by decide +kernel
theorem dX1_findEnds_92 : decode cX1_findEnds 92 = .ok (.ireturn, 1) := by decide +kernel
theorem dX1_arity_0 : decode cX1_arity 0 = .ok (.iload_n 1, 1) := by decide +kernel
theorem dX1_arity_1 : decode cX1_arity 1 = .ok (.bipush 6, 2) := by decide +kernel
theorem dX1_arity_3 : decode cX1_arity 3 = .ok (.if_icmp .eq 9, 3) := by decide +kernel
theorem dX1_arity_6 : decode cX1_arity 6 = .ok (.iload_n 1, 1) := by decide +kernel
theorem dX1_arity_7 : decode cX1_arity 7 = .ok (.bipush 7, 2) := by decide +kernel
theorem dX1_arity_9 : decode cX1_arity 9 = .ok (.if_icmp .ne 7, 3) := by decide +kernel
theorem dX1_arity_12 : decode cX1_arity 12 = .ok (.iconst 2, 1) := by decide +kernel
theorem dX1_arity_13 : decode cX1_arity 13 = .ok (.goto 20, 3) := by decide +kernel
theorem dX1_arity_16 : decode cX1_arity 16 = .ok (.iload_n 1, 1) := by decide +kernel
theorem dX1_arity_17 : decode cX1_arity 17 = .ok (.bipush 8, 2) := by decide +kernel
theorem dX1_arity_19 : decode cX1_arity 19 = .ok (.if_icmp .lt 13, 3) := by decide +kernel
theorem dX1_arity_22 : decode cX1_arity 22 = .ok (.iload_n 1, 1) := by decide +kernel
theorem dX1_arity_23 : decode cX1_arity 23 = .ok (.bipush 15, 2) := by decide +kernel
theorem dX1_arity_25 : decode cX1_arity 25 = .ok (.if_icmp .gt 7, 3) := by decide +kernel
theorem dX1_arity_28 : decode cX1_arity 28 = .ok (.iconst 1, 1) := by decide +kernel
theorem dX1_arity_29 : decode cX1_arity 29 = .ok (.goto 4, 3) := by decide +kernel
theorem dX1_arity_32 : decode cX1_arity 32 = .ok (.iconst 0, 1) := by decide +kernel
theorem dX1_arity_33 : decode cX1_arity 33 = .ok (.ireturn, 1) := by decide +kernel
theorem dX1_binds_0 : decode cX1_binds 0 = .ok (.iload_n 1, 1) := by decide +kernel
theorem dX1_binds_1 : decode cX1_binds 1 = .ok (.bipush 10, 2) := by decide +kernel
theorem dX1_binds_3 : decode cX1_binds 3 = .ok (.if_icmp .lt 13, 3) := by decide +kernel
theorem dX1_binds_6 : decode cX1_binds 6 = .ok (.iload_n 1, 1) := by decide +kernel
theorem dX1_binds_7 : decode cX1_binds 7 = .ok (.bipush 15, 2) := by decide +kernel
theorem dX1_binds_9 : decode cX1_binds 9 = .ok (.if_icmp .gt 7, 3) := by decide +kernel
theorem dX1_binds_12 : decode cX1_binds 12 = .ok (.iconst 1, 1) := by decide +kernel
theorem dX1_binds_13 : decode cX1_binds 13 = .ok (.goto 4, 3) := by decide +kernel
theorem dX1_binds_16 : decode cX1_binds 16 = .ok (.iconst 0, 1) := by decide +kernel
theorem dX1_binds_17 : decode cX1_binds 17 = .ok (.ireturn, 1) := by decide +kernel
theorem dX1_binderOf_0 : decode cX1_binderOf 0 = .ok (.iload_n 1, 1) := by decide +kernel
theorem dX1_binderOf_1 : decode cX1_binderOf 1 = .ok (.iconst 1, 1) := by decide +kernel
theorem dX1_binderOf_2 : decode cX1_binderOf 2 = .ok (.isub, 1) := by decide +kernel
theorem dX1_binderOf_3 : decode cX1_binderOf 3 = .ok (.istore_n 2, 1) := by decide +kernel
theorem dX1_binderOf_4 : decode cX1_binderOf 4 = .ok (.iload_n 2, 1) := by decide +kernel
theorem dX1_binderOf_5 : decode cX1_binderOf 5 = .ok (.ifCond .lt 57, 3) := by decide +kernel
theorem dX1_binderOf_8 : decode cX1_binderOf 8 = .ok (.aload_n 0, 1) := by decide +kernel
theorem dX1_binderOf_9 : decode cX1_binderOf 9 = .ok (.aload_n 0, 1) := by decide +kernel
theorem dX1_binderOf_10 : decode cX1_binderOf 10 = .ok (.getfield 20, 3) := by decide +kernel
theorem dX1_binderOf_13 : decode cX1_binderOf 13 = .ok (.iload_n 2, 1) := by decide +kernel
theorem dX1_binderOf_14 : decode cX1_binderOf 14 = .ok (.iaload, 1) := by decide +kernel
theorem dX1_binderOf_15 : decode cX1_binderOf 15 = .ok (.invokevirtual 49, 3) := by decide +kernel
theorem dX1_binderOf_18 : decode cX1_binderOf 18 = .ok (.ifCond .eq 38, 3) := by decide +kernel
theorem dX1_binderOf_21 : decode cX1_binderOf 21 = .ok (.aload_n 0, 1) := by decide +kernel
theorem dX1_binderOf_22 : decode cX1_binderOf 22 = .ok (.getfield 20, 3) := by decide +kernel
theorem dX1_binderOf_25 : decode cX1_binderOf 25 = .ok (.iload_n 2, 1) := by decide +kernel
theorem dX1_binderOf_26 : decode cX1_binderOf 26 = .ok (.iaload, 1) := by decide +kernel
theorem dX1_binderOf_27 : decode cX1_binderOf 27 = .ok (.bipush 10, 2) := by decide +kernel
theorem dX1_binderOf_29 : decode cX1_binderOf 29 = .ok (.isub, 1) := by decide +kernel
theorem dX1_binderOf_30 : decode cX1_binderOf 30 = .ok (.iconst 3, 1) := by decide +kernel
theorem dX1_binderOf_31 : decode cX1_binderOf 31 = .ok (.irem, 1) := by decide +kernel
theorem dX1_binderOf_32 : decode cX1_binderOf 32 = .ok (.aload_n 0, 1) := by decide +kernel
theorem dX1_binderOf_33 : decode cX1_binderOf 33 = .ok (.getfield 20, 3) := by decide +kernel
theorem dX1_binderOf_36 : decode cX1_binderOf 36 = .ok (.iload_n 1, 1) := by decide +kernel
theorem dX1_binderOf_37 : decode cX1_binderOf 37 = .ok (.iaload, 1) := by decide +kernel
theorem dX1_binderOf_38 : decode cX1_binderOf 38 = .ok (.bipush 16, 2) := by decide +kernel
theorem dX1_binderOf_40 : decode cX1_binderOf 40 = .ok (.isub, 1) := by decide +kernel
theorem dX1_binderOf_41 : decode cX1_binderOf 41 = .ok (.if_icmp .ne 15, 3) := by decide +kernel
theorem dX1_binderOf_44 : decode cX1_binderOf 44 = .ok (.iload_n 1, 1) := by decide +kernel
theorem dX1_binderOf_45 : decode cX1_binderOf 45 = .ok (.aload_n 0, 1) := by decide +kernel
theorem dX1_binderOf_46 : decode cX1_binderOf 46 = .ok (.getfield 23, 3) := by decide +kernel
theorem dX1_binderOf_49 : decode cX1_binderOf 49 = .ok (.iload_n 2, 1) := by decide +kernel
theorem dX1_binderOf_50 : decode cX1_binderOf 50 = .ok (.iaload, 1) := by decide +kernel
theorem dX1_binderOf_51 : decode cX1_binderOf 51 = .ok (.if_icmp .ge 5, 3) := by decide +kernel
theorem dX1_binderOf_54 : decode cX1_binderOf 54 = .ok (.iload_n 2, 1) := by decide +kernel
theorem dX1_binderOf_55 : decode cX1_binderOf 55 = .ok (.ireturn, 1) := by decide +kernel
theorem dX1_binderOf_56 : decode cX1_binderOf 56 = .ok (.iinc 2 (-1), 3) := by decide +kernel
theorem dX1_binderOf_59 : decode cX1_binderOf 59 = .ok (.goto (-55), 3) := by decide +kernel
theorem dX1_binderOf_62 : decode cX1_binderOf 62 = .ok (.iconst (-1), 1) := by decide +kernel
theorem dX1_binderOf_63 : decode cX1_binderOf 63 = .ok (.ireturn, 1) := by decide +kernel
theorem dX1_holds_0 : decode cX1_holds 0 = .ok (.aload_n 0, 1) := by decide +kernel
theorem dX1_holds_1 : decode cX1_holds 1 = .ok (.invokevirtual 73, 3) := by decide +kernel
theorem dX1_holds_4 : decode cX1_holds 4 = .ok (.ifCond .eq 11, 3) := by decide +kernel
theorem dX1_holds_7 : decode cX1_holds 7 = .ok (.aload_n 0, 1) := by decide +kernel
theorem dX1_holds_8 : decode cX1_holds 8 = .ok (.iload_n 1, 1) := by decide +kernel
theorem dX1_holds_9 : decode cX1_holds 9 = .ok (.invokevirtual 38, 3) := by decide +kernel
theorem dX1_holds_12 : decode cX1_holds 12 = .ok (.ifCond .ne 5, 3) := by decide +kernel
theorem dX1_holds_15 : decode cX1_holds 15 = .ok (.iconst 0, 1) := by decide +kernel
theorem dX1_holds_16 : decode cX1_holds 16 = .ok (.ireturn, 1) := by decide +kernel
theorem dX1_holds_17 : decode cX1_holds 17 = .ok (.aload_n 0, 1) := by decide +kernel
theorem dX1_holds_18 : decode cX1_holds 18 = .ok (.invokevirtual 76, 3) := by decide +kernel
theorem dX1_holds_21 : decode cX1_holds 21 = .ok (.istore_n 2, 1) := by decide +kernel
theorem dX1_holds_22 : decode cX1_holds 22 = .ok (.aload_n 0, 1) := by decide +kernel
theorem dX1_holds_23 : decode cX1_holds 23 = .ok (.iload_n 2, 1) := by decide +kernel
theorem dX1_holds_24 : decode cX1_holds 24 = .ok (.iload_n 1, 1) := by decide +kernel
theorem dX1_holds_25 : decode cX1_holds 25 = .ok (.invokevirtual 79, 3) := by decide +kernel
theorem dX1_holds_28 : decode cX1_holds 28 = .ok (.ireturn, 1) := by decide +kernel
theorem dX1_find_0 : decode cX1_find 0 = .ok (.iconst 0, 1) := by decide +kernel
theorem dX1_find_1 : decode cX1_find 1 = .ok (.istore_n 1, 1) := by decide +kernel
theorem dX1_find_2 : decode cX1_find 2 = .ok (.iload_n 1, 1) := by decide +kernel
end
section
set_option maxRecDepth 100000
theorem dX1_find_3 : decode cX1_find 3 = .ok (.aload_n 0, 1) := by decide +kernel
theorem dX1_find_4 : decode cX1_find 4 = .ok (.getfield 16, 3) := by decide +kernel
theorem dX1_find_7 : decode cX1_find 7 = .ok (.if_icmp .ge 20, 3) := by decide +kernel
theorem dX1_find_10 : decode cX1_find 10 = .ok (.aload_n 0, 1) := by decide +kernel
theorem dX1_find_11 : decode cX1_find 11 = .ok (.getfield 29, 3) := by decide +kernel
theorem dX1_find_14 : decode cX1_find 14 = .ok (.iload_n 1, 1) := by decide +kernel
theorem dX1_find_15 : decode cX1_find 15 = .ok (.aload_n 0, 1) := by decide +kernel
theorem dX1_find_16 : decode cX1_find 16 = .ok (.iload_n 1, 1) := by decide +kernel
theorem dX1_find_17 : decode cX1_find 17 = .ok (.invokevirtual 63, 3) := by decide +kernel
theorem dX1_find_20 : decode cX1_find 20 = .ok (.iastore, 1) := by decide +kernel
theorem dX1_find_21 : decode cX1_find 21 = .ok (.iinc 1 1, 3) := by decide +kernel
theorem dX1_find_24 : decode cX1_find 24 = .ok (.goto (-22), 3) := by decide +kernel
theorem dX1_find_27 : decode cX1_find 27 = .ok (.aload_n 0, 1) := by decide +kernel
theorem dX1_find_28 : decode cX1_find 28 = .ok (.invokevirtual 66, 3) := by decide +kernel
theorem dX1_find_31 : decode cX1_find 31 = .ok (.istore_n 1, 1) := by decide +kernel
theorem dX1_find_32 : decode cX1_find 32 = .ok (.aload_n 0, 1) := by decide +kernel
theorem dX1_find_33 : decode cX1_find 33 = .ok (.invokevirtual 70, 3) := by decide +kernel
theorem dX1_find_36 : decode cX1_find 36 = .ok (.istore_n 2, 1) := by decide +kernel
theorem dX1_find_37 : decode cX1_find 37 = .ok (.iconst 0, 1) := by decide +kernel
theorem dX1_find_38 : decode cX1_find 38 = .ok (.istore_n 3, 1) := by decide +kernel
theorem dX1_find_39 : decode cX1_find 39 = .ok (.iload_n 3, 1) := by decide +kernel
theorem dX1_find_40 : decode cX1_find 40 = .ok (.sipush 2401, 3) := by decide +kernel
theorem dX1_find_43 : decode cX1_find 43 = .ok (.if_icmp .ge 70, 3) := by decide +kernel
theorem dX1_find_46 : decode cX1_find 46 = .ok (.iload_n 2, 1) := by decide +kernel
theorem dX1_find_47 : decode cX1_find 47 = .ok (.ifCond .lt 66, 3) := by decide +kernel
theorem dX1_find_50 : decode cX1_find 50 = .ok (.aload_n 0, 1) := by decide +kernel
theorem dX1_find_51 : decode cX1_find 51 = .ok (.getfield 29, 3) := by decide +kernel
theorem dX1_find_54 : decode cX1_find 54 = .ok (.iload_n 2, 1) := by decide +kernel
theorem dX1_find_55 : decode cX1_find 55 = .ok (.aload_n 0, 1) := by decide +kernel
theorem dX1_find_56 : decode cX1_find 56 = .ok (.getfield 32, 3) := by decide +kernel
theorem dX1_find_59 : decode cX1_find 59 = .ok (.iload_n 2, 1) := by decide +kernel
theorem dX1_find_60 : decode cX1_find 60 = .ok (.iaload, 1) := by decide +kernel
theorem dX1_find_61 : decode cX1_find 61 = .ok (.iastore, 1) := by decide +kernel
theorem dX1_find_62 : decode cX1_find 62 = .ok (.iload_n 2, 1) := by decide +kernel
theorem dX1_find_63 : decode cX1_find 63 = .ok (.iconst 1, 1) := by decide +kernel
theorem dX1_find_64 : decode cX1_find 64 = .ok (.iadd, 1) := by decide +kernel
theorem dX1_find_65 : decode cX1_find 65 = .ok (.istore 4, 2) := by decide +kernel
theorem dX1_find_67 : decode cX1_find 67 = .ok (.iload 4, 2) := by decide +kernel
theorem dX1_find_69 : decode cX1_find 69 = .ok (.aload_n 0, 1) := by decide +kernel
theorem dX1_find_70 : decode cX1_find 70 = .ok (.getfield 23, 3) := by decide +kernel
theorem dX1_find_73 : decode cX1_find 73 = .ok (.iload_n 2, 1) := by decide +kernel
theorem dX1_find_74 : decode cX1_find 74 = .ok (.iaload, 1) := by decide +kernel
theorem dX1_find_75 : decode cX1_find 75 = .ok (.if_icmp .ge 22, 3) := by decide +kernel
theorem dX1_find_78 : decode cX1_find 78 = .ok (.aload_n 0, 1) := by decide +kernel
theorem dX1_find_79 : decode cX1_find 79 = .ok (.getfield 29, 3) := by decide +kernel
theorem dX1_find_82 : decode cX1_find 82 = .ok (.iload 4, 2) := by decide +kernel
theorem dX1_find_84 : decode cX1_find 84 = .ok (.aload_n 0, 1) := by decide +kernel
theorem dX1_find_85 : decode cX1_find 85 = .ok (.iload 4, 2) := by decide +kernel
theorem dX1_find_87 : decode cX1_find 87 = .ok (.invokevirtual 63, 3) := by decide +kernel
theorem dX1_find_90 : decode cX1_find 90 = .ok (.iastore, 1) := by decide +kernel
theorem dX1_find_91 : decode cX1_find 91 = .ok (.iinc 4 1, 3) := by decide +kernel
theorem dX1_find_94 : decode cX1_find 94 = .ok (.goto (-27), 3) := by decide +kernel
theorem dX1_find_97 : decode cX1_find 97 = .ok (.aload_n 0, 1) := by decide +kernel
theorem dX1_find_98 : decode cX1_find 98 = .ok (.invokevirtual 66, 3) := by decide +kernel
theorem dX1_find_101 : decode cX1_find 101 = .ok (.istore_n 1, 1) := by decide +kernel
theorem dX1_find_102 : decode cX1_find 102 = .ok (.aload_n 0, 1) := by decide +kernel
theorem dX1_find_103 : decode cX1_find 103 = .ok (.invokevirtual 70, 3) := by decide +kernel
theorem dX1_find_106 : decode cX1_find 106 = .ok (.istore_n 2, 1) := by decide +kernel
theorem dX1_find_107 : decode cX1_find 107 = .ok (.iinc 3 1, 3) := by decide +kernel
theorem dX1_find_110 : decode cX1_find 110 = .ok (.goto (-71), 3) := by decide +kernel
theorem dX1_find_113 : decode cX1_find 113 = .ok (.iload_n 1, 1) := by decide +kernel
theorem dX1_find_114 : decode cX1_find 114 = .ok (.ireturn, 1) := by decide +kernel
theorem dX1_first_0 : decode cX1_first 0 = .ok (.aload_n 0, 1) := by decide +kernel
theorem dX1_first_1 : decode cX1_first 1 = .ok (.getfield 20, 3) := by decide +kernel
theorem dX1_first_4 : decode cX1_first 4 = .ok (.iload_n 1, 1) := by decide +kernel
theorem dX1_first_5 : decode cX1_first 5 = .ok (.iaload, 1) := by decide +kernel
theorem dX1_first_6 : decode cX1_first 6 = .ok (.bipush 13, 2) := by decide +kernel
theorem dX1_first_8 : decode cX1_first 8 = .ok (.if_icmp .ge 7, 3) := by decide +kernel
theorem dX1_first_11 : decode cX1_first 11 = .ok (.iconst 0, 1) := by decide +kernel
theorem dX1_first_12 : decode cX1_first 12 = .ok (.goto 5, 3) := by decide +kernel
theorem dX1_first_15 : decode cX1_first 15 = .ok (.bipush 63, 2) := by decide +kernel
theorem dX1_first_17 : decode cX1_first 17 = .ok (.ireturn, 1) := by decide +kernel
theorem dX1_value_0 : decode cX1_value 0 = .ok (.iconst 0, 1) := by decide +kernel
theorem dX1_value_1 : decode cX1_value 1 = .ok (.istore_n 1, 1) := by decide +kernel
theorem dX1_value_2 : decode cX1_value 2 = .ok (.aload_n 0, 1) := by decide +kernel
theorem dX1_value_3 : decode cX1_value 3 = .ok (.getfield 16, 3) := by decide +kernel
theorem dX1_value_6 : decode cX1_value 6 = .ok (.iconst 1, 1) := by decide +kernel
theorem dX1_value_7 : decode cX1_value 7 = .ok (.isub, 1) := by decide +kernel
theorem dX1_value_8 : decode cX1_value 8 = .ok (.istore_n 2, 1) := by decide +kernel
theorem dX1_value_9 : decode cX1_value 9 = .ok (.iload_n 2, 1) := by decide +kernel
theorem dX1_value_10 : decode cX1_value 10 = .ok (.ifCond .lt 234, 3) := by decide +kernel
theorem dX1_value_13 : decode cX1_value 13 = .ok (.aload_n 0, 1) := by decide +kernel
theorem dX1_value_14 : decode cX1_value 14 = .ok (.getfield 20, 3) := by decide +kernel
theorem dX1_value_17 : decode cX1_value 17 = .ok (.iload_n 2, 1) := by decide +kernel
theorem dX1_value_18 : decode cX1_value 18 = .ok (.iaload, 1) := by decide +kernel
theorem dX1_value_19 : decode cX1_value 19 = .ok (.istore_n 3, 1) := by decide +kernel
theorem dX1_value_20 : decode cX1_value 20 = .ok (.iload_n 1, 1) := by decide +kernel
theorem dX1_value_21 : decode cX1_value 21 = .ok (.ifCond .le 14, 3) := by decide +kernel
theorem dX1_value_24 : decode cX1_value 24 = .ok (.aload_n 0, 1) := by decide +kernel
theorem dX1_value_25 : decode cX1_value 25 = .ok (.getfield 35, 3) := by decide +kernel
theorem dX1_value_28 : decode cX1_value 28 = .ok (.iload_n 1, 1) := by decide +kernel
theorem dX1_value_29 : decode cX1_value 29 = .ok (.iconst 1, 1) := by decide +kernel
theorem dX1_value_30 : decode cX1_value 30 = .ok (.isub, 1) := by decide +kernel
theorem dX1_value_31 : decode cX1_value 31 = .ok (.iaload, 1) := by decide +kernel
theorem dX1_value_32 : decode cX1_value 32 = .ok (.goto 4, 3) := by decide +kernel
theorem dX1_value_35 : decode cX1_value 35 = .ok (.iconst 0, 1) := by decide +kernel
theorem dX1_value_36 : decode cX1_value 36 = .ok (.istore 4, 2) := by decide +kernel
theorem dX1_value_38 : decode cX1_value 38 = .ok (.iload_n 1, 1) := by decide +kernel
theorem dX1_value_39 : decode cX1_value 39 = .ok (.iconst 1, 1) := by decide +kernel
theorem dX1_value_40 : decode cX1_value 40 = .ok (.if_icmp .le 14, 3) := by decide +kernel
theorem dX1_value_43 : decode cX1_value 43 = .ok (.aload_n 0, 1) := by decide +kernel
theorem dX1_value_44 : decode cX1_value 44 = .ok (.getfield 35, 3) := by decide +kernel
theorem dX1_value_47 : decode cX1_value 47 = .ok (.iload_n 1, 1) := by decide +kernel
theorem dX1_value_48 : decode cX1_value 48 = .ok (.iconst 2, 1) := by decide +kernel
theorem dX1_value_49 : decode cX1_value 49 = .ok (.isub, 1) := by decide +kernel
theorem dX1_value_50 : decode cX1_value 50 = .ok (.iaload, 1) := by decide +kernel
theorem dX1_value_51 : decode cX1_value 51 = .ok (.goto 4, 3) := by decide +kernel
theorem dX1_value_54 : decode cX1_value 54 = .ok (.iconst 0, 1) := by decide +kernel
theorem dX1_value_55 : decode cX1_value 55 = .ok (.istore 5, 2) := by decide +kernel
theorem dX1_value_57 : decode cX1_value 57 = .ok (.iconst 0, 1) := by decide +kernel
theorem dX1_value_58 : decode cX1_value 58 = .ok (.istore 6, 2) := by decide +kernel
theorem dX1_value_60 : decode cX1_value 60 = .ok (.iload_n 3, 1) := by decide +kernel
theorem dX1_value_61 : decode cX1_value 61 = .ok (.iconst 3, 1) := by decide +kernel
theorem dX1_value_62 : decode cX1_value 62 = .ok (.if_icmp .ge 14, 3) := by decide +kernel
theorem dX1_value_65 : decode cX1_value 65 = .ok (.aload_n 0, 1) := by decide +kernel
theorem dX1_value_66 : decode cX1_value 66 = .ok (.getfield 13, 3) := by decide +kernel
theorem dX1_value_69 : decode cX1_value 69 = .ok (.iload_n 3, 1) := by decide +kernel
theorem dX1_value_70 : decode cX1_value 70 = .ok (.iaload, 1) := by decide +kernel
theorem dX1_value_71 : decode cX1_value 71 = .ok (.istore 6, 2) := by decide +kernel
theorem dX1_value_73 : decode cX1_value 73 = .ok (.goto 136, 3) := by decide +kernel
theorem dX1_value_76 : decode cX1_value 76 = .ok (.iload_n 3, 1) := by decide +kernel
theorem dX1_value_77 : decode cX1_value 77 = .ok (.bipush 6, 2) := by decide +kernel
theorem dX1_value_79 : decode cX1_value 79 = .ok (.if_icmp .ge 21, 3) := by decide +kernel
theorem dX1_value_82 : decode cX1_value 82 = .ok (.bipush 63, 2) := by decide +kernel
theorem dX1_value_84 : decode cX1_value 84 = .ok (.aload_n 0, 1) := by decide +kernel
theorem dX1_value_85 : decode cX1_value 85 = .ok (.getfield 13, 3) := by decide +kernel
theorem dX1_value_88 : decode cX1_value 88 = .ok (.iload_n 3, 1) := by decide +kernel
theorem dX1_value_89 : decode cX1_value 89 = .ok (.iconst 3, 1) := by decide +kernel
theorem dX1_value_90 : decode cX1_value 90 = .ok (.isub, 1) := by decide +kernel
theorem dX1_value_91 : decode cX1_value 91 = .ok (.iaload, 1) := by decide +kernel
theorem dX1_value_92 : decode cX1_value 92 = .ok (.iconst (-1), 1) := by decide +kernel
theorem dX1_value_93 : decode cX1_value 93 = .ok (.ixor, 1) := by decide +kernel
theorem dX1_value_94 : decode cX1_value 94 = .ok (.iand, 1) := by decide +kernel
theorem dX1_value_95 : decode cX1_value 95 = .ok (.istore 6, 2) := by decide +kernel
theorem dX1_value_97 : decode cX1_value 97 = .ok (.goto 112, 3) := by decide +kernel
theorem dX1_value_100 : decode cX1_value 100 = .ok (.iload_n 3, 1) := by decide +kernel
theorem dX1_value_101 : decode cX1_value 101 = .ok (.bipush 8, 2) := by decide +kernel
theorem dX1_value_103 : decode cX1_value 103 = .ok (.if_icmp .ge 27, 3) := by decide +kernel
theorem dX1_value_106 : decode cX1_value 106 = .ok (.iload_n 3, 1) := by decide +kernel
theorem dX1_value_107 : decode cX1_value 107 = .ok (.bipush 6, 2) := by decide +kernel
theorem dX1_value_109 : decode cX1_value 109 = .ok (.if_icmp .ne 11, 3) := by decide +kernel
theorem dX1_value_112 : decode cX1_value 112 = .ok (.iload 4, 2) := by decide +kernel
theorem dX1_value_114 : decode cX1_value 114 = .ok (.iload 5, 2) := by decide +kernel
theorem dX1_value_116 : decode cX1_value 116 = .ok (.iand, 1) := by decide +kernel
theorem dX1_value_117 : decode cX1_value 117 = .ok (.goto 8, 3) := by decide +kernel
theorem dX1_value_120 : decode cX1_value 120 = .ok (.iload 4, 2) := by decide +kernel
theorem dX1_value_122 : decode cX1_value 122 = .ok (.iload 5, 2) := by decide +kernel
theorem dX1_value_124 : decode cX1_value 124 = .ok (.ior, 1) := by decide +kernel
theorem dX1_value_125 : decode cX1_value 125 = .ok (.istore 6, 2) := by decide +kernel
theorem dX1_value_127 : decode cX1_value 127 = .ok (.goto 82, 3) := by decide +kernel
theorem dX1_value_130 : decode cX1_value 130 = .ok (.iload_n 3, 1) := by decide +kernel
theorem dX1_value_131 : decode cX1_value 131 = .ok (.bipush 10, 2) := by decide +kernel
theorem dX1_value_133 : decode cX1_value 133 = .ok (.if_icmp .ge 25, 3) := by decide +kernel
theorem dX1_value_136 : decode cX1_value 136 = .ok (.aload_n 0, 1) := by decide +kernel
theorem dX1_value_137 : decode cX1_value 137 = .ok (.iload 4, 2) := by decide +kernel
theorem dX1_value_139 : decode cX1_value 139 = .ok (.iload_n 3, 1) := by decide +kernel
theorem dX1_value_140 : decode cX1_value 140 = .ok (.bipush 9, 2) := by decide +kernel
theorem dX1_value_142 : decode cX1_value 142 = .ok (.if_icmp .ne 7, 3) := by decide +kernel
theorem dX1_value_145 : decode cX1_value 145 = .ok (.iconst 1, 1) := by decide +kernel
theorem dX1_value_146 : decode cX1_value 146 = .ok (.goto 4, 3) := by decide +kernel
theorem dX1_value_149 : decode cX1_value 149 = .ok (.iconst 0, 1) := by decide +kernel
theorem dX1_value_150 : decode cX1_value 150 = .ok (.invokevirtual 59, 3) := by decide +kernel
theorem dX1_value_153 : decode cX1_value 153 = .ok (.istore 6, 2) := by decide +kernel
theorem dX1_value_155 : decode cX1_value 155 = .ok (.goto 54, 3) := by decide +kernel
theorem dX1_value_158 : decode cX1_value 158 = .ok (.iload_n 3, 1) := by decide +kernel
theorem dX1_value_159 : decode cX1_value 159 = .ok (.bipush 16, 2) := by decide +kernel
theorem dX1_value_161 : decode cX1_value 161 = .ok (.if_icmp .ge 22, 3) := by decide +kernel
theorem dX1_value_164 : decode cX1_value 164 = .ok (.aload_n 0, 1) := by decide +kernel
theorem dX1_value_165 : decode cX1_value 165 = .ok (.getfield 32, 3) := by decide +kernel
theorem dX1_value_168 : decode cX1_value 168 = .ok (.iload_n 2, 1) := by decide +kernel
theorem dX1_value_169 : decode cX1_value 169 = .ok (.iload 4, 2) := by decide +kernel
theorem dX1_value_171 : decode cX1_value 171 = .ok (.iastore, 1) := by decide +kernel
theorem dX1_value_172 : decode cX1_value 172 = .ok (.aload_n 0, 1) := by decide +kernel
theorem dX1_value_173 : decode cX1_value 173 = .ok (.getfield 29, 3) := by decide +kernel
theorem dX1_value_176 : decode cX1_value 176 = .ok (.iload_n 2, 1) := by decide +kernel
theorem dX1_value_177 : decode cX1_value 177 = .ok (.iaload, 1) := by decide +kernel
theorem dX1_value_178 : decode cX1_value 178 = .ok (.istore 6, 2) := by decide +kernel
theorem dX1_value_180 : decode cX1_value 180 = .ok (.goto 29, 3) := by decide +kernel
theorem dX1_value_183 : decode cX1_value 183 = .ok (.aload_n 0, 1) := by decide +kernel
theorem dX1_value_184 : decode cX1_value 184 = .ok (.getfield 29, 3) := by decide +kernel
theorem dX1_value_187 : decode cX1_value 187 = .ok (.aload_n 0, 1) := by decide +kernel
theorem dX1_value_188 : decode cX1_value 188 = .ok (.getfield 26, 3) := by decide +kernel
theorem dX1_value_191 : decode cX1_value 191 = .ok (.iload_n 2, 1) := by decide +kernel
theorem dX1_value_192 : decode cX1_value 192 = .ok (.iaload, 1) := by decide +kernel
theorem dX1_value_193 : decode cX1_value 193 = .ok (.ifCond .ge 7, 3) := by decide +kernel
theorem dX1_value_196 : decode cX1_value 196 = .ok (.iconst 0, 1) := by decide +kernel
theorem dX1_value_197 : decode cX1_value 197 = .ok (.goto 9, 3) := by decide +kernel
theorem dX1_value_200 : decode cX1_value 200 = .ok (.aload_n 0, 1) := by decide +kernel
theorem dX1_value_201 : decode cX1_value 201 = .ok (.getfield 26, 3) := by decide +kernel
theorem dX1_value_204 : decode cX1_value 204 = .ok (.iload_n 2, 1) := by decide +kernel
theorem dX1_value_205 : decode cX1_value 205 = .ok (.iaload, 1) := by decide +kernel
theorem dX1_value_206 : decode cX1_value 206 = .ok (.iaload, 1) := by decide +kernel
theorem dX1_value_207 : decode cX1_value 207 = .ok (.istore 6, 2) := by decide +kernel
theorem dX1_value_209 : decode cX1_value 209 = .ok (.iload_n 1, 1) := by decide +kernel
theorem dX1_value_210 : decode cX1_value 210 = .ok (.aload_n 0, 1) := by decide +kernel
theorem dX1_value_211 : decode cX1_value 211 = .ok (.iload_n 3, 1) := by decide +kernel
theorem dX1_value_212 : decode cX1_value 212 = .ok (.invokevirtual 46, 3) := by decide +kernel
theorem dX1_value_215 : decode cX1_value 215 = .ok (.isub, 1) := by decide +kernel
theorem dX1_value_216 : decode cX1_value 216 = .ok (.iconst 1, 1) := by decide +kernel
theorem dX1_value_217 : decode cX1_value 217 = .ok (.iadd, 1) := by decide +kernel
theorem dX1_value_218 : decode cX1_value 218 = .ok (.istore_n 1, 1) := by decide +kernel
theorem dX1_value_219 : decode cX1_value 219 = .ok (.aload_n 0, 1) := by decide +kernel
theorem dX1_value_220 : decode cX1_value 220 = .ok (.getfield 35, 3) := by decide +kernel
theorem dX1_value_223 : decode cX1_value 223 = .ok (.iload_n 1, 1) := by decide +kernel
theorem dX1_value_224 : decode cX1_value 224 = .ok (.iconst 1, 1) := by decide +kernel
theorem dX1_value_225 : decode cX1_value 225 = .ok (.if_icmp .ge 7, 3) := by decide +kernel
theorem dX1_value_228 : decode cX1_value 228 = .ok (.iconst 0, 1) := by decide +kernel
theorem dX1_value_229 : decode cX1_value 229 = .ok (.goto 6, 3) := by decide +kernel
theorem dX1_value_232 : decode cX1_value 232 = .ok (.iload_n 1, 1) := by decide +kernel
theorem dX1_value_233 : decode cX1_value 233 = .ok (.iconst 1, 1) := by decide +kernel
theorem dX1_value_234 : decode cX1_value 234 = .ok (.isub, 1) := by decide +kernel
theorem dX1_value_235 : decode cX1_value 235 = .ok (.iload 6, 2) := by decide +kernel
theorem dX1_value_237 : decode cX1_value 237 = .ok (.iastore, 1) := by decide +kernel
theorem dX1_value_238 : decode cX1_value 238 = .ok (.iinc 2 (-1), 3) := by decide +kernel
theorem dX1_value_241 : decode cX1_value 241 = .ok (.goto (-232), 3) := by decide +kernel
theorem dX1_value_244 : decode cX1_value 244 = .ok (.aload_n 0, 1) := by decide +kernel
theorem dX1_value_245 : decode cX1_value 245 = .ok (.getfield 35, 3) := by decide +kernel
theorem dX1_value_248 : decode cX1_value 248 = .ok (.iconst 0, 1) := by decide +kernel
theorem dX1_value_249 : decode cX1_value 249 = .ok (.iaload, 1) := by decide +kernel
theorem dX1_value_250 : decode cX1_value 250 = .ok (.ireturn, 1) := by decide +kernel
theorem dX1_stepsInto_0 : decode cX1_stepsInto 0 = .ok (.iconst 0, 1) := by decide +kernel
theorem dX1_stepsInto_1 : decode cX1_stepsInto 1 = .ok (.istore_n 3, 1) := by decide +kernel
theorem dX1_stepsInto_2 : decode cX1_stepsInto 2 = .ok (.iconst 0, 1) := by decide +kernel
theorem dX1_stepsInto_3 : decode cX1_stepsInto 3 = .ok (.istore 4, 2) := by decide +kernel
theorem dX1_stepsInto_5 : decode cX1_stepsInto 5 = .ok (.iload 4, 2) := by decide +kernel
theorem dX1_stepsInto_7 : decode cX1_stepsInto 7 = .ok (.bipush 6, 2) := by decide +kernel
theorem dX1_stepsInto_9 : decode cX1_stepsInto 9 = .ok (.if_icmp .ge 66, 3) := by decide +kernel
theorem dX1_stepsInto_12 : decode cX1_stepsInto 12 = .ok (.iload_n 2, 1) := by decide +kernel
theorem dX1_stepsInto_13 : decode cX1_stepsInto 13 = .ok (.ifCond .eq 25, 3) := by decide +kernel
theorem dX1_stepsInto_16 : decode cX1_stepsInto 16 = .ok (.aload_n 0, 1) := by decide +kernel
theorem dX1_stepsInto_17 : decode cX1_stepsInto 17 = .ok (.getfield 7, 3) := by decide +kernel
theorem dX1_stepsInto_20 : decode cX1_stepsInto 20 = .ok (.iload 4, 2) := by decide +kernel
theorem dX1_stepsInto_22 : decode cX1_stepsInto 22 = .ok (.iaload, 1) := by decide +kernel
theorem dX1_stepsInto_23 : decode cX1_stepsInto 23 = .ok (.iload_n 1, 1) := by decide +kernel
theorem dX1_stepsInto_24 : decode cX1_stepsInto 24 = .ok (.iconst (-1), 1) := by decide +kernel
theorem dX1_stepsInto_25 : decode cX1_stepsInto 25 = .ok (.ixor, 1) := by decide +kernel
theorem dX1_stepsInto_26 : decode cX1_stepsInto 26 = .ok (.iand, 1) := by decide +kernel
theorem dX1_stepsInto_27 : decode cX1_stepsInto 27 = .ok (.ifCond .ne 7, 3) := by decide +kernel
theorem dX1_stepsInto_30 : decode cX1_stepsInto 30 = .ok (.iconst 1, 1) := by decide +kernel
theorem dX1_stepsInto_31 : decode cX1_stepsInto 31 = .ok (.goto 24, 3) := by decide +kernel
theorem dX1_stepsInto_34 : decode cX1_stepsInto 34 = .ok (.iconst 0, 1) := by decide +kernel
theorem dX1_stepsInto_35 : decode cX1_stepsInto 35 = .ok (.goto 20, 3) := by decide +kernel
theorem dX1_stepsInto_38 : decode cX1_stepsInto 38 = .ok (.aload_n 0, 1) := by decide +kernel
theorem dX1_stepsInto_39 : decode cX1_stepsInto 39 = .ok (.getfield 7, 3) := by decide +kernel
theorem dX1_stepsInto_42 : decode cX1_stepsInto 42 = .ok (.iload 4, 2) := by decide +kernel
theorem dX1_stepsInto_44 : decode cX1_stepsInto 44 = .ok (.iaload, 1) := by decide +kernel
theorem dX1_stepsInto_45 : decode cX1_stepsInto 45 = .ok (.iload_n 1, 1) := by decide +kernel
theorem dX1_stepsInto_46 : decode cX1_stepsInto 46 = .ok (.iand, 1) := by decide +kernel
theorem dX1_stepsInto_47 : decode cX1_stepsInto 47 = .ok (.ifCond .eq 7, 3) := by decide +kernel
theorem dX1_stepsInto_50 : decode cX1_stepsInto 50 = .ok (.iconst 1, 1) := by decide +kernel
theorem dX1_stepsInto_51 : decode cX1_stepsInto 51 = .ok (.goto 4, 3) := by decide +kernel
theorem dX1_stepsInto_54 : decode cX1_stepsInto 54 = .ok (.iconst 0, 1) := by decide +kernel
theorem dX1_stepsInto_55 : decode cX1_stepsInto 55 = .ok (.istore 5, 2) := by decide +kernel
theorem dX1_stepsInto_57 : decode cX1_stepsInto 57 = .ok (.iload 5, 2) := by decide +kernel
theorem dX1_stepsInto_59 : decode cX1_stepsInto 59 = .ok (.ifCond .eq 10, 3) := by decide +kernel
theorem dX1_stepsInto_62 : decode cX1_stepsInto 62 = .ok (.iload_n 3, 1) := by decide +kernel
theorem dX1_stepsInto_63 : decode cX1_stepsInto 63 = .ok (.iconst 1, 1) := by decide +kernel
theorem dX1_stepsInto_64 : decode cX1_stepsInto 64 = .ok (.iload 4, 2) := by decide +kernel
theorem dX1_stepsInto_66 : decode cX1_stepsInto 66 = .ok (.ishl, 1) := by decide +kernel
theorem dX1_stepsInto_67 : decode cX1_stepsInto 67 = .ok (.ior, 1) := by decide +kernel
theorem dX1_stepsInto_68 : decode cX1_stepsInto 68 = .ok (.istore_n 3, 1) := by decide +kernel
theorem dX1_stepsInto_69 : decode cX1_stepsInto 69 = .ok (.iinc 4 1, 3) := by decide +kernel
theorem dX1_stepsInto_72 : decode cX1_stepsInto 72 = .ok (.goto (-67), 3) := by decide +kernel
theorem dX1_stepsInto_75 : decode cX1_stepsInto 75 = .ok (.iload_n 3, 1) := by decide +kernel
theorem dX1_stepsInto_76 : decode cX1_stepsInto 76 = .ok (.ireturn, 1) := by decide +kernel
theorem dX1_lastOpen_0 : decode cX1_lastOpen 0 = .ok (.aload_n 0, 1) := by decide +kernel
theorem dX1_lastOpen_1 : decode cX1_lastOpen 1 = .ok (.getfield 16, 3) := by decide +kernel
theorem dX1_lastOpen_4 : decode cX1_lastOpen 4 = .ok (.iconst 1, 1) := by decide +kernel
theorem dX1_lastOpen_5 : decode cX1_lastOpen 5 = .ok (.isub, 1) := by decide +kernel
theorem dX1_lastOpen_6 : decode cX1_lastOpen 6 = .ok (.istore_n 1, 1) := by decide +kernel
theorem dX1_lastOpen_7 : decode cX1_lastOpen 7 = .ok (.iload_n 1, 1) := by decide +kernel
theorem dX1_lastOpen_8 : decode cX1_lastOpen 8 = .ok (.ifCond .lt 39, 3) := by decide +kernel
theorem dX1_lastOpen_11 : decode cX1_lastOpen 11 = .ok (.aload_n 0, 1) := by decide +kernel
theorem dX1_lastOpen_12 : decode cX1_lastOpen 12 = .ok (.aload_n 0, 1) := by decide +kernel
theorem dX1_lastOpen_13 : decode cX1_lastOpen 13 = .ok (.getfield 20, 3) := by decide +kernel
theorem dX1_lastOpen_16 : decode cX1_lastOpen 16 = .ok (.iload_n 1, 1) := by decide +kernel
theorem dX1_lastOpen_17 : decode cX1_lastOpen 17 = .ok (.iaload, 1) := by decide +kernel
theorem dX1_lastOpen_18 : decode cX1_lastOpen 18 = .ok (.invokevirtual 49, 3) := by decide +kernel
theorem dX1_lastOpen_21 : decode cX1_lastOpen 21 = .ok (.ifCond .eq 20, 3) := by decide +kernel
theorem dX1_lastOpen_24 : decode cX1_lastOpen 24 = .ok (.aload_n 0, 1) := by decide +kernel
end
section
set_option maxRecDepth 100000
theorem dX1_lastOpen_25 : decode cX1_lastOpen 25 = .ok (.getfield 32, 3) := by decide +kernel
theorem dX1_lastOpen_28 : decode cX1_lastOpen 28 = .ok (.iload_n 1, 1) := by decide +kernel
theorem dX1_lastOpen_29 : decode cX1_lastOpen 29 = .ok (.iaload, 1) := by decide +kernel
theorem dX1_lastOpen_30 : decode cX1_lastOpen 30 = .ok (.aload_n 0, 1) := by decide +kernel
theorem dX1_lastOpen_31 : decode cX1_lastOpen 31 = .ok (.getfield 29, 3) := by decide +kernel
theorem dX1_lastOpen_34 : decode cX1_lastOpen 34 = .ok (.iload_n 1, 1) := by decide +kernel
theorem dX1_lastOpen_35 : decode cX1_lastOpen 35 = .ok (.iaload, 1) := by decide +kernel
theorem dX1_lastOpen_36 : decode cX1_lastOpen 36 = .ok (.if_icmp .eq 5, 3) := by decide +kernel
theorem dX1_lastOpen_39 : decode cX1_lastOpen 39 = .ok (.iload_n 1, 1) := by decide +kernel
theorem dX1_lastOpen_40 : decode cX1_lastOpen 40 = .ok (.ireturn, 1) := by decide +kernel
theorem dX1_lastOpen_41 : decode cX1_lastOpen 41 = .ok (.iinc 1 (-1), 3) := by decide +kernel
theorem dX1_lastOpen_44 : decode cX1_lastOpen 44 = .ok (.goto (-37), 3) := by decide +kernel
theorem dX1_lastOpen_47 : decode cX1_lastOpen 47 = .ok (.iconst (-1), 1) := by decide +kernel
theorem dX1_lastOpen_48 : decode cX1_lastOpen 48 = .ok (.ireturn, 1) := by decide +kernel
theorem dX1_in_0 : decode cX1_in 0 = .ok (.iload_n 1, 1) := by decide +kernel
theorem dX1_in_1 : decode cX1_in 1 = .ok (.iload_n 2, 1) := by decide +kernel
theorem dX1_in_2 : decode cX1_in 2 = .ok (.ishr, 1) := by decide +kernel
theorem dX1_in_3 : decode cX1_in 3 = .ok (.iconst 1, 1) := by decide +kernel
theorem dX1_in_4 : decode cX1_in 4 = .ok (.iand, 1) := by decide +kernel
theorem dX1_in_5 : decode cX1_in 5 = .ok (.iconst 1, 1) := by decide +kernel
theorem dX1_in_6 : decode cX1_in 6 = .ok (.if_icmp .ne 7, 3) := by decide +kernel
theorem dX1_in_9 : decode cX1_in 9 = .ok (.iconst 1, 1) := by decide +kernel
theorem dX1_in_10 : decode cX1_in 10 = .ok (.goto 4, 3) := by decide +kernel
theorem dX1_in_13 : decode cX1_in 13 = .ok (.iconst 0, 1) := by decide +kernel
theorem dX1_in_14 : decode cX1_in 14 = .ok (.ireturn, 1) := by decide +kernel
theorem dX1_set_0 : decode cX1_set 0 = .ok (.aload_n 0, 1) := by decide +kernel
theorem dX1_set_1 : decode cX1_set 1 = .ok (.invokevirtual 73, 3) := by decide +kernel
theorem dX1_set_4 : decode cX1_set 4 = .ok (.ifCond .eq 10, 3) := by decide +kernel
theorem dX1_set_7 : decode cX1_set 7 = .ok (.aload_n 0, 1) := by decide +kernel
theorem dX1_set_8 : decode cX1_set 8 = .ok (.invokevirtual 76, 3) := by decide +kernel
theorem dX1_set_11 : decode cX1_set 11 = .ok (.goto 5, 3) := by decide +kernel
theorem dX1_set_14 : decode cX1_set 14 = .ok (.bipush (-3), 2) := by decide +kernel
theorem dX1_set_16 : decode cX1_set 16 = .ok (.ireturn, 1) := by decide +kernel
theorem dX1_depth_0 : decode cX1_depth 0 = .ok (.aload_n 0, 1) := by decide +kernel
theorem dX1_depth_1 : decode cX1_depth 1 = .ok (.invokevirtual 73, 3) := by decide +kernel
theorem dX1_depth_4 : decode cX1_depth 4 = .ok (.ifCond .ne 6, 3) := by decide +kernel
theorem dX1_depth_7 : decode cX1_depth 7 = .ok (.bipush (-3), 2) := by decide +kernel
theorem dX1_depth_9 : decode cX1_depth 9 = .ok (.ireturn, 1) := by decide +kernel
theorem dX1_depth_10 : decode cX1_depth 10 = .ok (.iconst 0, 1) := by decide +kernel
theorem dX1_depth_11 : decode cX1_depth 11 = .ok (.istore_n 1, 1) := by decide +kernel
theorem dX1_depth_12 : decode cX1_depth 12 = .ok (.iconst 0, 1) := by decide +kernel
theorem dX1_depth_13 : decode cX1_depth 13 = .ok (.istore_n 2, 1) := by decide +kernel
theorem dX1_depth_14 : decode cX1_depth 14 = .ok (.iload_n 2, 1) := by decide +kernel
theorem dX1_depth_15 : decode cX1_depth 15 = .ok (.aload_n 0, 1) := by decide +kernel
theorem dX1_depth_16 : decode cX1_depth 16 = .ok (.getfield 16, 3) := by decide +kernel
theorem dX1_depth_19 : decode cX1_depth 19 = .ok (.if_icmp .ge 74, 3) := by decide +kernel
theorem dX1_depth_22 : decode cX1_depth 22 = .ok (.iconst 0, 1) := by decide +kernel
theorem dX1_depth_23 : decode cX1_depth 23 = .ok (.istore_n 3, 1) := by decide +kernel
theorem dX1_depth_24 : decode cX1_depth 24 = .ok (.iconst 0, 1) := by decide +kernel
theorem dX1_depth_25 : decode cX1_depth 25 = .ok (.istore 4, 2) := by decide +kernel
theorem dX1_depth_27 : decode cX1_depth 27 = .ok (.iload 4, 2) := by decide +kernel
theorem dX1_depth_29 : decode cX1_depth 29 = .ok (.iload_n 2, 1) := by decide +kernel
theorem dX1_depth_30 : decode cX1_depth 30 = .ok (.if_icmp .gt 50, 3) := by decide +kernel
theorem dX1_depth_33 : decode cX1_depth 33 = .ok (.aload_n 0, 1) := by decide +kernel
theorem dX1_depth_34 : decode cX1_depth 34 = .ok (.aload_n 0, 1) := by decide +kernel
theorem dX1_depth_35 : decode cX1_depth 35 = .ok (.getfield 20, 3) := by decide +kernel
theorem dX1_depth_38 : decode cX1_depth 38 = .ok (.iload 4, 2) := by decide +kernel
theorem dX1_depth_40 : decode cX1_depth 40 = .ok (.iaload, 1) := by decide +kernel
theorem dX1_depth_41 : decode cX1_depth 41 = .ok (.invokevirtual 49, 3) := by decide +kernel
theorem dX1_depth_44 : decode cX1_depth 44 = .ok (.ifCond .eq 30, 3) := by decide +kernel
theorem dX1_depth_47 : decode cX1_depth 47 = .ok (.aload_n 0, 1) := by decide +kernel
theorem dX1_depth_48 : decode cX1_depth 48 = .ok (.aload_n 0, 1) := by decide +kernel
theorem dX1_depth_49 : decode cX1_depth 49 = .ok (.getfield 20, 3) := by decide +kernel
theorem dX1_depth_52 : decode cX1_depth 52 = .ok (.iload_n 2, 1) := by decide +kernel
theorem dX1_depth_53 : decode cX1_depth 53 = .ok (.iaload, 1) := by decide +kernel
theorem dX1_depth_54 : decode cX1_depth 54 = .ok (.invokevirtual 49, 3) := by decide +kernel
theorem dX1_depth_57 : decode cX1_depth 57 = .ok (.ifCond .eq 17, 3) := by decide +kernel
theorem dX1_depth_60 : decode cX1_depth 60 = .ok (.iload_n 2, 1) := by decide +kernel
theorem dX1_depth_61 : decode cX1_depth 61 = .ok (.aload_n 0, 1) := by decide +kernel
theorem dX1_depth_62 : decode cX1_depth 62 = .ok (.getfield 23, 3) := by decide +kernel
theorem dX1_depth_65 : decode cX1_depth 65 = .ok (.iload 4, 2) := by decide +kernel
theorem dX1_depth_67 : decode cX1_depth 67 = .ok (.iaload, 1) := by decide +kernel
theorem dX1_depth_68 : decode cX1_depth 68 = .ok (.if_icmp .ge 6, 3) := by decide +kernel
theorem dX1_depth_71 : decode cX1_depth 71 = .ok (.iinc 3 1, 3) := by decide +kernel
theorem dX1_depth_74 : decode cX1_depth 74 = .ok (.iinc 4 1, 3) := by decide +kernel
theorem dX1_depth_77 : decode cX1_depth 77 = .ok (.goto (-50), 3) := by decide +kernel
theorem dX1_depth_80 : decode cX1_depth 80 = .ok (.iload_n 3, 1) := by decide +kernel
theorem dX1_depth_81 : decode cX1_depth 81 = .ok (.iload_n 1, 1) := by decide +kernel
theorem dX1_depth_82 : decode cX1_depth 82 = .ok (.if_icmp .le 5, 3) := by decide +kernel
theorem dX1_depth_85 : decode cX1_depth 85 = .ok (.iload_n 3, 1) := by decide +kernel
theorem dX1_depth_86 : decode cX1_depth 86 = .ok (.istore_n 1, 1) := by decide +kernel
theorem dX1_depth_87 : decode cX1_depth 87 = .ok (.iinc 2 1, 3) := by decide +kernel
theorem dX1_depth_90 : decode cX1_depth 90 = .ok (.goto (-76), 3) := by decide +kernel
theorem dX1_depth_93 : decode cX1_depth 93 = .ok (.iload_n 1, 1) := by decide +kernel
theorem dX1_depth_94 : decode cX1_depth 94 = .ok (.ireturn, 1) := by decide +kernel
theorem dX1_steps_0 : decode cX1_steps 0 = .ok (.aload_n 0, 1) := by decide +kernel
theorem dX1_steps_1 : decode cX1_steps 1 = .ok (.iload_n 1, 1) := by decide +kernel
theorem dX1_steps_2 : decode cX1_steps 2 = .ok (.invokevirtual 38, 3) := by decide +kernel
theorem dX1_steps_5 : decode cX1_steps 5 = .ok (.ifCond .eq 12, 3) := by decide +kernel
theorem dX1_steps_8 : decode cX1_steps 8 = .ok (.aload_n 0, 1) := by decide +kernel
theorem dX1_steps_9 : decode cX1_steps 9 = .ok (.getfield 7, 3) := by decide +kernel
theorem dX1_steps_12 : decode cX1_steps 12 = .ok (.iload_n 1, 1) := by decide +kernel
theorem dX1_steps_13 : decode cX1_steps 13 = .ok (.iaload, 1) := by decide +kernel
theorem dX1_steps_14 : decode cX1_steps 14 = .ok (.goto 4, 3) := by decide +kernel
theorem dX1_steps_17 : decode cX1_steps 17 = .ok (.iconst (-1), 1) := by decide +kernel
theorem dX1_steps_18 : decode cX1_steps 18 = .ok (.ireturn, 1) := by decide +kernel
theorem dL_law_0 : decode cL_law 0 = .ok (.new 7, 3) := by decide +kernel
theorem dL_law_3 : decode cL_law 3 = .ok (.dup, 1) := by decide +kernel
theorem dL_law_4 : decode cL_law 4 = .ok (.invokespecial 9, 3) := by decide +kernel
theorem dL_law_7 : decode cL_law 7 = .ok (.astore_n 1, 1) := by decide +kernel
theorem dL_law_8 : decode cL_law 8 = .ok (.new 10, 3) := by decide +kernel
theorem dL_law_11 : decode cL_law 11 = .ok (.dup, 1) := by decide +kernel
theorem dL_law_12 : decode cL_law 12 = .ok (.invokespecial 12, 3) := by decide +kernel
theorem dL_law_15 : decode cL_law 15 = .ok (.astore_n 2, 1) := by decide +kernel
theorem dL_law_16 : decode cL_law 16 = .ok (.iconst 0, 1) := by decide +kernel
theorem dL_law_17 : decode cL_law 17 = .ok (.istore_n 3, 1) := by decide +kernel
theorem dL_law_18 : decode cL_law 18 = .ok (.iload_n 3, 1) := by decide +kernel
theorem dL_law_19 : decode cL_law 19 = .ok (.aload_n 0, 1) := by decide +kernel
theorem dL_law_20 : decode cL_law 20 = .ok (.arraylength, 1) := by decide +kernel
theorem dL_law_21 : decode cL_law 21 = .ok (.iconst 4, 1) := by decide +kernel
theorem dL_law_22 : decode cL_law 22 = .ok (.isub, 1) := by decide +kernel
theorem dL_law_23 : decode cL_law 23 = .ok (.if_icmp .gt 297, 3) := by decide +kernel
theorem dL_law_26 : decode cL_law 26 = .ok (.aload_n 0, 1) := by decide +kernel
theorem dL_law_27 : decode cL_law 27 = .ok (.iload_n 3, 1) := by decide +kernel
theorem dL_law_28 : decode cL_law 28 = .ok (.iaload, 1) := by decide +kernel
theorem dL_law_29 : decode cL_law 29 = .ok (.bipush 15, 2) := by decide +kernel
theorem dL_law_31 : decode cL_law 31 = .ok (.iand, 1) := by decide +kernel
theorem dL_law_32 : decode cL_law 32 = .ok (.tableswitch 282 0 9 #[56, 115, 148, 171, 184, 197, 210, 233, 246, 259], 56) := by decide +kernel
theorem dL_law_88 : decode cL_law 88 = .ok (.aload_n 1, 1) := by decide +kernel
theorem dL_law_89 : decode cL_law 89 = .ok (.aload_n 0, 1) := by decide +kernel
theorem dL_law_90 : decode cL_law 90 = .ok (.iload_n 3, 1) := by decide +kernel
theorem dL_law_91 : decode cL_law 91 = .ok (.iconst 1, 1) := by decide +kernel
theorem dL_law_92 : decode cL_law 92 = .ok (.iadd, 1) := by decide +kernel
theorem dL_law_93 : decode cL_law 93 = .ok (.iaload, 1) := by decide +kernel
theorem dL_law_94 : decode cL_law 94 = .ok (.aload_n 0, 1) := by decide +kernel
theorem dL_law_95 : decode cL_law 95 = .ok (.iload_n 3, 1) := by decide +kernel
theorem dL_law_96 : decode cL_law 96 = .ok (.iconst 2, 1) := by decide +kernel
theorem dL_law_97 : decode cL_law 97 = .ok (.iadd, 1) := by decide +kernel
theorem dL_law_98 : decode cL_law 98 = .ok (.iaload, 1) := by decide +kernel
theorem dL_law_99 : decode cL_law 99 = .ok (.aload_n 0, 1) := by decide +kernel
theorem dL_law_100 : decode cL_law 100 = .ok (.iload_n 3, 1) := by decide +kernel
theorem dL_law_101 : decode cL_law 101 = .ok (.iconst 3, 1) := by decide +kernel
theorem dL_law_102 : decode cL_law 102 = .ok (.iadd, 1) := by decide +kernel
theorem dL_law_103 : decode cL_law 103 = .ok (.iaload, 1) := by decide +kernel
theorem dL_law_104 : decode cL_law 104 = .ok (.ifCond .eq 7, 3) := by decide +kernel
theorem dL_law_107 : decode cL_law 107 = .ok (.iconst 1, 1) := by decide +kernel
theorem dL_law_108 : decode cL_law 108 = .ok (.goto 4, 3) := by decide +kernel
theorem dL_law_111 : decode cL_law 111 = .ok (.iconst 0, 1) := by decide +kernel
theorem dL_law_112 : decode cL_law 112 = .ok (.invokevirtual 13, 3) := by decide +kernel
theorem dL_law_115 : decode cL_law 115 = .ok (.aload_n 2, 1) := by decide +kernel
theorem dL_law_116 : decode cL_law 116 = .ok (.aload_n 0, 1) := by decide +kernel
theorem dL_law_117 : decode cL_law 117 = .ok (.iload_n 3, 1) := by decide +kernel
theorem dL_law_118 : decode cL_law 118 = .ok (.iconst 1, 1) := by decide +kernel
theorem dL_law_119 : decode cL_law 119 = .ok (.iadd, 1) := by decide +kernel
theorem dL_law_120 : decode cL_law 120 = .ok (.iaload, 1) := by decide +kernel
theorem dL_law_121 : decode cL_law 121 = .ok (.aload_n 0, 1) := by decide +kernel
theorem dL_law_122 : decode cL_law 122 = .ok (.iload_n 3, 1) := by decide +kernel
theorem dL_law_123 : decode cL_law 123 = .ok (.iconst 2, 1) := by decide +kernel
theorem dL_law_124 : decode cL_law 124 = .ok (.iadd, 1) := by decide +kernel
theorem dL_law_125 : decode cL_law 125 = .ok (.iaload, 1) := by decide +kernel
theorem dL_law_126 : decode cL_law 126 = .ok (.aload_n 0, 1) := by decide +kernel
theorem dL_law_127 : decode cL_law 127 = .ok (.iload_n 3, 1) := by decide +kernel
theorem dL_law_128 : decode cL_law 128 = .ok (.iconst 3, 1) := by decide +kernel
theorem dL_law_129 : decode cL_law 129 = .ok (.iadd, 1) := by decide +kernel
theorem dL_law_130 : decode cL_law 130 = .ok (.iaload, 1) := by decide +kernel
theorem dL_law_131 : decode cL_law 131 = .ok (.ifCond .eq 7, 3) := by decide +kernel
theorem dL_law_134 : decode cL_law 134 = .ok (.iconst 1, 1) := by decide +kernel
theorem dL_law_135 : decode cL_law 135 = .ok (.goto 4, 3) := by decide +kernel
theorem dL_law_138 : decode cL_law 138 = .ok (.iconst 0, 1) := by decide +kernel
theorem dL_law_139 : decode cL_law 139 = .ok (.invokevirtual 17, 3) := by decide +kernel
theorem dL_law_142 : decode cL_law 142 = .ok (.if_icmp .eq 172, 3) := by decide +kernel
theorem dL_law_145 : decode cL_law 145 = .ok (.iconst 0, 1) := by decide +kernel
theorem dL_law_146 : decode cL_law 146 = .ok (.ireturn, 1) := by decide +kernel
theorem dL_law_147 : decode cL_law 147 = .ok (.aload_n 1, 1) := by decide +kernel
theorem dL_law_148 : decode cL_law 148 = .ok (.aload_n 0, 1) := by decide +kernel
theorem dL_law_149 : decode cL_law 149 = .ok (.iload_n 3, 1) := by decide +kernel
theorem dL_law_150 : decode cL_law 150 = .ok (.iconst 1, 1) := by decide +kernel
theorem dL_law_151 : decode cL_law 151 = .ok (.iadd, 1) := by decide +kernel
theorem dL_law_152 : decode cL_law 152 = .ok (.iaload, 1) := by decide +kernel
theorem dL_law_153 : decode cL_law 153 = .ok (.aload_n 0, 1) := by decide +kernel
theorem dL_law_154 : decode cL_law 154 = .ok (.iload_n 3, 1) := by decide +kernel
theorem dL_law_155 : decode cL_law 155 = .ok (.iconst 2, 1) := by decide +kernel
theorem dL_law_156 : decode cL_law 156 = .ok (.iadd, 1) := by decide +kernel
theorem dL_law_157 : decode cL_law 157 = .ok (.iaload, 1) := by decide +kernel
theorem dL_law_158 : decode cL_law 158 = .ok (.invokevirtual 18, 3) := by decide +kernel
theorem dL_law_161 : decode cL_law 161 = .ok (.aload_n 2, 1) := by decide +kernel
theorem dL_law_162 : decode cL_law 162 = .ok (.aload_n 0, 1) := by decide +kernel
theorem dL_law_163 : decode cL_law 163 = .ok (.iload_n 3, 1) := by decide +kernel
theorem dL_law_164 : decode cL_law 164 = .ok (.iconst 1, 1) := by decide +kernel
theorem dL_law_165 : decode cL_law 165 = .ok (.iadd, 1) := by decide +kernel
theorem dL_law_166 : decode cL_law 166 = .ok (.iaload, 1) := by decide +kernel
theorem dL_law_167 : decode cL_law 167 = .ok (.aload_n 0, 1) := by decide +kernel
theorem dL_law_168 : decode cL_law 168 = .ok (.iload_n 3, 1) := by decide +kernel
theorem dL_law_169 : decode cL_law 169 = .ok (.iconst 2, 1) := by decide +kernel
theorem dL_law_170 : decode cL_law 170 = .ok (.iadd, 1) := by decide +kernel
theorem dL_law_171 : decode cL_law 171 = .ok (.iaload, 1) := by decide +kernel
theorem dL_law_172 : decode cL_law 172 = .ok (.invokevirtual 22, 3) := by decide +kernel
theorem dL_law_175 : decode cL_law 175 = .ok (.if_icmp .eq 139, 3) := by decide +kernel
theorem dL_law_178 : decode cL_law 178 = .ok (.iconst 0, 1) := by decide +kernel
theorem dL_law_179 : decode cL_law 179 = .ok (.ireturn, 1) := by decide +kernel
theorem dL_law_180 : decode cL_law 180 = .ok (.aload_n 1, 1) := by decide +kernel
theorem dL_law_181 : decode cL_law 181 = .ok (.aload_n 0, 1) := by decide +kernel
theorem dL_law_182 : decode cL_law 182 = .ok (.iload_n 3, 1) := by decide +kernel
theorem dL_law_183 : decode cL_law 183 = .ok (.iconst 1, 1) := by decide +kernel
theorem dL_law_184 : decode cL_law 184 = .ok (.iadd, 1) := by decide +kernel
theorem dL_law_185 : decode cL_law 185 = .ok (.iaload, 1) := by decide +kernel
theorem dL_law_186 : decode cL_law 186 = .ok (.invokevirtual 23, 3) := by decide +kernel
theorem dL_law_189 : decode cL_law 189 = .ok (.aload_n 2, 1) := by decide +kernel
theorem dL_law_190 : decode cL_law 190 = .ok (.aload_n 0, 1) := by decide +kernel
theorem dL_law_191 : decode cL_law 191 = .ok (.iload_n 3, 1) := by decide +kernel
theorem dL_law_192 : decode cL_law 192 = .ok (.iconst 1, 1) := by decide +kernel
theorem dL_law_193 : decode cL_law 193 = .ok (.iadd, 1) := by decide +kernel
theorem dL_law_194 : decode cL_law 194 = .ok (.iaload, 1) := by decide +kernel
theorem dL_law_195 : decode cL_law 195 = .ok (.invokevirtual 27, 3) := by decide +kernel
theorem dL_law_198 : decode cL_law 198 = .ok (.if_icmp .eq 116, 3) := by decide +kernel
theorem dL_law_201 : decode cL_law 201 = .ok (.iconst 0, 1) := by decide +kernel
theorem dL_law_202 : decode cL_law 202 = .ok (.ireturn, 1) := by decide +kernel
theorem dL_law_203 : decode cL_law 203 = .ok (.aload_n 1, 1) := by decide +kernel
theorem dL_law_204 : decode cL_law 204 = .ok (.invokevirtual 28, 3) := by decide +kernel
theorem dL_law_207 : decode cL_law 207 = .ok (.aload_n 2, 1) := by decide +kernel
theorem dL_law_208 : decode cL_law 208 = .ok (.invokevirtual 32, 3) := by decide +kernel
theorem dL_law_211 : decode cL_law 211 = .ok (.if_icmp .eq 103, 3) := by decide +kernel
theorem dL_law_214 : decode cL_law 214 = .ok (.iconst 0, 1) := by decide +kernel
theorem dL_law_215 : decode cL_law 215 = .ok (.ireturn, 1) := by decide +kernel
theorem dL_law_216 : decode cL_law 216 = .ok (.aload_n 1, 1) := by decide +kernel
theorem dL_law_217 : decode cL_law 217 = .ok (.invokevirtual 33, 3) := by decide +kernel
theorem dL_law_220 : decode cL_law 220 = .ok (.aload_n 2, 1) := by decide +kernel
theorem dL_law_221 : decode cL_law 221 = .ok (.invokevirtual 36, 3) := by decide +kernel
theorem dL_law_224 : decode cL_law 224 = .ok (.if_icmp .eq 90, 3) := by decide +kernel
theorem dL_law_227 : decode cL_law 227 = .ok (.iconst 0, 1) := by decide +kernel
theorem dL_law_228 : decode cL_law 228 = .ok (.ireturn, 1) := by decide +kernel
theorem dL_law_229 : decode cL_law 229 = .ok (.aload_n 1, 1) := by decide +kernel
theorem dL_law_230 : decode cL_law 230 = .ok (.invokevirtual 37, 3) := by decide +kernel
theorem dL_law_233 : decode cL_law 233 = .ok (.aload_n 2, 1) := by decide +kernel
theorem dL_law_234 : decode cL_law 234 = .ok (.invokevirtual 41, 3) := by decide +kernel
theorem dL_law_237 : decode cL_law 237 = .ok (.if_icmp .eq 77, 3) := by decide +kernel
theorem dL_law_240 : decode cL_law 240 = .ok (.iconst 0, 1) := by decide +kernel
theorem dL_law_241 : decode cL_law 241 = .ok (.ireturn, 1) := by decide +kernel
theorem dL_law_242 : decode cL_law 242 = .ok (.aload_n 1, 1) := by decide +kernel
theorem dL_law_243 : decode cL_law 243 = .ok (.aload_n 0, 1) := by decide +kernel
theorem dL_law_244 : decode cL_law 244 = .ok (.iload_n 3, 1) := by decide +kernel
theorem dL_law_245 : decode cL_law 245 = .ok (.iconst 1, 1) := by decide +kernel
theorem dL_law_246 : decode cL_law 246 = .ok (.iadd, 1) := by decide +kernel
theorem dL_law_247 : decode cL_law 247 = .ok (.iaload, 1) := by decide +kernel
theorem dL_law_248 : decode cL_law 248 = .ok (.invokevirtual 42, 3) := by decide +kernel
theorem dL_law_251 : decode cL_law 251 = .ok (.aload_n 2, 1) := by decide +kernel
theorem dL_law_252 : decode cL_law 252 = .ok (.aload_n 0, 1) := by decide +kernel
theorem dL_law_253 : decode cL_law 253 = .ok (.iload_n 3, 1) := by decide +kernel
theorem dL_law_254 : decode cL_law 254 = .ok (.iconst 1, 1) := by decide +kernel
theorem dL_law_255 : decode cL_law 255 = .ok (.iadd, 1) := by decide +kernel
theorem dL_law_256 : decode cL_law 256 = .ok (.iaload, 1) := by decide +kernel
theorem dL_law_257 : decode cL_law 257 = .ok (.invokevirtual 46, 3) := by decide +kernel
theorem dL_law_260 : decode cL_law 260 = .ok (.if_icmp .eq 54, 3) := by decide +kernel
theorem dL_law_263 : decode cL_law 263 = .ok (.iconst 0, 1) := by decide +kernel
theorem dL_law_264 : decode cL_law 264 = .ok (.ireturn, 1) := by decide +kernel
theorem dL_law_265 : decode cL_law 265 = .ok (.aload_n 1, 1) := by decide +kernel
theorem dL_law_266 : decode cL_law 266 = .ok (.invokevirtual 47, 3) := by decide +kernel
theorem dL_law_269 : decode cL_law 269 = .ok (.aload_n 2, 1) := by decide +kernel
theorem dL_law_270 : decode cL_law 270 = .ok (.invokevirtual 50, 3) := by decide +kernel
theorem dL_law_273 : decode cL_law 273 = .ok (.if_icmp .eq 41, 3) := by decide +kernel
theorem dL_law_276 : decode cL_law 276 = .ok (.iconst 0, 1) := by decide +kernel
theorem dL_law_277 : decode cL_law 277 = .ok (.ireturn, 1) := by decide +kernel
theorem dL_law_278 : decode cL_law 278 = .ok (.aload_n 1, 1) := by decide +kernel
theorem dL_law_279 : decode cL_law 279 = .ok (.invokevirtual 51, 3) := by decide +kernel
theorem dL_law_282 : decode cL_law 282 = .ok (.aload_n 2, 1) := by decide +kernel
theorem dL_law_283 : decode cL_law 283 = .ok (.invokevirtual 54, 3) := by decide +kernel
theorem dL_law_286 : decode cL_law 286 = .ok (.if_icmp .eq 28, 3) := by decide +kernel
theorem dL_law_289 : decode cL_law 289 = .ok (.iconst 0, 1) := by decide +kernel
theorem dL_law_290 : decode cL_law 290 = .ok (.ireturn, 1) := by decide +kernel
theorem dL_law_291 : decode cL_law 291 = .ok (.aload_n 1, 1) := by decide +kernel
theorem dL_law_292 : decode cL_law 292 = .ok (.aload_n 0, 1) := by decide +kernel
theorem dL_law_293 : decode cL_law 293 = .ok (.iload_n 3, 1) := by decide +kernel
theorem dL_law_294 : decode cL_law 294 = .ok (.iconst 1, 1) := by decide +kernel
theorem dL_law_295 : decode cL_law 295 = .ok (.iadd, 1) := by decide +kernel
theorem dL_law_296 : decode cL_law 296 = .ok (.iaload, 1) := by decide +kernel
theorem dL_law_297 : decode cL_law 297 = .ok (.invokevirtual 55, 3) := by decide +kernel
theorem dL_law_300 : decode cL_law 300 = .ok (.aload_n 2, 1) := by decide +kernel
theorem dL_law_301 : decode cL_law 301 = .ok (.aload_n 0, 1) := by decide +kernel
theorem dL_law_302 : decode cL_law 302 = .ok (.iload_n 3, 1) := by decide +kernel
theorem dL_law_303 : decode cL_law 303 = .ok (.iconst 1, 1) := by decide +kernel
theorem dL_law_304 : decode cL_law 304 = .ok (.iadd, 1) := by decide +kernel
theorem dL_law_305 : decode cL_law 305 = .ok (.iaload, 1) := by decide +kernel
theorem dL_law_306 : decode cL_law 306 = .ok (.invokevirtual 58, 3) := by decide +kernel
theorem dL_law_309 : decode cL_law 309 = .ok (.if_icmp .eq 5, 3) := by decide +kernel
theorem dL_law_312 : decode cL_law 312 = .ok (.iconst 0, 1) := by decide +kernel
theorem dL_law_313 : decode cL_law 313 = .ok (.ireturn, 1) := by decide +kernel
theorem dL_law_314 : decode cL_law 314 = .ok (.iinc 3 4, 3) := by decide +kernel
theorem dL_law_317 : decode cL_law 317 = .ok (.goto (-299), 3) := by decide +kernel
theorem dL_law_320 : decode cL_law 320 = .ok (.iconst 1, 1) := by decide +kernel
theorem dL_law_321 : decode cL_law 321 = .ok (.ireturn, 1) := by decide +kernel
end
section
/-! PLAIN LAW, 1: token rows in prefix order: ends of terms, binders around a place, depth -/
def mj_bnd (t : Nat) : Prop := 10 ≤ t ∧ t < 16
def mj_ar (t : Nat) : Nat := if t = 6 ∨ t = 7 then 2 else if 8 ≤ t ∧ t < 16 then 1 else 0
theorem mj_ar2 {t : Nat} : mj_ar t = 2 ↔ t = 6 ∨ t = 7 := by
  unfold mj_ar
  by_cases h : t = 6 ∨ t = 7
  · simp [h]
  · by_cases h2 : 8 ≤ t ∧ t < 16 <;> simp [h, h2]
theorem mj_ar1 {t : Nat} : mj_ar t = 1 ↔ 8 ≤ t ∧ t < 16 := by
  unfold mj_ar
  by_cases h : t = 6 ∨ t = 7
  · simp [h]; omega
  · by_cases h2 : 8 ≤ t ∧ t < 16 <;> simp [h, h2]
theorem mj_ar0 {t : Nat} : mj_ar t = 0 ↔ t < 6 ∨ 16 ≤ t := by
  unfold mj_ar
  by_cases h : t = 6 ∨ t = 7
  · simp [h]; omega
  · by_cases h2 : 8 ≤ t ∧ t < 16
    · simp [h, h2]; omega
    · simp [h, h2]; omega
theorem mj_ar_le (t : Nat) : mj_ar t ≤ 2 := by
  unfold mj_ar
  split
  · omega
  · split <;> omega
/-- the end of the term at k, by the ends behind it -/
def mj_EndAt (tk : Nat → Nat) (n : Nat) (E : Nat → Nat) (k : Nat) : Prop :=
  (mj_ar (tk k) = 0 → E k = k + 1) ∧ (mj_ar (tk k) = 1 → k + 1 < n ∧ E k = E (k + 1)) ∧ (mj_ar (tk k) = 2 → k + 1 < n ∧ E (k + 1) < n ∧ E k = E (E (k + 1)))
def mj_EndOK (tk : Nat → Nat) (n : Nat) (E : Nat → Nat) : Prop := ∀ k, k < n → mj_EndAt tk n E k
theorem mj_rng {tk : Nat → Nat} {n : Nat} {E : Nat → Nat} {lo : Nat} (h : ∀ j, lo ≤ j → j < n → mj_EndAt tk n E j) : ∀ d j, n - j ≤ d → lo ≤ j → j < n → j < E j ∧ E j ≤ n := by
  intro d
  induction d with
  | zero => intro j h1 h2 h3; omega
  | succ d ih =>
    intro j h1 h2 h3
    obtain ⟨a0, a1, a2⟩ := h j h2 h3
    have hl := mj_ar_le (tk j)
    rcases (show mj_ar (tk j) = 0 ∨ mj_ar (tk j) = 1 ∨ mj_ar (tk j) = 2 by omega) with q | q | q
    · have := a0 q; omega
    · obtain ⟨b1, b2⟩ := a1 q
      have := ih (j + 1) (by omega) (by omega) b1
      omega
    · obtain ⟨b1, b2, b3⟩ := a2 q
      have h4 := ih (j + 1) (by omega) (by omega) b1
      have h5 := ih (E (j + 1)) (by omega) (by omega) b2
      omega
theorem mj_uniq {tk : Nat → Nat} {n : Nat} {E E' : Nat → Nat} {lo : Nat} (h : ∀ j, lo ≤ j → j < n → mj_EndAt tk n E j) (h' : ∀ j, lo ≤ j → j < n → mj_EndAt tk n E' j) : ∀ d j, n - j ≤ d → lo ≤ j → j < n → E j = E' j := by
  intro d
  induction d with
  | zero => intro j h1 h2 h3; omega
  | succ d ih =>
    intro j h1 h2 h3
    obtain ⟨a0, a1, a2⟩ := h j h2 h3
    obtain ⟨c0, c1, c2⟩ := h' j h2 h3
    have hl := mj_ar_le (tk j)
    rcases (show mj_ar (tk j) = 0 ∨ mj_ar (tk j) = 1 ∨ mj_ar (tk j) = 2 by omega) with q | q | q
    · rw [a0 q, c0 q]
    · obtain ⟨b1, b2⟩ := a1 q
      obtain ⟨-, b3⟩ := c1 q
      rw [b2, b3]
      exact ih (j + 1) (by omega) (by omega) b1
    · obtain ⟨b1, b2, b3⟩ := a2 q
      obtain ⟨-, e2, e3⟩ := c2 q
      have h4 := ih (j + 1) (by omega) (by omega) b1
      have h5 := mj_rng h n (j + 1) (by omega) (by omega) b1
      rw [b3, e3, ← h4]
      exact ih (E (j + 1)) (by omega) (by omega) b2
section TREE
variable {tk : Nat → Nat} {n : Nat} {E : Nat → Nat}
theorem mj_gt (h : mj_EndOK tk n E) {k : Nat} (hk : k < n) : k < E k := (mj_rng (lo := 0) (fun j _ hj => h j hj) n k (by omega) (by omega) hk).1
theorem mj_le (h : mj_EndOK tk n E) {k : Nat} (hk : k < n) : E k ≤ n := (mj_rng (lo := 0) (fun j _ hj => h j hj) n k (by omega) (by omega) hk).2
/-- the first term behind a token -/
theorem mj_ch1 (h : mj_EndOK tk n E) {k : Nat} (hk : k < n) (ha : mj_ar (tk k) ≠ 0) : k + 1 < n ∧ k + 1 < E (k + 1) ∧ E (k + 1) ≤ E k := by
  obtain ⟨a0, a1, a2⟩ := h k hk
  have hl := mj_ar_le (tk k)
  rcases (show mj_ar (tk k) = 1 ∨ mj_ar (tk k) = 2 by omega) with q | q
  · obtain ⟨b1, b2⟩ := a1 q
    have := mj_gt h b1
    omega
  · obtain ⟨b1, b2, b3⟩ := a2 q
    have := mj_gt h b1
    have := mj_gt h b2
    omega
/-- the second term behind a token -/
theorem mj_ch2 (h : mj_EndOK tk n E) {k : Nat} (hk : k < n) (ha : mj_ar (tk k) = 2) : k + 1 < E (k + 1) ∧ E (k + 1) < n ∧ E (E (k + 1)) = E k ∧ E (k + 1) < E k := by
  obtain ⟨a0, a1, a2⟩ := h k hk
  obtain ⟨b1, b2, b3⟩ := a2 ha
  have := mj_gt h b1
  have := mj_gt h b2
  omega
theorem mj_lam (h : mj_EndOK tk n E) : ∀ d a, n - a ≤ d → a < n → ∀ b, a < b → b < E a → E b ≤ E a := by
  intro d
  induction d with
  | zero => intro a h1 h2; omega
  | succ d ih =>
    intro a h1 h2 b h3 h4
    obtain ⟨a0, a1, a2⟩ := h a h2
    have hl := mj_ar_le (tk a)
    rcases (show mj_ar (tk a) = 0 ∨ mj_ar (tk a) = 1 ∨ mj_ar (tk a) = 2 by omega) with q | q | q
    · have := a0 q; omega
    · obtain ⟨b1, b2⟩ := a1 q
      by_cases hb : b = a + 1
      · subst hb; omega
      · have := ih (a + 1) (by omega) b1 b (by omega) (by omega)
        omega
    · obtain ⟨b1, b2, b3⟩ := a2 q
      have g1 := mj_gt h b1
      have g2 := mj_gt h b2
      by_cases hb : b < E (a + 1)
      · by_cases hb2 : b = a + 1
        · subst hb2; omega
        · have := ih (a + 1) (by omega) b1 b (by omega) hb
          omega
      · by_cases hb2 : b = E (a + 1)
        · subst hb2; omega
        · have := ih (E (a + 1)) (by omega) b2 b (by omega) (by omega)
          omega
theorem mj_lam' (h : mj_EndOK tk n E) {a b : Nat} (ha : a < n) (h1 : a < b) (h2 : b < E a) : E b ≤ E a := mj_lam h n a (by omega) ha b h1 h2
/-- the binder b stands around the place k -/
def mj_Enc (tk E : Nat → Nat) (b k : Nat) : Prop := b < k ∧ mj_bnd (tk b) ∧ k < E b
theorem mj_enc1 (h : mj_EndOK tk n E) {k : Nat} (hk : k < n) (ha : mj_ar (tk k) ≠ 0) (hb : ¬ mj_bnd (tk k)) {b : Nat} : mj_Enc tk E b (k + 1) ↔ mj_Enc tk E b k := by
  obtain ⟨c1, c2, c3⟩ := mj_ch1 h hk ha
  constructor
  · rintro ⟨h1, h2, h3⟩
    by_cases e : b = k
    · subst e; exact absurd h2 hb
    · exact ⟨by omega, h2, by omega⟩
  · rintro ⟨h1, h2, h3⟩
    have := mj_lam' h (by omega) h1 h3
    exact ⟨by omega, h2, by omega⟩
theorem mj_encB (h : mj_EndOK tk n E) {k : Nat} (hk : k < n) (hb : mj_bnd (tk k)) {b : Nat} : mj_Enc tk E b (k + 1) ↔ mj_Enc tk E b k ∨ b = k := by
  obtain ⟨c1, c2, c3⟩ := mj_ch1 h hk (by rw [Ne, mj_ar0]; unfold mj_bnd at hb; omega)
  constructor
  · rintro ⟨h1, h2, h3⟩
    by_cases e : b = k
    · exact Or.inr e
    · exact Or.inl ⟨by omega, h2, by omega⟩
  · rintro (⟨h1, h2, h3⟩ | e)
    · have := mj_lam' h (by omega) h1 h3
      exact ⟨by omega, h2, by omega⟩
    · subst e
      exact ⟨by omega, hb, by omega⟩
theorem mj_enc2 (h : mj_EndOK tk n E) {k : Nat} (hk : k < n) (ha : mj_ar (tk k) = 2) {b : Nat} : mj_Enc tk E b (E (k + 1)) ↔ mj_Enc tk E b k := by
  obtain ⟨c1, c2, c3, c4⟩ := mj_ch2 h hk ha
  have hnb : ¬ mj_bnd (tk k) := by
    rw [mj_ar2] at ha; unfold mj_bnd; omega
  constructor
  · rintro ⟨h1, h2, h3⟩
    by_cases e : b = k
    · subst e; exact absurd h2 hnb
    · by_cases e2 : b < k
      · exact ⟨e2, h2, by omega⟩
      · exfalso
        by_cases e3 : b = k + 1
        · subst e3; omega
        · have := mj_lam' h (a := k + 1) (b := b) (by omega) (by omega) h1
          omega
  · rintro ⟨h1, h2, h3⟩
    have := mj_lam' h (by omega) h1 h3
    exact ⟨by omega, h2, by omega⟩
end TREE
/-- how many places below n have p -/
def mj_cnt (p : Nat → Bool) : Nat → Nat
  | 0 => 0
  | j + 1 => mj_cnt p j + (if p j = true then 1 else 0)
theorem mj_cnt_le {p q : Nat → Bool} : ∀ n, (∀ j, j < n → p j = true → q j = true) → mj_cnt p n ≤ mj_cnt q n := by
  intro n
  induction n with
  | zero => intro _; exact Nat.le_refl _
  | succ n ih =>
    intro h
    have h1 := ih (fun j hj => h j (by omega))
    have h2 := h n (by omega)
    show mj_cnt p n + (if p n = true then 1 else 0) ≤ mj_cnt q n + (if q n = true then 1 else 0)
    by_cases hp : p n = true
    · simp [hp, h2 hp]; exact h1
    · simp [hp]; omega
theorem mj_cnt_mono {p : Nat → Bool} {a b : Nat} (h : a ≤ b) : mj_cnt p a ≤ mj_cnt p b := by
  induction b with
  | zero => rw [show a = 0 by omega]; exact Nat.le_refl _
  | succ b ih =>
    by_cases e : a = b + 1
    · rw [e]; exact Nat.le_refl _
    · have := ih (by omega)
      show mj_cnt p a ≤ mj_cnt p b + _
      omega
theorem mj_cnt_congr {p q : Nat → Bool} (n : Nat) (h : ∀ j, j < n → p j = q j) : mj_cnt p n = mj_cnt q n :=
  Nat.le_antisymm (mj_cnt_le n (fun j hj e => by rw [← h j hj]; exact e)) (mj_cnt_le n (fun j hj e => by rw [h j hj]; exact e))
theorem mj_cnt_bound (p : Nat → Bool) (n : Nat) : mj_cnt p n ≤ n := by
  induction n with
  | zero => exact Nat.le_refl _
  | succ n ih =>
    show mj_cnt p n + _ ≤ n + 1
    split <;> omega
def mj_bd (t : Nat) : Bool := decide (10 ≤ t) && decide (t < 16)
theorem mj_bd_iff {t : Nat} : mj_bd t = true ↔ mj_bnd t := by simp [mj_bd, mj_bnd]
/-- how many binders stand around k -/
def mj_dep (tk E : Nat → Nat) (k : Nat) : Nat := mj_cnt (fun b => mj_bd (tk b) && decide (k < E b)) k
def mj_nb (tk : Nat → Nat) (n : Nat) : Nat := mj_cnt (fun b => mj_bd (tk b)) n
section DEPTH
variable {tk : Nat → Nat} {n : Nat} {E : Nat → Nat}
theorem mj_dep_lt (h : mj_EndOK tk n E) {b k : Nat} (hk : k < n) (he : mj_Enc tk E b k) : mj_dep tk E b < mj_dep tk E k := by
  obtain ⟨h1, h2, h3⟩ := he
  have a1 : mj_dep tk E b ≤ mj_cnt (fun j => mj_bd (tk j) && decide (k < E j)) b := by
    refine mj_cnt_le b (fun j hj e => ?_)
    simp only [Bool.and_eq_true, decide_eq_true_eq] at e ⊢
    have := mj_lam' h (a := j) (b := b) (by omega) hj e.2
    exact ⟨e.1, by omega⟩
  have a2 : mj_cnt (fun j => mj_bd (tk j) && decide (k < E j)) (b + 1) ≤ mj_dep tk E k := mj_cnt_mono (by omega)
  have a3 : mj_cnt (fun j => mj_bd (tk j) && decide (k < E j)) (b + 1) = mj_cnt (fun j => mj_bd (tk j) && decide (k < E j)) b + 1 := by
    show _ + (if _ then 1 else 0) = _
    rw [if_pos (by simp only [Bool.and_eq_true, decide_eq_true_eq]; exact ⟨mj_bd_iff.mpr h2, h3⟩)]
  omega
theorem mj_dep_nb (k : Nat) (hk : k < n) (hb : mj_bnd (tk k)) : mj_dep tk E k + 1 ≤ mj_nb tk n := by
  have a1 : mj_dep tk E k ≤ mj_nb tk k := by
    refine mj_cnt_le k (fun j hj e => ?_)
    simp only [Bool.and_eq_true] at e
    exact e.1
  have a2 : mj_nb tk (k + 1) ≤ mj_nb tk n := mj_cnt_mono (by omega)
  have a3 : mj_nb tk (k + 1) = mj_nb tk k + 1 := by
    show _ + (if _ then 1 else 0) = _
    rw [if_pos (mj_bd_iff.mpr hb)]
    rfl
  omega
end DEPTH
end
section
/-! PLAIN LAW, 2: what a formula says (least and greatest fixed points over six states), and its value when each binder is a set that is kept for it -/
def mj_node (st mk : Nat → Nat) (t : Nat) (p q : Nat → Prop) (s : Nat) : Prop :=
  if t < 3 then (mk t).testBit s = true
  else if t < 6 then (mk (t - 3)).testBit s = false
  else if t = 6 then p s ∧ q s
  else if t = 7 then p s ∨ q s
  else if t = 8 then ∃ x, x < 6 ∧ (st s).testBit x = true ∧ p x
  else ∀ x, x < 6 → (st s).testBit x = true → p x
theorem mj_node_mono {st mk : Nat → Nat} {t : Nat} {p q p' q' : Nat → Prop} {s : Nat} (ht : t < 10) (hs : s < 6) (hp : mj_ar t ≠ 0 → ∀ x, x < 6 → p x → p' x) (hq : mj_ar t = 2 → ∀ x, x < 6 → q x → q' x) (h : mj_node st mk t p q s) : mj_node st mk t p' q' s := by
  unfold mj_node at h ⊢
  by_cases c1 : t < 3
  · rw [if_pos c1] at h ⊢; exact h
  · rw [if_neg c1] at h ⊢
    by_cases c2 : t < 6
    · rw [if_pos c2] at h ⊢; exact h
    · rw [if_neg c2] at h ⊢
      have ha : mj_ar t ≠ 0 := by rw [Ne, mj_ar0]; omega
      by_cases c3 : t = 6
      · rw [if_pos c3] at h ⊢
        exact ⟨hp ha s hs h.1, hq (mj_ar2.mpr (Or.inl c3)) s hs h.2⟩
      · rw [if_neg c3] at h ⊢
        by_cases c4 : t = 7
        · rw [if_pos c4] at h ⊢
          rcases h with h | h
          · exact Or.inl (hp ha s hs h)
          · exact Or.inr (hq (mj_ar2.mpr (Or.inr c4)) s hs h)
        · rw [if_neg c4] at h ⊢
          by_cases c5 : t = 8
          · rw [if_pos c5] at h ⊢
            obtain ⟨x, h1, h2, h3⟩ := h
            exact ⟨x, h1, h2, hp ha x h1 h3⟩
          · rw [if_neg c5] at h ⊢
            exact fun x h1 h2 => hp ha x h1 (h x h1 h2)
theorem mj_node_congr {st mk : Nat → Nat} {t : Nat} {p q p' q' : Nat → Prop} {s : Nat} (ht : t < 10) (hp : mj_ar t ≠ 0 → p = p') (hq : mj_ar t = 2 → q = q') : mj_node st mk t p q s = mj_node st mk t p' q' s := by
  by_cases h0 : mj_ar t = 0
  · have h6 : t < 6 := by rw [mj_ar0] at h0; omega
    unfold mj_node
    by_cases c1 : t < 3
    · rw [if_pos c1, if_pos c1]
    · rw [if_neg c1, if_neg c1, if_pos h6, if_pos h6]
  · rw [hp h0]
    by_cases h2 : mj_ar t = 2
    · rw [hq h2]
    · rw [mj_ar2] at h2
      have h6 : ¬ t < 6 := by intro c; exact h0 (mj_ar0.mpr (Or.inl c))
      unfold mj_node
      rw [if_neg (show ¬ t < 3 by omega), if_neg (show ¬ t < 3 by omega), if_neg h6, if_neg h6, if_neg (show ¬ t = 6 by omega), if_neg (show ¬ t = 6 by omega), if_neg (show ¬ t = 7 by omega), if_neg (show ¬ t = 7 by omega)]
def mj_up (e : Nat → Nat → Prop) (k : Nat) (X : Nat → Prop) : Nat → Nat → Prop := fun b => if b = k then X else e b
theorem mj_up_s (e : Nat → Nat → Prop) (k : Nat) (X : Nat → Prop) : mj_up e k X k = X := by simp [mj_up]
theorem mj_up_n (e : Nat → Nat → Prop) {k b : Nat} (X : Nat → Prop) (h : b ≠ k) : mj_up e k X b = e b := by simp [mj_up, h]
def mj_lfp (F : (Nat → Prop) → Nat → Prop) (s : Nat) : Prop := ∀ X : Nat → Prop, (∀ t, t < 6 → F X t → X t) → X s
def mj_gfp (F : (Nat → Prop) → Nat → Prop) (s : Nat) : Prop := ∃ X : Nat → Prop, (∀ t, t < 6 → X t → F X t) ∧ X s
def mj_semF (st mk tk E B : Nat → Nat) : Nat → Nat → (Nat → Nat → Prop) → Nat → Prop
  | 0, _, _, _ => False
  | f + 1, k, e, s => if tk k < 10 then mj_node st mk (tk k) (mj_semF st mk tk E B f (k + 1) e) (mj_semF st mk tk E B f (E (k + 1)) e) s
    else if tk k < 13 then mj_lfp (fun X => mj_semF st mk tk E B f (k + 1) (mj_up e k X)) s
    else if tk k < 16 then mj_gfp (fun X => mj_semF st mk tk E B f (k + 1) (mj_up e k X)) s
    else e (B k) s
def mj_sem (st mk tk : Nat → Nat) (n : Nat) (E B : Nat → Nat) (k : Nat) (e : Nat → Nat → Prop) (s : Nat) : Prop := mj_semF st mk tk E B (n - k) k e s
def mj_valF (st mk tk E B : Nat → Nat) : Nat → Nat → (Nat → Nat → Prop) → Nat → Prop
  | 0, _, _, _ => False
  | f + 1, k, e, s => if tk k < 10 then mj_node st mk (tk k) (mj_valF st mk tk E B f (k + 1) e) (mj_valF st mk tk E B f (E (k + 1)) e) s
    else if tk k < 16 then e k s
    else e (B k) s
def mj_val (st mk tk : Nat → Nat) (n : Nat) (E B : Nat → Nat) (k : Nat) (e : Nat → Nat → Prop) (s : Nat) : Prop := mj_valF st mk tk E B (n - k) k e s
section SEM
variable {st mk tk : Nat → Nat} {n : Nat} {E B : Nat → Nat}
theorem mj_semF_fuel (h : mj_EndOK tk n E) : ∀ f f' k, k < n → n - k ≤ f → n - k ≤ f' → mj_semF st mk tk E B f k = mj_semF st mk tk E B f' k := by
  intro f
  induction f with
  | zero => intro f' k hk h1; omega
  | succ f ih =>
    intro f' k hk h1 h2
    obtain ⟨g, rfl⟩ : ∃ g, f' = g + 1 := ⟨f' - 1, by omega⟩
    funext e s
    simp only [mj_semF]
    by_cases c1 : tk k < 10
    · rw [if_pos c1, if_pos c1]
      refine mj_node_congr c1 (fun ha => ?_) (fun ha => ?_)
      · obtain ⟨d1, d2, d3⟩ := mj_ch1 h hk ha
        rw [ih g (k + 1) d1 (by omega) (by omega)]
      · obtain ⟨d1, d2, d3, d4⟩ := mj_ch2 h hk ha
        rw [ih g (E (k + 1)) d2 (by omega) (by omega)]
    · rw [if_neg c1, if_neg c1]
      by_cases c2 : tk k < 16
      · obtain ⟨d1, d2, d3⟩ := mj_ch1 h hk (by rw [Ne, mj_ar0]; omega)
        rw [ih g (k + 1) d1 (by omega) (by omega)]
      · rw [if_neg (show ¬ tk k < 13 by omega), if_neg (show ¬ tk k < 13 by omega), if_neg c2, if_neg c2]
theorem mj_valF_fuel (h : mj_EndOK tk n E) : ∀ f f' k, k < n → n - k ≤ f → n - k ≤ f' → mj_valF st mk tk E B f k = mj_valF st mk tk E B f' k := by
  intro f
  induction f with
  | zero => intro f' k hk h1; omega
  | succ f ih =>
    intro f' k hk h1 h2
    obtain ⟨g, rfl⟩ : ∃ g, f' = g + 1 := ⟨f' - 1, by omega⟩
    funext e s
    simp only [mj_valF]
    by_cases c1 : tk k < 10
    · rw [if_pos c1, if_pos c1]
      refine mj_node_congr c1 (fun ha => ?_) (fun ha => ?_)
      · obtain ⟨d1, d2, d3⟩ := mj_ch1 h hk ha
        rw [ih g (k + 1) d1 (by omega) (by omega)]
      · obtain ⟨d1, d2, d3, d4⟩ := mj_ch2 h hk ha
        rw [ih g (E (k + 1)) d2 (by omega) (by omega)]
    · rw [if_neg c1, if_neg c1]
theorem mj_sem_node (h : mj_EndOK tk n E) {k : Nat} (hk : k < n) (ht : tk k < 10) (e : Nat → Nat → Prop) (s : Nat) : mj_sem st mk tk n E B k e s = mj_node st mk (tk k) (mj_sem st mk tk n E B (k + 1) e) (mj_sem st mk tk n E B (E (k + 1)) e) s := by
  unfold mj_sem
  obtain ⟨f, hf⟩ : ∃ f, n - k = f + 1 := ⟨n - k - 1, by omega⟩
  rw [hf]
  simp only [mj_semF]
  rw [if_pos ht]
  refine mj_node_congr ht (fun ha => ?_) (fun ha => ?_)
  · rw [show n - (k + 1) = f by omega]
  · obtain ⟨d1, d2, d3, d4⟩ := mj_ch2 h hk ha
    rw [mj_semF_fuel h f (n - E (k + 1)) (E (k + 1)) d2 (by omega) (by omega)]
theorem mj_sem_mu {k : Nat} (hk : k < n) (ht : 10 ≤ tk k) (ht2 : tk k < 13) (e : Nat → Nat → Prop) (s : Nat) : mj_sem st mk tk n E B k e s = mj_lfp (fun X => mj_sem st mk tk n E B (k + 1) (mj_up e k X)) s := by
  unfold mj_sem
  obtain ⟨f, hf⟩ : ∃ f, n - k = f + 1 := ⟨n - k - 1, by omega⟩
  rw [hf]
  simp only [mj_semF]
  rw [if_neg (show ¬ tk k < 10 by omega), if_pos ht2, show n - (k + 1) = f by omega]
theorem mj_sem_nu {k : Nat} (hk : k < n) (ht : 13 ≤ tk k) (ht2 : tk k < 16) (e : Nat → Nat → Prop) (s : Nat) : mj_sem st mk tk n E B k e s = mj_gfp (fun X => mj_sem st mk tk n E B (k + 1) (mj_up e k X)) s := by
  unfold mj_sem
  obtain ⟨f, hf⟩ : ∃ f, n - k = f + 1 := ⟨n - k - 1, by omega⟩
  rw [hf]
  simp only [mj_semF]
  rw [if_neg (show ¬ tk k < 10 by omega), if_neg (show ¬ tk k < 13 by omega), if_pos ht2, show n - (k + 1) = f by omega]
theorem mj_sem_name {k : Nat} (hk : k < n) (ht : 16 ≤ tk k) (e : Nat → Nat → Prop) (s : Nat) : mj_sem st mk tk n E B k e s = e (B k) s := by
  unfold mj_sem
  obtain ⟨f, hf⟩ : ∃ f, n - k = f + 1 := ⟨n - k - 1, by omega⟩
  rw [hf]
  simp only [mj_semF]
  rw [if_neg (show ¬ tk k < 10 by omega), if_neg (show ¬ tk k < 13 by omega), if_neg (show ¬ tk k < 16 by omega)]
theorem mj_val_node (h : mj_EndOK tk n E) {k : Nat} (hk : k < n) (ht : tk k < 10) (e : Nat → Nat → Prop) (s : Nat) : mj_val st mk tk n E B k e s = mj_node st mk (tk k) (mj_val st mk tk n E B (k + 1) e) (mj_val st mk tk n E B (E (k + 1)) e) s := by
  unfold mj_val
  obtain ⟨f, hf⟩ : ∃ f, n - k = f + 1 := ⟨n - k - 1, by omega⟩
  rw [hf]
  simp only [mj_valF]
  rw [if_pos ht]
  refine mj_node_congr ht (fun ha => ?_) (fun ha => ?_)
  · rw [show n - (k + 1) = f by omega]
  · obtain ⟨d1, d2, d3, d4⟩ := mj_ch2 h hk ha
    rw [mj_valF_fuel h f (n - E (k + 1)) (E (k + 1)) d2 (by omega) (by omega)]
theorem mj_val_bnd {k : Nat} (hk : k < n) (ht : 10 ≤ tk k) (ht2 : tk k < 16) (e : Nat → Nat → Prop) (s : Nat) : mj_val st mk tk n E B k e s = e k s := by
  unfold mj_val
  obtain ⟨f, hf⟩ : ∃ f, n - k = f + 1 := ⟨n - k - 1, by omega⟩
  rw [hf]
  simp only [mj_valF]
  rw [if_neg (show ¬ tk k < 10 by omega), if_pos ht2]
theorem mj_val_name {k : Nat} (hk : k < n) (ht : 16 ≤ tk k) (e : Nat → Nat → Prop) (s : Nat) : mj_val st mk tk n E B k e s = e (B k) s := by
  unfold mj_val
  obtain ⟨f, hf⟩ : ∃ f, n - k = f + 1 := ⟨n - k - 1, by omega⟩
  rw [hf]
  simp only [mj_valF]
  rw [if_neg (show ¬ tk k < 10 by omega), if_neg (show ¬ tk k < 16 by omega)]
/-- a larger meaning of the names around it: a larger meaning; other names don't count -/
theorem mj_sem_mono (h : mj_EndOK tk n E) (hB : ∀ k, k < n → 16 ≤ tk k → mj_Enc tk E (B k) k) : ∀ d k, n - k ≤ d → k < n → ∀ e e' : Nat → Nat → Prop, (∀ b, mj_Enc tk E b k → ∀ x, x < 6 → e b x → e' b x) → ∀ s, s < 6 → mj_sem st mk tk n E B k e s → mj_sem st mk tk n E B k e' s := by
  intro d
  induction d with
  | zero => intro k h1 h2; omega
  | succ d ih =>
    intro k h1 hk e e' he s hs hsem
    by_cases c1 : tk k < 10
    · rw [mj_sem_node h hk c1] at hsem ⊢
      have hnb : ¬ mj_bnd (tk k) := by unfold mj_bnd; omega
      refine mj_node_mono c1 hs (fun ha x hx hp => ?_) (fun ha x hx hp => ?_) hsem
      · obtain ⟨d1, d2, d3⟩ := mj_ch1 h hk ha
        exact ih (k + 1) (by omega) d1 e e' (fun b hb => he b ((mj_enc1 h hk ha hnb).mp hb)) x hx hp
      · obtain ⟨d1, d2, d3, d4⟩ := mj_ch2 h hk ha
        exact ih (E (k + 1)) (by omega) d2 e e' (fun b hb => he b ((mj_enc2 h hk ha).mp hb)) x hx hp
    · by_cases c2 : tk k < 16
      · have hb0 : mj_bnd (tk k) := ⟨by omega, c2⟩
        obtain ⟨d1, d2, d3⟩ := mj_ch1 h hk (by rw [Ne, mj_ar0]; omega)
        have step : ∀ X : Nat → Prop, ∀ x, x < 6 → mj_sem st mk tk n E B (k + 1) (mj_up e k X) x → mj_sem st mk tk n E B (k + 1) (mj_up e' k X) x := by
          intro X x hx hp
          refine ih (k + 1) (by omega) d1 _ _ (fun b hb y hy hyb => ?_) x hx hp
          rcases (mj_encB h hk hb0).mp hb with q | q
          · have hne : b ≠ k := by have := q.1; omega
            rw [mj_up_n _ _ hne] at hyb ⊢
            exact he b q y hy hyb
          · subst q
            rw [mj_up_s] at hyb ⊢
            exact hyb
        by_cases c3 : tk k < 13
        · rw [mj_sem_mu hk (by omega) c3] at hsem ⊢
          intro X hX
          exact hsem X (fun t ht hF => hX t ht (step X t ht hF))
        · rw [mj_sem_nu hk (by omega) c2] at hsem ⊢
          obtain ⟨X, hX, hXs⟩ := hsem
          exact ⟨X, fun t ht hF => step X t ht (hX t ht hF), hXs⟩
      · rw [mj_sem_name hk (by omega)] at hsem ⊢
        exact he (B k) (hB k hk (by omega)) s hs hsem
theorem mj_sem_le (h : mj_EndOK tk n E) (hB : ∀ k, k < n → 16 ≤ tk k → mj_Enc tk E (B k) k) {k : Nat} (hk : k < n) {e e' : Nat → Nat → Prop} (he : ∀ b, mj_Enc tk E b k → ∀ x, x < 6 → e b x → e' b x) {s : Nat} (hs : s < 6) (hsem : mj_sem st mk tk n E B k e s) : mj_sem st mk tk n E B k e' s := mj_sem_mono h hB n k (by omega) hk e e' he s hs hsem
theorem mj_body_le (h : mj_EndOK tk n E) (hB : ∀ k, k < n → 16 ≤ tk k → mj_Enc tk E (B k) k) {k : Nat} (hk : k < n) (hb : mj_bnd (tk k)) {e e' : Nat → Nat → Prop} {X Y : Nat → Prop} (he : ∀ b, mj_Enc tk E b k → ∀ x, x < 6 → e b x → e' b x) (hX : ∀ x, x < 6 → X x → Y x) {s : Nat} (hs : s < 6) (hsem : mj_sem st mk tk n E B (k + 1) (mj_up e k X) s) : mj_sem st mk tk n E B (k + 1) (mj_up e' k Y) s := by
  obtain ⟨d1, d2, d3⟩ := mj_ch1 h hk (by rw [Ne, mj_ar0]; unfold mj_bnd at hb; omega)
  refine mj_sem_le h hB d1 (fun b hb2 y hy hyb => ?_) hs hsem
  rcases (mj_encB h hk hb).mp hb2 with q | q
  · have hne : b ≠ k := by have := q.1; omega
    rw [mj_up_n _ _ hne] at hyb ⊢
    exact he b q y hy hyb
  · subst q
    rw [mj_up_s] at hyb ⊢
    exact hX y hy hyb
theorem mj_mu_least {k : Nat} (hk : k < n) (ht : 10 ≤ tk k) (ht2 : tk k < 13) {e : Nat → Nat → Prop} {X : Nat → Prop} (hX : ∀ t, t < 6 → mj_sem st mk tk n E B (k + 1) (mj_up e k X) t → X t) {s : Nat} (hs : mj_sem st mk tk n E B k e s) : X s := by
  rw [mj_sem_mu hk ht ht2] at hs
  exact hs X hX
theorem mj_mu_fold (h : mj_EndOK tk n E) (hB : ∀ k, k < n → 16 ≤ tk k → mj_Enc tk E (B k) k) {k : Nat} (hk : k < n) (ht : 10 ≤ tk k) (ht2 : tk k < 13) {e : Nat → Nat → Prop} {s : Nat} (hs : s < 6) (hsem : mj_sem st mk tk n E B (k + 1) (mj_up e k (mj_sem st mk tk n E B k e)) s) : mj_sem st mk tk n E B k e s := by
  rw [mj_sem_mu hk ht ht2]
  intro X hX
  exact hX s hs (mj_body_le h hB hk ⟨ht, by omega⟩ (fun _ _ _ _ q => q) (fun x _ q => mj_mu_least hk ht ht2 hX q) hs hsem)
theorem mj_mu_unfold (h : mj_EndOK tk n E) (hB : ∀ k, k < n → 16 ≤ tk k → mj_Enc tk E (B k) k) {k : Nat} (hk : k < n) (ht : 10 ≤ tk k) (ht2 : tk k < 13) {e : Nat → Nat → Prop} {s : Nat} (hsem : mj_sem st mk tk n E B k e s) : mj_sem st mk tk n E B (k + 1) (mj_up e k (mj_sem st mk tk n E B k e)) s := by
  refine mj_mu_least (X := fun s => mj_sem st mk tk n E B (k + 1) (mj_up e k (mj_sem st mk tk n E B k e)) s) hk ht ht2 (fun t h6 hF => ?_) hsem
  exact mj_body_le h hB hk ⟨ht, by omega⟩ (fun _ _ _ _ q => q) (fun x hx q => mj_mu_fold h hB hk ht ht2 hx q) h6 hF
theorem mj_nu_greatest {k : Nat} (hk : k < n) (ht : 13 ≤ tk k) (ht2 : tk k < 16) {e : Nat → Nat → Prop} {X : Nat → Prop} (hX : ∀ t, t < 6 → X t → mj_sem st mk tk n E B (k + 1) (mj_up e k X) t) {s : Nat} (hs : X s) : mj_sem st mk tk n E B k e s := by
  rw [mj_sem_nu hk ht ht2]
  exact ⟨X, hX, hs⟩
theorem mj_nu_unfold (h : mj_EndOK tk n E) (hB : ∀ k, k < n → 16 ≤ tk k → mj_Enc tk E (B k) k) {k : Nat} (hk : k < n) (ht : 13 ≤ tk k) (ht2 : tk k < 16) {e : Nat → Nat → Prop} {s : Nat} (hs : s < 6) (hsem : mj_sem st mk tk n E B k e s) : mj_sem st mk tk n E B (k + 1) (mj_up e k (mj_sem st mk tk n E B k e)) s := by
  have h0 := hsem
  rw [mj_sem_nu hk ht ht2] at h0
  obtain ⟨X, hX, hXs⟩ := h0
  exact mj_body_le h hB hk ⟨by omega, ht2⟩ (fun _ _ _ _ q => q) (fun x _ q => mj_nu_greatest hk ht ht2 hX q) hs (hX s hs hXs)
theorem mj_nu_fold (h : mj_EndOK tk n E) (hB : ∀ k, k < n → 16 ≤ tk k → mj_Enc tk E (B k) k) {k : Nat} (hk : k < n) (ht : 13 ≤ tk k) (ht2 : tk k < 16) {e : Nat → Nat → Prop} {s : Nat} (hsem : mj_sem st mk tk n E B (k + 1) (mj_up e k (mj_sem st mk tk n E B k e)) s) : mj_sem st mk tk n E B k e s := by
  refine mj_nu_greatest (X := fun s => mj_sem st mk tk n E B (k + 1) (mj_up e k (mj_sem st mk tk n E B k e)) s) hk ht ht2 (fun t h6 hF => ?_) hsem
  exact mj_body_le h hB hk ⟨by omega, ht2⟩ (fun _ _ _ _ q => q) (fun x hx q => mj_nu_unfold h hB hk ht ht2 hx q) h6 hF
/-- where every binder within is what its formula says, the value is the meaning -/
theorem mj_val_sem (h : mj_EndOK tk n E) : ∀ d k, n - k ≤ d → k < n → ∀ f : Nat → Nat → Prop, (∀ q, k ≤ q → q < E k → mj_bnd (tk q) → ∀ x, x < 6 → (f q x ↔ mj_sem st mk tk n E B q f x)) → ∀ s, s < 6 → (mj_val st mk tk n E B k f s ↔ mj_sem st mk tk n E B k f s) := by
  intro d
  induction d with
  | zero => intro k h1 h2; omega
  | succ d ih =>
    intro k h1 hk f hf s hs
    by_cases c1 : tk k < 10
    · rw [mj_sem_node h hk c1, mj_val_node h hk c1]
      have p1 : mj_ar (tk k) ≠ 0 → ∀ x, x < 6 → (mj_val st mk tk n E B (k + 1) f x ↔ mj_sem st mk tk n E B (k + 1) f x) := by
        intro ha x hx
        obtain ⟨d1, d2, d3⟩ := mj_ch1 h hk ha
        exact ih (k + 1) (by omega) d1 f (fun q q1 q2 => hf q (by omega) (by omega)) x hx
      have p2 : mj_ar (tk k) = 2 → ∀ x, x < 6 → (mj_val st mk tk n E B (E (k + 1)) f x ↔ mj_sem st mk tk n E B (E (k + 1)) f x) := by
        intro ha x hx
        obtain ⟨d1, d2, d3, d4⟩ := mj_ch2 h hk ha
        exact ih (E (k + 1)) (by omega) d2 f (fun q q1 q2 => hf q (by omega) (by omega)) x hx
      constructor
      · exact mj_node_mono c1 hs (fun ha x hx => (p1 ha x hx).mp) (fun ha x hx => (p2 ha x hx).mp)
      · exact mj_node_mono c1 hs (fun ha x hx => (p1 ha x hx).mpr) (fun ha x hx => (p2 ha x hx).mpr)
    · by_cases c2 : tk k < 16
      · rw [mj_val_bnd hk (by omega) c2]
        exact hf k (by omega) (mj_gt h hk) ⟨by omega, c2⟩ s hs
      · rw [mj_val_name hk (by omega), mj_sem_name hk (by omega)]
end SEM
/-! counting the states of a set -/
noncomputable def mj_pb (P : Prop) : Nat := @ite _ P (Classical.propDecidable P) 1 0
theorem mj_pb_1 {P : Prop} (h : P) : mj_pb P = 1 := by unfold mj_pb; rw [if_pos h]
theorem mj_pb_0 {P : Prop} (h : ¬ P) : mj_pb P = 0 := by unfold mj_pb; rw [if_neg h]
theorem mj_pb_le1 (P : Prop) : mj_pb P ≤ 1 := by
  by_cases h : P
  · rw [mj_pb_1 h]; omega
  · rw [mj_pb_0 h]; omega
theorem mj_pb_of {P : Prop} (h : mj_pb P = 1) : P := by
  by_cases q : P
  · exact q
  · rw [mj_pb_0 q] at h; omega
theorem mj_pb_mono {P Q : Prop} (h : P → Q) : mj_pb P ≤ mj_pb Q := by
  by_cases q : P
  · rw [mj_pb_1 q, mj_pb_1 (h q)]; omega
  · rw [mj_pb_0 q]; omega
noncomputable def mj_card (X : Nat → Prop) : Nat := mj_pb (X 0) + mj_pb (X 1) + mj_pb (X 2) + mj_pb (X 3) + mj_pb (X 4) + mj_pb (X 5)
theorem mj_card_le6 (X : Nat → Prop) : mj_card X ≤ 6 := by
  unfold mj_card
  have := mj_pb_le1 (X 0)
  have := mj_pb_le1 (X 1)
  have := mj_pb_le1 (X 2)
  have := mj_pb_le1 (X 3)
  have := mj_pb_le1 (X 4)
  have := mj_pb_le1 (X 5)
  omega
theorem mj_card_mono {X Y : Nat → Prop} (h : ∀ x, x < 6 → X x → Y x) : mj_card X ≤ mj_card Y := by
  unfold mj_card
  have := mj_pb_mono (h 0 (by omega))
  have := mj_pb_mono (h 1 (by omega))
  have := mj_pb_mono (h 2 (by omega))
  have := mj_pb_mono (h 3 (by omega))
  have := mj_pb_mono (h 4 (by omega))
  have := mj_pb_mono (h 5 (by omega))
  omega
theorem mj_card_eq {X Y : Nat → Prop} (h : ∀ x, x < 6 → X x → Y x) (hc : mj_card Y ≤ mj_card X) : ∀ x, x < 6 → Y x → X x := by
  unfold mj_card at hc
  have h0 := mj_pb_mono (h 0 (by omega))
  have h1 := mj_pb_mono (h 1 (by omega))
  have h2 := mj_pb_mono (h 2 (by omega))
  have h3 := mj_pb_mono (h 3 (by omega))
  have h4 := mj_pb_mono (h 4 (by omega))
  have h5 := mj_pb_mono (h 5 (by omega))
  intro x hx hy
  rcases (show x = 0 ∨ x = 1 ∨ x = 2 ∨ x = 3 ∨ x = 4 ∨ x = 5 by omega) with rfl | rfl | rfl | rfl | rfl | rfl <;> (have hy1 := mj_pb_1 hy; exact mj_pb_of (by omega))
theorem mj_card_congr {X Y : Nat → Prop} (h : ∀ x, x < 6 → (X x ↔ Y x)) : mj_card X = mj_card Y :=
  Nat.le_antisymm (mj_card_mono (fun x hx => (h x hx).mp)) (mj_card_mono (fun x hx => (h x hx).mpr))
/-! approximants from below -/
def mj_it (F : (Nat → Prop) → Nat → Prop) : Nat → Nat → Prop
  | 0 => fun _ => False
  | i + 1 => F (mj_it F i)
section ITER
variable {F : (Nat → Prop) → Nat → Prop}
theorem mj_it_up (hF : ∀ X Y : Nat → Prop, (∀ t, t < 6 → X t → Y t) → ∀ s, s < 6 → F X s → F Y s) : ∀ i s, s < 6 → mj_it F i s → mj_it F (i + 1) s := by
  intro i
  induction i with
  | zero => intro s _ h; exact h.elim
  | succ i ih => intro s hs h; exact hF _ _ ih s hs h
theorem mj_it_mono (hF : ∀ X Y : Nat → Prop, (∀ t, t < 6 → X t → Y t) → ∀ s, s < 6 → F X s → F Y s) {i j : Nat} (hij : i ≤ j) : ∀ s, s < 6 → mj_it F i s → mj_it F j s := by
  induction j with
  | zero => rw [show i = 0 by omega]; exact fun _ _ h => h
  | succ j ih =>
    by_cases e : i = j + 1
    · rw [e]; exact fun _ _ h => h
    · exact fun s hs h => mj_it_up hF j s hs (ih (by omega) s hs h)
theorem mj_it_pre (hF : ∀ X Y : Nat → Prop, (∀ t, t < 6 → X t → Y t) → ∀ s, s < 6 → F X s → F Y s) {X : Nat → Prop} (hX : ∀ t, t < 6 → F X t → X t) : ∀ i s, s < 6 → mj_it F i s → X s := by
  intro i
  induction i with
  | zero => intro s _ h; exact h.elim
  | succ i ih => intro s hs h; exact hX s hs (hF _ _ ih s hs h)
theorem mj_it_6 (hF : ∀ X Y : Nat → Prop, (∀ t, t < 6 → X t → Y t) → ∀ s, s < 6 → F X s → F Y s) {i : Nat} (hi : 6 ≤ i) : ∀ s, s < 6 → mj_lfp F s → mj_it F i s := by
  have key : ∀ i, (∃ j, j < i ∧ ∀ t, t < 6 → mj_it F (j + 1) t → mj_it F j t) ∨ i ≤ mj_card (mj_it F i) := by
    intro i
    induction i with
    | zero => exact Or.inr (Nat.zero_le _)
    | succ i ih =>
      rcases ih with ⟨j, h1, h2⟩ | h1
      · exact Or.inl ⟨j, by omega, h2⟩
      · by_cases hc : mj_card (mj_it F (i + 1)) ≤ mj_card (mj_it F i)
        · exact Or.inl ⟨i, by omega, mj_card_eq (mj_it_up hF i) hc⟩
        · exact Or.inr (by omega)
  rcases key 7 with ⟨j, h1, h2⟩ | h1
  · intro s hs hl
    exact mj_it_mono hF (show j ≤ i by omega) s hs (hl _ h2)
  · have := mj_card_le6 (mj_it F 7)
    omega
end ITER
end
section
/-! PLAIN LAW, 3: measures. A stable measure below 1000000 shows the formula (mj_sound); what the formula says is below every measure that is reached (mj_comp) -/
def mj_x (tk E : Nat → Nat) (b : Nat) : Nat := if tk b < 13 then 3 - mj_dep tk E b else 4 - mj_dep tk E b
theorem mj_div_coarse {a b x y : Nat} (hxy : x ≤ y) (h : a / 25 ^ x ≤ b / 25 ^ x) : a / 25 ^ y ≤ b / 25 ^ y := by
  obtain ⟨z, rfl⟩ : ∃ z, y = x + z := ⟨y - x, by omega⟩
  rw [Nat.pow_add, ← Nat.div_div_eq_div_mul, ← Nat.div_div_eq_div_mul]
  exact Nat.div_le_div_right h
/-- what the measure w at (k, s) needs of the measures that the game goes on with -/
def mj_PG (st mk tk E B : Nat → Nat) (ρ : Nat → Nat → Nat) (k s w : Nat) : Prop :=
  if tk k < 10 then mj_node st mk (tk k) (fun x => ρ x (k + 1) ≤ w) (fun x => ρ x (E (k + 1)) ≤ w) s
  else if tk k < 13 then ρ s (k + 1) < 1000000 ∧ ρ s (k + 1) / 25 ^ (3 - mj_dep tk E k) < w / 25 ^ (3 - mj_dep tk E k)
  else if tk k < 16 then ρ s (k + 1) < 1000000 ∧ ρ s (k + 1) / 25 ^ (4 - mj_dep tk E k) ≤ w / 25 ^ (4 - mj_dep tk E k)
  else ρ s (B k) ≤ w
section SOUND
variable {st mk tk : Nat → Nat} {n : Nat} {E B : Nat → Nat} {ρ : Nat → Nat → Nat}
theorem mj_x_lt (h : mj_EndOK tk n E) {b k : Nat} (hk : k < n) (he : mj_Enc tk E b k) : mj_x tk E k ≤ mj_x tk E b := by
  have := mj_dep_lt h hk he
  unfold mj_x
  split <;> split <;> omega
theorem mj_sound (h : mj_EndOK tk n E) (hB : ∀ k, k < n → 16 ≤ tk k → mj_Enc tk E (B k) k) (hρ : ∀ k, k < n → ∀ s, s < 6 → ρ s k < 1000000 → mj_PG st mk tk E B ρ k s (ρ s k)) :
    ∀ d k, n - k ≤ d → k < n → ∀ (e : Nat → Nat → Prop) s, s < 6 → ρ s k < 1000000 → (∀ b, mj_Enc tk E b k → ∀ t, t < 6 → ρ t b < 1000000 → ρ t b / 25 ^ mj_x tk E b ≤ ρ s k / 25 ^ mj_x tk E b → e b t) → mj_sem st mk tk n E B k e s := by
  intro d
  induction d with
  | zero => intro k h1 h2; omega
  | succ d ih =>
    intro k h1 hk e s hs hL he
    have hp := hρ k hk s hs hL
    unfold mj_PG at hp
    by_cases c1 : tk k < 10
    · rw [if_pos c1] at hp
      rw [mj_sem_node h hk c1]
      have hnb : ¬ mj_bnd (tk k) := by unfold mj_bnd; omega
      refine mj_node_mono c1 hs (fun ha x hx hle => ?_) (fun ha x hx hle => ?_) hp
      · obtain ⟨d1, d2, d3⟩ := mj_ch1 h hk ha
        exact ih (k + 1) (by omega) d1 e x hx (by omega) (fun b hb t ht h2 h3 => he b ((mj_enc1 h hk ha hnb).mp hb) t ht h2 (Nat.le_trans h3 (Nat.div_le_div_right hle)))
      · obtain ⟨d1, d2, d3, d4⟩ := mj_ch2 h hk ha
        exact ih (E (k + 1)) (by omega) d2 e x hx (by omega) (fun b hb t ht h2 h3 => he b ((mj_enc2 h hk ha).mp hb) t ht h2 (Nat.le_trans h3 (Nat.div_le_div_right hle)))
    · rw [if_neg c1] at hp
      by_cases c3 : tk k < 16
      · have hb0 : mj_bnd (tk k) := ⟨by omega, c3⟩
        obtain ⟨d1, d2, d3⟩ := mj_ch1 h hk (by rw [Ne, mj_ar0]; omega)
        -- one step down from any state t that stands no higher than s
        have step : ∀ (X : Nat → Prop) (t : Nat), t < 6 → ρ t (k + 1) < 1000000 → ρ t (k + 1) / 25 ^ mj_x tk E k ≤ ρ s k / 25 ^ mj_x tk E k → (∀ t', t' < 6 → ρ t' k < 1000000 → ρ t' k / 25 ^ mj_x tk E k ≤ ρ t (k + 1) / 25 ^ mj_x tk E k → X t') → mj_sem st mk tk n E B (k + 1) (mj_up e k X) t := by
          intro X t ht hLt hle hX
          refine ih (k + 1) (by omega) d1 _ t ht hLt (fun b hb t' ht' h2 h3 => ?_)
          rcases (mj_encB h hk hb0).mp hb with q | q
          · have hne : b ≠ k := by have := q.1; omega
            rw [mj_up_n _ _ hne]
            exact he b q t' ht' h2 (Nat.le_trans h3 (mj_div_coarse (mj_x_lt h hk q) hle))
          · subst q
            rw [mj_up_s]
            exact hX t' ht' h2 h3
        by_cases c2 : tk k < 13
        · have hx : mj_x tk E k = 3 - mj_dep tk E k := by unfold mj_x; rw [if_pos c2]
          rw [mj_sem_mu hk (by omega) c2]
          intro X hX
          have key : ∀ v t, t < 6 → ρ t k < 1000000 → ρ t k / 25 ^ mj_x tk E k ≤ ρ s k / 25 ^ mj_x tk E k → ρ t k / 25 ^ mj_x tk E k < v → X t := by
            intro v
            induction v with
            | zero => intro t _ _ _ hv; exact absurd hv (Nat.not_lt_zero _)
            | succ v ihv =>
              intro t ht hLt hle hv
              have hpt := hρ k hk t ht hLt
              unfold mj_PG at hpt
              rw [if_neg c1, if_pos c2, ← hx] at hpt
              exact hX t ht (step X t ht hpt.1 (Nat.le_trans (Nat.le_of_lt hpt.2) hle) (fun t' ht' h2 h3 => ihv t' ht' h2 (Nat.le_trans h3 (Nat.le_trans (Nat.le_of_lt hpt.2) hle)) (Nat.lt_of_lt_of_le (Nat.lt_of_le_of_lt h3 hpt.2) (Nat.le_of_lt_succ hv))))
          exact key _ s hs hL (Nat.le_refl _) (Nat.lt_succ_self _)
        · have hx : mj_x tk E k = 4 - mj_dep tk E k := by unfold mj_x; rw [if_neg c2]
          refine mj_nu_greatest (X := fun t => t < 6 ∧ ρ t k < 1000000 ∧ ρ t k / 25 ^ mj_x tk E k ≤ ρ s k / 25 ^ mj_x tk E k) hk (by omega) c3 (fun t ht hXt => ?_) ⟨hs, hL, Nat.le_refl _⟩
          obtain ⟨-, hLt, hle⟩ := hXt
          have hpt := hρ k hk t ht hLt
          unfold mj_PG at hpt
          rw [if_neg c1, if_neg c2, if_pos c3, ← hx] at hpt
          exact step _ t ht hpt.1 (Nat.le_trans hpt.2 hle) (fun t' ht' h2 h3 => ⟨ht', h2, Nat.le_trans h3 (Nat.le_trans hpt.2 hle)⟩)
      · rw [if_neg (show ¬ tk k < 13 by omega), if_neg c3] at hp
        rw [mj_sem_name hk (by omega)]
        exact he (B k) (hB k hk (by omega)) s hs (by omega) (Nat.div_le_div_right hp)
end SOUND
/-! digits -/
def mj_pack (m : Nat → Nat) : Nat := ((25 * m 0 + m 1) * 25 + m 2) * 25 + m 3
def mj_ok (cap m : Nat → Nat) : Prop := ∀ i, i < 4 → m i ≤ cap i
def mj_Valid (cap : Nat → Nat) (v : Nat) : Prop := v = 1000000 ∨ ∃ m, mj_ok cap m ∧ v = mj_pack m
/-- the digit row m as far as place d, z there, the caps behind -/
def mj_cut (cap m : Nat → Nat) (d z : Nat) : Nat → Nat := fun j => if j < d then m j else if j = d then z else cap j
theorem mj_pack_lt {cap m : Nat → Nat} (hc : ∀ i, i < 4 → cap i ≤ 24) (hm : mj_ok cap m) : mj_pack m < 390625 := by
  have h0 := hm 0 (by omega)
  have h1 := hm 1 (by omega)
  have h2 := hm 2 (by omega)
  have h3 := hm 3 (by omega)
  have g0 := hc 0 (by omega)
  have g1 := hc 1 (by omega)
  have g2 := hc 2 (by omega)
  have g3 := hc 3 (by omega)
  unfold mj_pack
  omega
theorem mj_cut_mu {cap m : Nat → Nat} (hc : ∀ i, i < 4 → cap i ≤ 24) (hm : mj_ok cap m) {d i : Nat} (hd : d < 4) (hi : m d = i + 1) : mj_ok cap (mj_cut cap m d i) ∧ mj_pack (mj_cut cap m d i) / 25 ^ (3 - d) < mj_pack m / 25 ^ (3 - d) := by
  have h0 := hm 0 (by omega)
  have h1 := hm 1 (by omega)
  have h2 := hm 2 (by omega)
  have h3 := hm 3 (by omega)
  have g0 := hc 0 (by omega)
  have g1 := hc 1 (by omega)
  have g2 := hc 2 (by omega)
  have g3 := hc 3 (by omega)
  constructor
  · intro j hj
    have := hm j hj
    unfold mj_cut
    split
    · exact this
    · split
      · rename_i e; subst e; omega
      · exact Nat.le_refl _
  · rcases (show d = 0 ∨ d = 1 ∨ d = 2 ∨ d = 3 by omega) with rfl | rfl | rfl | rfl
    · simp [mj_pack, mj_cut]; omega
    · simp [mj_pack, mj_cut]; omega
    · simp [mj_pack, mj_cut]; omega
    · simp [mj_pack, mj_cut]; omega
theorem mj_cut_nu {cap m : Nat → Nat} (hc : ∀ i, i < 4 → cap i ≤ 24) (hm : mj_ok cap m) {d : Nat} (hd : d < 4) : mj_ok cap (mj_cut cap m d (cap d)) ∧ mj_pack (mj_cut cap m d (cap d)) / 25 ^ (4 - d) ≤ mj_pack m / 25 ^ (4 - d) := by
  have h0 := hm 0 (by omega)
  have h1 := hm 1 (by omega)
  have h2 := hm 2 (by omega)
  have h3 := hm 3 (by omega)
  have g0 := hc 0 (by omega)
  have g1 := hc 1 (by omega)
  have g2 := hc 2 (by omega)
  have g3 := hc 3 (by omega)
  constructor
  · intro j hj
    have := hm j hj
    unfold mj_cut
    split
    · exact this
    · split
      · rename_i e; subst e; omega
      · exact Nat.le_refl _
  · rcases (show d = 0 ∨ d = 1 ∨ d = 2 ∨ d = 3 by omega) with rfl | rfl | rfl | rfl
    · simp [mj_pack, mj_cut]; omega
    · simp [mj_pack, mj_cut]; omega
    · simp [mj_pack, mj_cut]; omega
    · simp [mj_pack, mj_cut]; omega
/-! the meaning of each binder by digits: a least one is its m(depth)-th approximant, a greatest one what it is -/
def mj_ap (st mk tk : Nat → Nat) (n : Nat) (E B : Nat → Nat) (m : Nat → Nat) (k : Nat) (e : Nat → Nat → Prop) : Nat → Prop :=
  if tk k < 13 then mj_it (fun X => mj_sem st mk tk n E B (k + 1) (mj_up e k X)) (m (mj_dep tk E k)) else mj_sem st mk tk n E B k e
def mj_em (st mk tk : Nat → Nat) (n : Nat) (E B : Nat → Nat) (m : Nat → Nat) : Nat → Nat → Nat → Prop
  | 0 => fun _ _ => False
  | j + 1 => mj_up (mj_em st mk tk n E B m j) j (mj_ap st mk tk n E B m j (mj_em st mk tk n E B m j))
section COMP
variable {st mk tk : Nat → Nat} {n : Nat} {E B : Nat → Nat} {cap m m' : Nat → Nat} {ρ : Nat → Nat → Nat}
theorem mj_em_at {b : Nat} : ∀ j, b < j → mj_em st mk tk n E B m j b = mj_ap st mk tk n E B m b (mj_em st mk tk n E B m b) := by
  intro j
  induction j with
  | zero => intro h; omega
  | succ j ih =>
    intro h
    by_cases e : b = j
    · subst e
      exact mj_up_s _ _ _
    · show mj_up (mj_em st mk tk n E B m j) j _ b = _
      rw [mj_up_n _ _ e]
      exact ih (by omega)
theorem mj_itF_mono (h : mj_EndOK tk n E) (hB : ∀ k, k < n → 16 ≤ tk k → mj_Enc tk E (B k) k) {k : Nat} (hk : k < n) (hb : mj_bnd (tk k)) (e : Nat → Nat → Prop) : ∀ X Y : Nat → Prop, (∀ t, t < 6 → X t → Y t) → ∀ s, s < 6 → mj_sem st mk tk n E B (k + 1) (mj_up e k X) s → mj_sem st mk tk n E B (k + 1) (mj_up e k Y) s :=
  fun _ _ hXY _ hs hx => mj_body_le h hB hk hb (fun _ _ _ _ q => q) hXY hs hx
theorem mj_ap_le (h : mj_EndOK tk n E) (hB : ∀ k, k < n → 16 ≤ tk k → mj_Enc tk E (B k) k) {k : Nat} (hk : k < n) (hb : mj_bnd (tk k)) {e e' : Nat → Nat → Prop} (he : ∀ b, mj_Enc tk E b k → ∀ x, x < 6 → e b x → e' b x) (hm : m (mj_dep tk E k) = m' (mj_dep tk E k)) : ∀ x, x < 6 → mj_ap st mk tk n E B m k e x → mj_ap st mk tk n E B m' k e' x := by
  unfold mj_ap
  by_cases c : tk k < 13
  · rw [if_pos c, if_pos c, ← hm]
    generalize m (mj_dep tk E k) = i
    induction i with
    | zero => intro x _ q; exact q.elim
    | succ i ih => intro x hx q; exact mj_body_le h hB hk hb he ih hx q
  · rw [if_neg c, if_neg c]
    intro x hx q
    exact mj_sem_le h hB hk he hx q
/-- digits that agree as far as the binder's depth give it the same meaning -/
theorem mj_em_agree (h : mj_EndOK tk n E) (hB : ∀ k, k < n → 16 ≤ tk k → mj_Enc tk E (B k) k) : ∀ d k, k < d → k < n → mj_bnd (tk k) → (∀ i, i ≤ mj_dep tk E k → m i = m' i) → ∀ x, x < 6 → mj_ap st mk tk n E B m k (mj_em st mk tk n E B m k) x → mj_ap st mk tk n E B m' k (mj_em st mk tk n E B m' k) x := by
  intro d
  induction d with
  | zero => intro k h1; omega
  | succ d ih =>
    intro k h1 hk hb hm x hx q
    refine mj_ap_le h hB hk hb (fun b hbk y hy hyb => ?_) (hm _ (Nat.le_refl _)) x hx q
    rw [mj_em_at k hbk.1] at hyb ⊢
    have := mj_dep_lt h hk hbk
    have hbk1 := hbk.1
    exact ih b (by omega) (by omega) hbk.2.1 (fun i hi => hm i (by omega)) y hy hyb
theorem mj_e_eq (h : mj_EndOK tk n E) (hB : ∀ k, k < n → 16 ≤ tk k → mj_Enc tk E (B k) k) {k : Nat} (hk : k < n) (hb : mj_bnd (tk k)) {x : Nat} (hx : x < 6) : mj_em st mk tk n E B m n k x ↔ mj_ap st mk tk n E B m k (mj_em st mk tk n E B m n) x := by
  rw [mj_em_at n hk]
  have same : ∀ b, mj_Enc tk E b k → mj_em st mk tk n E B m k b = mj_em st mk tk n E B m n b := fun b hbk => by
    rw [mj_em_at k hbk.1, mj_em_at n (by have := hbk.1; omega)]
  constructor
  · exact fun q => mj_ap_le h hB hk hb (fun b hbk y _ hy => by rw [← same b hbk]; exact hy) rfl x hx q
  · exact fun q => mj_ap_le h hB hk hb (fun b hbk y _ hy => by rw [same b hbk]; exact hy) rfl x hx q
theorem mj_e_agree (h : mj_EndOK tk n E) (hB : ∀ k, k < n → 16 ≤ tk k → mj_Enc tk E (B k) k) {k : Nat} (hk : k < n) (hb : mj_bnd (tk k)) (hm : ∀ i, i ≤ mj_dep tk E k → m i = m' i) {x : Nat} (hx : x < 6) (q : mj_em st mk tk n E B m n k x) : mj_em st mk tk n E B m' n k x := by
  rw [mj_em_at n hk] at q ⊢
  exact mj_em_agree h hB (k + 1) k (by omega) hk hb hm x hx q
/-- a binder whose digit is the cap is what its formula says -/
theorem mj_e_settled (h : mj_EndOK tk n E) (hB : ∀ k, k < n → 16 ≤ tk k → mj_Enc tk E (B k) k) {k : Nat} (hk : k < n) (hb : mj_bnd (tk k)) (h6 : tk k < 13 → 6 ≤ m (mj_dep tk E k)) {x : Nat} (hx : x < 6) : mj_em st mk tk n E B m n k x ↔ mj_sem st mk tk n E B k (mj_em st mk tk n E B m n) x := by
  rw [mj_e_eq h hB hk hb hx]
  unfold mj_ap
  by_cases c : tk k < 13
  · rw [if_pos c]
    have hF := mj_itF_mono (st := st) (mk := mk) h hB hk hb (mj_em st mk tk n E B m n)
    constructor
    · exact fun q => mj_it_pre hF (fun t ht hf => mj_mu_fold h hB hk hb.1 c ht hf) _ x hx q
    · intro q
      rw [mj_sem_mu hk hb.1 c] at q
      exact mj_it_6 hF (h6 c) x hx q
  · rw [if_neg c]
theorem mj_dep3 (hn : mj_nb tk n ≤ 4) {k : Nat} (hk : k < n) (hb : mj_bnd (tk k)) : mj_dep tk E k < 4 := by
  have := mj_dep_nb (E := E) k hk hb
  omega
/-- the reached measure is below every digit row that shows the position -/
def mj_Inv (st mk tk : Nat → Nat) (n : Nat) (E B cap : Nat → Nat) (ρ : Nat → Nat → Nat) : Prop := ∀ s, s < 6 → ∀ k, k < n → ∀ m, mj_ok cap m → mj_val st mk tk n E B k (mj_em st mk tk n E B m n) s → ρ s k ≤ mj_pack m
theorem mj_comp (h : mj_EndOK tk n E) (hB : ∀ k, k < n → 16 ≤ tk k → mj_Enc tk E (B k) k) (hn : mj_nb tk n ≤ 4) (hc : ∀ i, i < 4 → cap i ≤ 24) (hc6 : ∀ k, k < n → 10 ≤ tk k → tk k < 13 → 6 ≤ cap (mj_dep tk E k)) (hI : mj_Inv st mk tk n E B cap ρ) {k s : Nat} (hk : k < n) (hs : s < 6) (hm : mj_ok cap m) (hv : mj_val st mk tk n E B k (mj_em st mk tk n E B m n) s) : mj_PG st mk tk E B ρ k s (mj_pack m) := by
  unfold mj_PG
  by_cases c1 : tk k < 10
  · rw [if_pos c1]
    rw [mj_val_node h hk c1] at hv
    refine mj_node_mono c1 hs (fun ha x hx q => ?_) (fun ha x hx q => ?_) hv
    · exact hI x hx (k + 1) (mj_ch1 h hk ha).1 m hm q
    · exact hI x hx (E (k + 1)) (mj_ch2 h hk ha).2.1 m hm q
  · rw [if_neg c1]
    by_cases c3 : tk k < 16
    · have hb : mj_bnd (tk k) := ⟨by omega, c3⟩
      have hd : mj_dep tk E k < 4 := mj_dep3 hn hk hb
      obtain ⟨d1, d2, d3⟩ := mj_ch1 h hk (by rw [Ne, mj_ar0]; omega)
      rw [mj_val_bnd hk (by omega) c3] at hv
      rw [mj_e_eq h hB hk hb hs] at hv
      unfold mj_ap at hv
      -- with digits cut at k's depth, all that is within k is settled
      have inner : ∀ z, z = z → ∀ q, k + 1 ≤ q → q < E (k + 1) → mj_bnd (tk q) → ∀ x, x < 6 → (mj_em st mk tk n E B (mj_cut cap m (mj_dep tk E k) z) n q x ↔ mj_sem st mk tk n E B q (mj_em st mk tk n E B (mj_cut cap m (mj_dep tk E k) z) n) x) := by
        intro z _ q q1 q2 qb x hx
        have hq : q < n := by have := mj_le h d1; omega
        refine mj_e_settled h hB hq qb (fun c => ?_) hx
        have hlt : mj_dep tk E k < mj_dep tk E q := mj_dep_lt h hq ⟨by omega, hb, by omega⟩
        unfold mj_cut
        rw [if_neg (by omega), if_neg (by omega)]
        exact hc6 q hq qb.1 c
      by_cases c2 : tk k < 13
      · rw [if_pos c2]
        rw [if_pos c2] at hv
        cases hi : m (mj_dep tk E k) with
        | zero => rw [hi] at hv; exact hv.elim
        | succ i =>
          rw [hi] at hv
          obtain ⟨k1, k2⟩ := mj_cut_mu hc hm hd hi
          have hsem : mj_sem st mk tk n E B (k + 1) (mj_em st mk tk n E B (mj_cut cap m (mj_dep tk E k) i) n) s := by
            refine mj_sem_le h hB d1 (fun b hbk y hy hyb => ?_) hs hv
            rcases (mj_encB h hk hb).mp hbk with q | q
            · have hne : b ≠ k := by have := q.1; omega
              rw [mj_up_n _ _ hne] at hyb
              have hlt := mj_dep_lt h hk q
              refine mj_e_agree h hB (by have := q.1; omega) q.2.1 (fun j hj => ?_) hy hyb
              unfold mj_cut
              rw [if_pos (by omega)]
            · subst q
              rw [mj_up_s] at hyb
              rw [mj_e_eq h hB hk hb hy]
              have hz : mj_cut cap m (mj_dep tk E b) i (mj_dep tk E b) = i := by
                unfold mj_cut; rw [if_neg (by omega), if_pos rfl]
              refine mj_ap_le (m := fun _ => i) (e := mj_em st mk tk n E B m n) h hB hk hb (fun b' hb' y' hy' q' => ?_) hz.symm y hy ?_
              · have hlt := mj_dep_lt h hk hb'
                refine mj_e_agree h hB (by have := hb'.1; omega) hb'.2.1 (fun j hj => ?_) hy' q'
                unfold mj_cut
                rw [if_pos (by omega)]
              · unfold mj_ap
                rw [if_pos c2]
                exact hyb
          have hval := (mj_val_sem h n (k + 1) (by omega) d1 _ (inner i rfl) s hs).mpr hsem
          have hle := hI s hs (k + 1) d1 _ k1 hval
          have hlt := mj_pack_lt hc k1
          exact ⟨by omega, Nat.lt_of_le_of_lt (Nat.div_le_div_right hle) k2⟩
      · rw [if_neg c2, if_pos c3]
        rw [if_neg c2] at hv
        obtain ⟨k1, k2⟩ := mj_cut_nu hc hm hd
        have hsem : mj_sem st mk tk n E B (k + 1) (mj_em st mk tk n E B (mj_cut cap m (mj_dep tk E k) (cap (mj_dep tk E k))) n) s := by
          refine mj_sem_le h hB d1 (fun b hbk y hy hyb => ?_) hs (mj_nu_unfold h hB hk (by omega) c3 hs hv)
          have agree : ∀ b', mj_Enc tk E b' k → ∀ y', y' < 6 → mj_em st mk tk n E B m n b' y' → mj_em st mk tk n E B (mj_cut cap m (mj_dep tk E k) (cap (mj_dep tk E k))) n b' y' := by
            intro b' hb' y' hy' q'
            have hlt := mj_dep_lt h hk hb'
            refine mj_e_agree h hB (by have := hb'.1; omega) hb'.2.1 (fun j hj => ?_) hy' q'
            unfold mj_cut
            rw [if_pos (by omega)]
          rcases (mj_encB h hk hb).mp hbk with q | q
          · have hne : b ≠ k := by have := q.1; omega
            rw [mj_up_n _ _ hne] at hyb
            exact agree b q y hy hyb
          · subst q
            rw [mj_up_s] at hyb
            rw [mj_e_eq h hB hk hb hy]
            unfold mj_ap
            rw [if_neg c2]
            exact mj_sem_le h hB hk agree hy hyb
        have hval := (mj_val_sem h n (k + 1) (by omega) d1 _ (inner _ rfl) s hs).mpr hsem
        have hle := hI s hs (k + 1) d1 _ k1 hval
        have hlt := mj_pack_lt hc k1
        exact ⟨by omega, Nat.le_trans (Nat.div_le_div_right hle) k2⟩
    · rw [if_neg (show ¬ tk k < 13 by omega), if_neg c3]
      rw [mj_val_name hk (by omega)] at hv
      have he := hB k hk (by omega)
      have hbn : B k < n := by have := he.1; omega
      exact hI s hs (B k) hbn m hm (by rw [mj_val_bnd hbn he.2.1.1 he.2.1.2]; exact hv)
/-- at the end: the first token -/
theorem mj_comp0 (h : mj_EndOK tk n E) (hB : ∀ k, k < n → 16 ≤ tk k → mj_Enc tk E (B k) k) (h0 : 0 < n) (hc : ∀ i, i < 4 → cap i ≤ 24) (hc6 : ∀ k, k < n → 10 ≤ tk k → tk k < 13 → 6 ≤ cap (mj_dep tk E k)) (hI : mj_Inv st mk tk n E B cap ρ) {s : Nat} (hs : s < 6) {e : Nat → Nat → Prop} (hsem : mj_sem st mk tk n E B 0 e s) : ρ s 0 < 1000000 := by
  have ok : mj_ok cap cap := fun i _ => Nat.le_refl _
  have h1 : mj_sem st mk tk n E B 0 (mj_em st mk tk n E B cap n) s := mj_sem_le h hB h0 (fun b hb => by have := hb.1; omega) hs hsem
  have h2 := (mj_val_sem h n 0 (by omega) h0 (mj_em st mk tk n E B cap n) (fun q _ q2 qb x hx => mj_e_settled h hB (by have := mj_le h h0; omega) qb (fun c => hc6 q (by have := mj_le h h0; omega) qb.1 c) hx) s hs).mpr h1
  have h3 := hI s hs 0 h0 cap ok h2
  have h4 := mj_pack_lt hc ok
  omega
theorem mj_sound0 (h : mj_EndOK tk n E) (hB : ∀ k, k < n → 16 ≤ tk k → mj_Enc tk E (B k) k) (h0 : 0 < n) (hρ : ∀ k, k < n → ∀ s, s < 6 → ρ s k < 1000000 → mj_PG st mk tk E B ρ k s (ρ s k)) {s : Nat} (hs : s < 6) (e : Nat → Nat → Prop) (hL : ρ s 0 < 1000000) : mj_sem st mk tk n E B 0 e s :=
  mj_sound h hB hρ n 0 (by omega) h0 e s hs hL (fun b hb => by have := hb.1; omega)
end COMP
end
section
/-! PLAIN LAW, 4: the reference's rounds: the last binder whose set isn't what its term gives takes what it gives, those within begin anew -/
section ROUNDS
variable {st mk tk : Nat → Nat} {n : Nat} {E B : Nat → Nat} {f f' : Nat → Nat → Prop}
theorem mj_up_self (f : Nat → Nat → Prop) (b : Nat) : mj_up f b (f b) = f := by
  funext c
  unfold mj_up
  by_cases h : c = b
  · rw [if_pos h, h]
  · rw [if_neg h]
/-- each set lies on its way to the fixed point -/
def mj_MI (st mk tk : Nat → Nat) (n : Nat) (E B : Nat → Nat) (f : Nat → Nat → Prop) : Prop := ∀ b, b < n → mj_bnd (tk b) → ∀ x, x < 6 →
  (tk b < 13 → (f b x → mj_sem st mk tk n E B b f x) ∧ (f b x → mj_sem st mk tk n E B (b + 1) f x)) ∧ (13 ≤ tk b → (mj_sem st mk tk n E B b f x → f b x) ∧ (mj_sem st mk tk n E B (b + 1) f x → f b x))
theorem mj_settled (h : mj_EndOK tk n E) (hI : mj_MI st mk tk n E B f) {lo : Nat} (hset : ∀ p, lo ≤ p → p < n → mj_bnd (tk p) → ∀ x, x < 6 → (mj_val st mk tk n E B (p + 1) f x ↔ f p x)) :
    ∀ d p, n - p ≤ d → lo ≤ p → p < n → mj_bnd (tk p) → ∀ x, x < 6 → (f p x ↔ mj_sem st mk tk n E B p f x) := by
  intro d
  induction d with
  | zero => intro p h1 _ h2; omega
  | succ d ih =>
    intro p h1 hlo hp hb
    obtain ⟨d1, d2, d3⟩ := mj_ch1 h hp (by rw [Ne, mj_ar0]; unfold mj_bnd at hb; omega)
    have hv : ∀ x, x < 6 → (mj_sem st mk tk n E B (p + 1) f x ↔ f p x) := by
      intro x hx
      rw [← hset p hlo hp hb x hx]
      exact (mj_val_sem h n (p + 1) (by omega) d1 f (fun q q1 q2 qb => ih q (by omega) (by omega) (by have := mj_le h d1; omega) qb) x hx).symm
    intro x hx
    obtain ⟨i1, i2⟩ := hI p hp hb x hx
    by_cases c : tk p < 13
    · refine ⟨(i1 c).1, fun q => ?_⟩
      refine mj_mu_least (X := f p) hp hb.1 c (fun t ht hF => ?_) q
      rw [mj_up_self] at hF
      exact (hv t ht).mp hF
    · refine ⟨fun q => ?_, (i2 (by omega)).1⟩
      refine mj_nu_greatest (X := f p) hp (by omega) hb.2 (fun t ht hF => ?_) q
      rw [mj_up_self]
      exact (hv t ht).mpr hF
/-- what is left of its way, as a number of base 7 -/
noncomputable def mj_c (tk : Nat → Nat) (f : Nat → Nat → Prop) (p : Nat) : Nat := if tk p < 13 then 6 - mj_card (f p) else mj_card (f p)
noncomputable def mj_Phi (tk : Nat → Nat) (f : Nat → Nat → Prop) : Nat → Nat
  | 0 => 0
  | j + 1 => if mj_bd (tk j) = true then 7 * mj_Phi tk f j + mj_c tk f j else mj_Phi tk f j
theorem mj_c_le (p : Nat) : mj_c tk f p ≤ 6 := by
  unfold mj_c
  have := mj_card_le6 (f p)
  split <;> omega
theorem mj_Phi_lt (tk : Nat → Nat) (f : Nat → Nat → Prop) : ∀ j, mj_Phi tk f j < 7 ^ mj_nb tk j := by
  intro j
  induction j with
  | zero => exact Nat.one_pos
  | succ j ih =>
    have hc := mj_c_le (tk := tk) (f := f) j
    show (if mj_bd (tk j) = true then 7 * mj_Phi tk f j + mj_c tk f j else mj_Phi tk f j) < 7 ^ (mj_nb tk j + (if mj_bd (tk j) = true then 1 else 0))
    by_cases c : mj_bd (tk j) = true
    · rw [if_pos c, if_pos c, Nat.pow_succ]
      omega
    · rw [if_neg c, if_neg c]
      exact ih
theorem mj_Phi_2401 (hn : mj_nb tk n ≤ 4) : mj_Phi tk f n < 2401 := by
  have h1 := mj_Phi_lt tk f n
  have h2 : 7 ^ mj_nb tk n ≤ 7 ^ 4 := Nat.pow_le_pow_right (by omega) hn
  omega
theorem mj_Phi_same {b : Nat} (hs : ∀ p, p < b → ∀ x, x < 6 → (f' p x ↔ f p x)) : ∀ j, j ≤ b → mj_Phi tk f' j = mj_Phi tk f j := by
  intro j
  induction j with
  | zero => intro _; rfl
  | succ j ih =>
    intro hj
    have h1 := ih (by omega)
    have h2 : mj_c tk f' j = mj_c tk f j := by
      unfold mj_c
      rw [mj_card_congr (hs j (by omega))]
    show (if _ then _ else _) = (if _ then _ else _)
    rw [h1, h2]
theorem mj_Phi_fall {b : Nat} (hs : ∀ p, p < b → ∀ x, x < 6 → (f' p x ↔ f p x)) (hb : mj_bnd (tk b)) (hc : mj_c tk f' b < mj_c tk f b) : ∀ j, b < j → mj_Phi tk f' j < mj_Phi tk f j := by
  intro j
  induction j with
  | zero => intro h; omega
  | succ j ih =>
    intro hj
    have h6 := mj_c_le (tk := tk) (f := f') j
    show (if mj_bd (tk j) = true then 7 * mj_Phi tk f' j + mj_c tk f' j else mj_Phi tk f' j) < (if mj_bd (tk j) = true then 7 * mj_Phi tk f j + mj_c tk f j else mj_Phi tk f j)
    by_cases e : j = b
    · subst e
      have h1 := mj_Phi_same (tk := tk) hs j (Nat.le_refl _)
      rw [if_pos (mj_bd_iff.mpr hb), if_pos (mj_bd_iff.mpr hb)]
      omega
    · have h1 := ih (by omega)
      by_cases c : mj_bd (tk j) = true
      · rw [if_pos c, if_pos c]; omega
      · rw [if_neg c, if_neg c]; exact h1
theorem mj_MI_first (hf : ∀ p, p < n → mj_bnd (tk p) → ∀ x, x < 6 → (f p x ↔ 13 ≤ tk p)) : mj_MI st mk tk n E B f := by
  intro b hb hbb x hx
  have h1 := hf b hb hbb x hx
  refine ⟨fun c => ⟨fun q => ?_, fun q => ?_⟩, fun c => ⟨fun _ => h1.mpr c, fun _ => h1.mpr c⟩⟩
  · have := h1.mp q; omega
  · have := h1.mp q; omega
theorem mj_MI_step (h : mj_EndOK tk n E) (hB : ∀ k, k < n → 16 ≤ tk k → mj_Enc tk E (B k) k) (hI : mj_MI st mk tk n E B f) {b : Nat} (hbn : b < n) (hb : mj_bnd (tk b))
    (hset : ∀ p, b < p → p < n → mj_bnd (tk p) → ∀ x, x < 6 → (mj_val st mk tk n E B (p + 1) f x ↔ f p x)) (hopen : ¬ ∀ x, x < 6 → (mj_val st mk tk n E B (b + 1) f x ↔ f b x))
    (h1 : ∀ x, x < 6 → (f' b x ↔ mj_val st mk tk n E B (b + 1) f x)) (h2 : ∀ p, b < p → p < E b → mj_bnd (tk p) → ∀ x, x < 6 → (f' p x ↔ 13 ≤ tk p)) (h3 : ∀ p, p < n → (p < b ∨ E b ≤ p) → ∀ x, x < 6 → (f' p x ↔ f p x)) :
    mj_MI st mk tk n E B f' ∧ mj_Phi tk f' n < mj_Phi tk f n := by
  obtain ⟨d1, d2, d3⟩ := mj_ch1 h hbn (by rw [Ne, mj_ar0]; unfold mj_bnd at hb; omega)
  have hset2 := mj_settled h hI (lo := b + 1) (fun p hp => hset p (by omega)) n
  have hv : ∀ x, x < 6 → (mj_val st mk tk n E B (b + 1) f x ↔ mj_sem st mk tk n E B (b + 1) f x) :=
    mj_val_sem h n (b + 1) (by omega) d1 f (fun q q1 q2 qb => hset2 q (by omega) q1 (by have := mj_le h d1; omega) qb)
  -- around b nothing has moved
  have out : ∀ q, mj_Enc tk E q b → ∀ x, x < 6 → (f' q x ↔ f q x) := fun q hq => h3 q (by have := hq.1; omega) (Or.inl hq.1)
  have semb : ∀ x, x < 6 → (mj_sem st mk tk n E B b f' x ↔ mj_sem st mk tk n E B b f x) := fun x hx =>
    ⟨mj_sem_le h hB hbn (fun q hq y hy => (out q hq y hy).mp) hx, mj_sem_le h hB hbn (fun q hq y hy => (out q hq y hy).mpr) hx⟩
  constructor
  · intro p hp hpb x hx
    by_cases e : p = b
    · subst e
      obtain ⟨i1, i2⟩ := hI p hp hpb x hx
      constructor
      · intro c
        have grow : ∀ y, y < 6 → f p y → f' p y := fun y hy q => (h1 y hy).mpr ((hv y hy).mpr (((hI p hp hpb y hy).1 c).2 q))
        constructor
        · intro q
          rw [semb x hx]
          refine mj_mu_fold h hB hp hpb.1 c hx ?_
          have q2 := (hv x hx).mp ((h1 x hx).mp q)
          rw [← mj_up_self f p] at q2
          exact mj_body_le h hB hp hpb (fun b' _ y _ z => z) (fun y hy z => ((hI p hp hpb y hy).1 c).1 z) hx q2
        · intro q
          have q2 := (hv x hx).mp ((h1 x hx).mp q)
          rw [← mj_up_self f p] at q2
          rw [← mj_up_self f' p]
          exact mj_body_le h hB hp hpb (fun b' hb' y hy z => (out b' hb' y hy).mpr z) grow hx q2
      · intro c
        have fall : ∀ y, y < 6 → f' p y → f p y := fun y hy q => ((hI p hp hpb y hy).2 c).2 ((hv y hy).mp ((h1 y hy).mp q))
        constructor
        · intro q
          rw [semb x hx] at q
          refine (h1 x hx).mpr ((hv x hx).mpr ?_)
          have q2 := mj_nu_unfold h hB hp c hpb.2 hx q
          rw [← mj_up_self f p]
          exact mj_body_le h hB hp hpb (fun b' _ y _ z => z) (fun y hy z => ((hI p hp hpb y hy).2 c).1 z) hx q2
        · intro q
          refine (h1 x hx).mpr ((hv x hx).mpr ?_)
          rw [← mj_up_self f' p] at q
          rw [← mj_up_self f p]
          exact mj_body_le h hB hp hpb (fun b' hb' y hy z => (out b' hb' y hy).mp z) fall hx q
    · by_cases hin : b < p ∧ p < E b
      · have h4 := h2 p hin.1 hin.2 hpb x hx
        refine ⟨fun c => ⟨fun q => ?_, fun q => ?_⟩, fun c => ⟨fun _ => h4.mpr c, fun _ => h4.mpr c⟩⟩
        · have := h4.mp q; omega
        · have := h4.mp q; omega
      · -- apart from b
        have apart : ∀ q, mj_Enc tk E q p → q < n ∧ (q < b ∨ E b ≤ q) := by
          intro q hq
          obtain ⟨a1, a2, a3⟩ := hq
          refine ⟨by omega, ?_⟩
          by_cases z : q < b
          · exact Or.inl z
          · right
            by_cases z2 : q = b
            · subst z2; omega
            · by_cases z3 : q < E b
              · have := mj_lam' h hbn (show b < q by omega) z3
                omega
              · omega
        have hself : ∀ y, y < 6 → (f' p y ↔ f p y) := h3 p hp (by omega)
        obtain ⟨g1, g2, g3⟩ := mj_ch1 h hp (by rw [Ne, mj_ar0]; unfold mj_bnd at hpb; omega)
        have sp : ∀ y, y < 6 → (mj_sem st mk tk n E B p f' y ↔ mj_sem st mk tk n E B p f y) := fun y hy =>
          ⟨mj_sem_le h hB hp (fun q hq z hz => (h3 q (apart q hq).1 (apart q hq).2 z hz).mp) hy, mj_sem_le h hB hp (fun q hq z hz => (h3 q (apart q hq).1 (apart q hq).2 z hz).mpr) hy⟩
        have sp1 : ∀ y, y < 6 → (mj_sem st mk tk n E B (p + 1) f' y ↔ mj_sem st mk tk n E B (p + 1) f y) := by
          intro y hy
          have a1 : ∀ q, mj_Enc tk E q (p + 1) → ∀ z, z < 6 → (f' q z ↔ f q z) := by
            intro q hq z hz
            rcases (mj_encB h hp hpb).mp hq with w | w
            · exact h3 q (apart q w).1 (apart q w).2 z hz
            · subst w; exact hself z hz
          exact ⟨mj_sem_le h hB g1 (fun q hq z hz => (a1 q hq z hz).mp) hy, mj_sem_le h hB g1 (fun q hq z hz => (a1 q hq z hz).mpr) hy⟩
        have := hI p hp hpb x hx
        rw [hself x hx, sp x hx, sp1 x hx]
        exact this
  · refine mj_Phi_fall (fun p hp => h3 p (by omega) (Or.inl hp)) hb ?_ n hbn
    unfold mj_c
    have k6 := mj_card_le6 (f b)
    have k6' := mj_card_le6 (f' b)
    by_cases c : tk b < 13
    · rw [if_pos c, if_pos c]
      have grow : ∀ y, y < 6 → f b y → f' b y := fun y hy q => (h1 y hy).mpr ((hv y hy).mpr (((hI b hbn hb y hy).1 c).2 q))
      have hne : ¬ mj_card (f' b) ≤ mj_card (f b) := by
        intro hle
        have back := mj_card_eq grow hle
        exact hopen (fun x hx => ⟨fun q => back x hx ((h1 x hx).mpr q), fun q => (h1 x hx).mp (grow x hx q)⟩)
      omega
    · rw [if_neg c, if_neg c]
      have fall : ∀ y, y < 6 → f' b y → f b y := fun y hy q => ((hI b hbn hb y hy).2 (by omega)).2 ((hv y hy).mp ((h1 y hy).mp q))
      have hne : ¬ mj_card (f b) ≤ mj_card (f' b) := by
        intro hle
        have back := mj_card_eq fall hle
        exact hopen (fun x hx => ⟨fun q => fall x hx ((h1 x hx).mpr q), fun q => (h1 x hx).mp (back x hx q)⟩)
      omega
theorem mj_MI_end (h : mj_EndOK tk n E) (h0 : 0 < n) (hI : mj_MI st mk tk n E B f) (hset : ∀ p, p < n → mj_bnd (tk p) → ∀ x, x < 6 → (mj_val st mk tk n E B (p + 1) f x ↔ f p x)) {x : Nat} (hx : x < 6) : mj_val st mk tk n E B 0 f x ↔ mj_sem st mk tk n E B 0 f x :=
  mj_val_sem h n 0 (by omega) h0 f (fun q _ q2 qb => mj_settled h hI (lo := 0) (fun p _ => hset p) n q (by omega) (by omega) (by have := mj_le h h0; omega) qb) x hx
end ROUNDS
end
section
/-! THE WALK, 1: one form of contract for every method: the world is a list of cells, and so is what comes back; calls by it -/
abbrev vwCl : List vw_C := [(RX0, TX0, 15), (RX1, TX1, 9)]
abbrev xPre (D : va_G) (tys : List (ClassId × FieldType)) (w : va_W) (sz : Nat) (U : State) : Prop := U.heap.size = sz ∧ va_P D vwCl w U.heap ∧ va_K D vwCl tys U ∧ va_D (fun _ => True) w
abbrev xB (D : va_G) (tys : List (ClassId × FieldType)) (A : Nat → Prop) (u : va_W) (t : State) : Prop := va_P D vwCl u t.heap ∧ va_K D vwCl tys t ∧ va_D A u
/-- the contract of a method that answers an int: from the world w to a world u with 'post answer u' -/
def xMi (l : Launch) (y : MethodName) (b : ByteArray) (L : Nat) (r : FieldType) (rm : Room) (D : va_G) (tys : List (ClassId × FieldType)) (w : va_W) (av : List Value) (post : Int32 → va_W → Prop) : Prop :=
  ∀ sz : Nat, Met l y (ws_ y b L (some r)) rm (va_Pc av (xPre D tys w sz)) (va_Qi post (xB D tys (va_A w sz)) (va_A w sz)) 0 0 (va_A w sz)
def xMv (l : Launch) (y : MethodName) (b : ByteArray) (L : Nat) (rm : Room) (D : va_G) (tys : List (ClassId × FieldType)) (w : va_W) (av : List Value) (post : va_W → Prop) : Prop :=
  ∀ sz : Nat, Met l y (ws_ y b L none) rm (va_Pc av (xPre D tys w sz)) (va_Qv post (xB D tys (va_A w sz)) (va_A w sz)) 0 0 (va_A w sz)
/-- a method that reads nothing of the heap -/
def pMi (l : Launch) (y : MethodName) (b : ByteArray) (L : Nat) (r : FieldType) (rm : Room) (av : List Value) (post : Int32 → Prop) : Prop :=
  Met l y (ws_ y b L (some r)) rm (va_Pc av (fun _ => True)) (vp_Si post) 0 0 (fun _ => False)
theorem xMi_intro {l : Launch} {y : MethodName} {b : ByteArray} {L : Nat} {r : FieldType} {rm : Room} {D : va_G} {tys : List (ClassId × FieldType)} {w : va_W} {av : List Value} {post : Int32 → va_W → Prop} (hy : plainName y.cls = true) (hL : (lg_sl av).length ≤ L)
    (body : ∀ (p : Program) (e : Env) (s : State) (m : MethodId) (args : Array Value) (below : List Frame) (meth : Method) (c : Code) (A : Nat → Prop) (Q : State → Prop), p.tables.exec = Jvm.exec → c.code = b → c.maxLocals = L → s.vm.findClass y.cls = some m.cls → (∀ w ∈ lw_all, w.before args s = true) → (∀ q : Nat, s.heap.size ≤ q → A q) → va_K D vwCl tys s → va_P D vwCl w s.heap → va_D A w → va_S A s.heap s.heap [] →
      (∀ (H : Heap) (locs : List Loc) (pc : Nat) (ls : Array Slot) (v : Int32) (u : va_W), narrow r (.int v) = .int v → decode b pc = .ok (.ireturn, 1) → post v u → va_P D vwCl u H → va_D A u → va_S A s.heap H locs → W p l e rm s m args below meth c H locs 0 0 Q (F0 m pc ls [.int v])) →
      ∀ ls : Array Slot, lv_has ls L (lv_args 0 av) → W p l e rm s m args below meth c s.heap [] 0 0 Q (F0 m 0 ls [])) : xMi l y b L r rm D tys w av post := by
  intro sz
  refine Met.ofW (cc := b) (maxL := L) (ret := some r) hy rfl ?_
  intro p e s m args below meth c s₁ B hml hv
  obtain ⟨rfl, hsz, hP, hK, hD0⟩ := hv
  have hts := atoms_spec (ws := ws_ y b L (some r)) B.pre
  have hts : ∀ w ∈ lw_all, w.before _ s = true := fun w h => hts w (List.mem_cons_of_mem _ h)
  subst hsz
  have hD := hD0.self (sz := s.heap.size)
  rw [lg_entry_eq]
  refine body p e s m _ below meth c (va_A w s.heap.size) _ B.exec B.bytes hml (findClass_of_methodNamed B.named) hts (fun q h => Or.inr h) hK hP hD va_S.rf ?_ _ (lv_entry av hL)
  intro H locs pc ls v u hn hdg hpost hPu hDu hS
  exact W.zret B.exec B.bytes B.returns hn (fun t ht hW => ⟨⟨v, u, rfl, hpost, by rw [ht]; exact hPu, va_K.moved hW.alike hK, hDu⟩, hS.F ht⟩) hS.2.2 hdg B.notSynchronized
theorem xMv_intro {l : Launch} {y : MethodName} {b : ByteArray} {L : Nat} {rm : Room} {D : va_G} {tys : List (ClassId × FieldType)} {w : va_W} {av : List Value} {post : va_W → Prop} (hy : plainName y.cls = true) (hL : (lg_sl av).length ≤ L)
    (body : ∀ (p : Program) (e : Env) (s : State) (m : MethodId) (args : Array Value) (below : List Frame) (meth : Method) (c : Code) (A : Nat → Prop) (Q : State → Prop), p.tables.exec = Jvm.exec → c.code = b → c.maxLocals = L → s.vm.findClass y.cls = some m.cls → (∀ w ∈ lw_all, w.before args s = true) → (∀ q : Nat, s.heap.size ≤ q → A q) → va_K D vwCl tys s → va_P D vwCl w s.heap → va_D A w → va_S A s.heap s.heap [] →
      (∀ (H : Heap) (locs : List Loc) (pc : Nat) (ls : Array Slot) (u : va_W), decode b pc = .ok (.return_, 1) → post u → va_P D vwCl u H → va_D A u → va_S A s.heap H locs → W p l e rm s m args below meth c H locs 0 0 Q (F0 m pc ls [])) →
      ∀ ls : Array Slot, lv_has ls L (lv_args 0 av) → W p l e rm s m args below meth c s.heap [] 0 0 Q (F0 m 0 ls [])) : xMv l y b L rm D tys w av post := by
  intro sz
  refine Met.ofW (cc := b) (maxL := L) (ret := none) hy rfl ?_
  intro p e s m args below meth c s₁ B hml hv
  obtain ⟨rfl, hsz, hP, hK, hD0⟩ := hv
  have hts := atoms_spec (ws := ws_ y b L none) B.pre
  have hts : ∀ w ∈ lw_all, w.before _ s = true := fun w h => hts w (List.mem_cons_of_mem _ h)
  subst hsz
  have hD := hD0.self (sz := s.heap.size)
  rw [lg_entry_eq]
  refine body p e s m _ below meth c (va_A w s.heap.size) _ B.exec B.bytes hml (findClass_of_methodNamed B.named) hts (fun q h => Or.inr h) hK hP hD va_S.rf ?_ _ (lv_entry av hL)
  intro H locs pc ls u hdg hpost hPu hDu hS
  exact W.vret B.exec B.bytes B.returns (fun t ht hW => ⟨⟨u, rfl, hpost, by rw [ht]; exact hPu, va_K.moved hW.alike hK, hDu⟩, hS.F ht⟩) hS.2.2 hdg B.notSynchronized
theorem pMi_intro {l : Launch} {y : MethodName} {b : ByteArray} {L : Nat} {r : FieldType} {rm : Room} {av : List Value} {post : Int32 → Prop} (hy : plainName y.cls = true) (hL : (lg_sl av).length ≤ L)
    (body : ∀ (p : Program) (e : Env) (s : State) (m : MethodId) (args : Array Value) (below : List Frame) (meth : Method) (c : Code) (Q : State → Prop), p.tables.exec = Jvm.exec → c.code = b → c.maxLocals = L → s.vm.findClass y.cls = some m.cls → (∀ w ∈ lw_all, w.before args s = true) →
      (∀ (pc : Nat) (ls : Array Slot) (v : Int32), narrow r (.int v) = .int v → decode b pc = .ok (.ireturn, 1) → post v → W p l e rm s m args below meth c s.heap [] 0 0 Q (F0 m pc ls [.int v])) →
      ∀ ls : Array Slot, lv_has ls L (lv_args 0 av) → W p l e rm s m args below meth c s.heap [] 0 0 Q (F0 m 0 ls [])) : pMi l y b L r rm av post := by
  refine Met.ofW (cc := b) (maxL := L) (ret := some r) hy rfl ?_
  intro p e s m args below meth c s₁ B hml hv
  obtain ⟨rfl, -⟩ := hv
  have hts := atoms_spec (ws := ws_ y b L (some r)) B.pre
  have hts : ∀ w ∈ lw_all, w.before _ s = true := fun w h => hts w (List.mem_cons_of_mem _ h)
  rw [lg_entry_eq]
  refine body p e s m _ below meth c _ B.exec B.bytes hml (findClass_of_methodNamed B.named) hts ?_ _ (lv_entry av hL)
  intro pc ls v hn hdg hpost
  exact W.zret B.exec B.bytes B.returns hn (fun t ht hW => ⟨v, rfl, hpost, ht⟩) (fun q h => by cases h) hdg B.notSynchronized
section XC
variable {p : Program} {l : Launch} {e : Env} {R : Room} {s : State} {m : MethodId} {args : Array Value} {below : List Frame} {meth : Method} {c : Code} {H : Heap} {locs : List Loc} {cells slots : Nat} {Q : State → Prop}
variable {cc b : ByteArray} {pc nL L n index ci a : Nat} {ls : Array Slot} {st0 rest As fs : List Value} {y : MethodName} {r : FieldType} {rm : Room} {D : va_G} {tys : List (ClassId × FieldType)} {w w2 : va_W} {A : Nat → Prop} {own C : String} {T : u_T} {N : Nat}
theorem x_blind {av : List Value} {sz : Nat} : FrameBlind (va_Pc av (xPre D tys w sz)) := fun a U g mk q => by
  obtain ⟨q0, q1, qP, qK, qD⟩ := q
  exact ⟨q0, q1, qP, va_K.moved (u := U) (U := U.calling g mk a) (Vm.Alike.refl U.vm) qK, qD⟩
theorem x_free {H0 : Heap} (hD : va_D A w) (hS : va_S A H0 H locs) (hA : ∀ q : Nat, H0.size ≤ q → A q) : ∀ q, va_A w H.size q → A q := by
  intro q h
  rcases h with ⟨k, x, h⟩ | h
  · exact hD.2 k _ h
  · exact hA q (Nat.le_trans hS.1 h)
theorem xcall_i {post : Int32 → va_W → Prop} (S : CallFix p m c cc nL s args lw_all own) (hM : xMi l y b L r rm D tys w (.ref a :: As) post) (cw : CallW R s args own C index y b L (some r) (ws_ y b L (some r)) rm 0 0 n) (hc : vwCl[ci]? = some (C, T, N)) (he : w[0]? = some (a, .inr (ci, fs)))
    (hK : va_K D vwCl tys s) (hP : va_P D vwCl w H) (hD : va_D A w) (hS : va_S A s.heap H locs) (hA : ∀ q : Nat, s.heap.size ≤ q → A q) (hn : As.length = n) (hsize : ls.size = nL) (hst : st0 = As.reverse ++ .ref a :: rest) (hr : (rest.map fun v => v.category).sum ≤ 8) (hdg : decode cc pc = .ok (.invokevirtual index, 3)) (hf : cells ≤ R.cells ∧ slots ≤ R.slots)
    (kk : ∀ (v : Int32) (u : va_W) (H1 : Heap) (locs1 : List Loc), post v u → va_P D vwCl u H1 → va_D A u → va_S A s.heap H1 locs1 → W p l e R s m args below meth c H1 locs1 cells slots Q (F0 m (pc + 3) ls (.int v :: rest))) : W p l e R s m args below meth c H locs cells slots Q (F0 m pc ls st0) := by
  have hF := x_free hD hS hA
  refine va_calli (va_runV (As := As) (rest := rest) S (hM H.size) cw ⟨x_blind, va_recv hK hP hc he, fun U hU hW => ⟨rfl, by rw [hU], by rw [hU]; exact hP, va_K.moved hW.alike hK, hD.weaken (fun _ _ _ _ => trivial)⟩⟩ rfl hn hsize hst (lv_room hr) hdg hf) hS (fun q _ h => hF q h) hF (fun v u t H1 locs1 ht hvm hw hB hz hk hS1 => ?_)
  obtain ⟨hP1, hK1, hD1⟩ := hB
  rw [ht] at hP1
  exact kk v u H1 locs1 hw hP1 (hD1.weaken (fun _ q _ h => hF q.1 h)) hS1
theorem xcall_v {post : va_W → Prop} (S : CallFix p m c cc nL s args lw_all own) (hM : xMv l y b L rm D tys w (.ref a :: As) post) (cw : CallW R s args own C index y b L none (ws_ y b L none) rm 0 0 n) (hc : vwCl[ci]? = some (C, T, N)) (he : w[0]? = some (a, .inr (ci, fs)))
    (hK : va_K D vwCl tys s) (hP : va_P D vwCl w H) (hD : va_D A w) (hS : va_S A s.heap H locs) (hA : ∀ q : Nat, s.heap.size ≤ q → A q) (hn : As.length = n) (hsize : ls.size = nL) (hst : st0 = As.reverse ++ .ref a :: rest) (hr : (rest.map fun v => v.category).sum ≤ 8) (hdg : decode cc pc = .ok (.invokevirtual index, 3)) (hf : cells ≤ R.cells ∧ slots ≤ R.slots)
    (kk : ∀ (u : va_W) (H1 : Heap) (locs1 : List Loc), post u → va_P D vwCl u H1 → va_D A u → va_S A s.heap H1 locs1 → W p l e R s m args below meth c H1 locs1 cells slots Q (F0 m (pc + 3) ls rest)) : W p l e R s m args below meth c H locs cells slots Q (F0 m pc ls st0) := by
  have hF := x_free hD hS hA
  refine va_callv (va_runV (As := As) (rest := rest) S (hM H.size) cw ⟨x_blind, va_recv hK hP hc he, fun U hU hW => ⟨rfl, by rw [hU], by rw [hU]; exact hP, va_K.moved hW.alike hK, hD.weaken (fun _ _ _ _ => trivial)⟩⟩ rfl hn hsize hst (lv_room hr) hdg hf) hS (fun q _ h => hF q h) hF (fun u t H1 locs1 ht hvm hw hB hz hk hS1 => ?_)
  obtain ⟨hP1, hK1, hD1⟩ := hB
  rw [ht] at hP1
  exact kk u H1 locs1 hw hP1 (hD1.weaken (fun _ q _ h => hF q.1 h)) hS1
theorem pcall_i {post : Int32 → Prop} {q0 : Nat} (S : CallFix p m c cc nL s args lw_all own) (hM : pMi l y b L r rm (.ref a :: As) post) (cw : CallW R s args own C index y b L (some r) (ws_ y b L (some r)) rm 0 0 n) (hc : vwCl[ci]? = some (C, T, N)) (he : w[q0]? = some (a, .inr (ci, fs)))
    (hK : va_K D vwCl tys s) (hP : va_P D vwCl w H) (hn : As.length = n) (hsize : ls.size = nL) (hst : st0 = As.reverse ++ .ref a :: rest) (hr : (rest.map fun v => v.category).sum ≤ 8) (hdg : decode cc pc = .ok (.invokevirtual index, 3)) (hf : cells ≤ R.cells ∧ slots ≤ R.slots)
    (kk : ∀ v : Int32, post v → W p l e R s m args below meth c H locs cells slots Q (F0 m (pc + 3) ls (.int v :: rest))) : W p l e R s m args below meth c H locs cells slots Q (F0 m pc ls st0) :=
  vp_callSi (va_Run.run (va_runV (As := As) (rest := rest) S hM cw ⟨fun _ _ _ _ q => ⟨q.1, trivial⟩, va_recv hK hP hc he, fun U hU hW => ⟨rfl, trivial⟩⟩ rfl hn hsize hst (lv_room hr) hdg hf)) kk
/-- a call whose world is the front part of ours: the other part stays -/
theorem x_joinL {H0 H1 : Heap} (hP : va_P D vwCl (w ++ w2) H) (hD : va_D A (w ++ w2)) {u : va_W} (hP1 : va_P D vwCl u H1) (hD1 : va_D (va_A w H.size) u) (hk : ∀ q : Nat, q < H.size → ¬ va_A w H.size q → H1[q]? = H[q]?) (hF : ∀ q, va_A w H.size q → A q) : va_P D vwCl (u ++ w2) H1 ∧ va_D A (u ++ w2) := by
  have hw2 : ∀ (k : Nat) (q : Nat × va_E), w2[k]? = some q → (w ++ w2)[w.length + k]? = some q := fun k q h => by
    rw [List.getElem?_append_right (by omega), show w.length + k - w.length = k by omega]; exact h
  have apart : ∀ (k : Nat) (q : Nat × va_E), w2[k]? = some q → q.1 < H.size ∧ ¬ va_A w H.size q.1 := by
    intro k q hq
    have hl := (hP _ q (hw2 k q hq)).lt
    refine ⟨hl, fun h => ?_⟩
    rcases h with ⟨k2, x, h⟩ | h
    · have hlt : k2 < w.length := (List.getElem?_eq_some_iff.mp h).1
      have := hD.1 (w.length + k) k2 q (q.1, x) (hw2 k q hq) (by rw [List.getElem?_append_left hlt]; exact h) rfl
      omega
    · omega
  refine ⟨va_P.app hP1 (fun k q hq => ?_), va_D.app (hD1.weaken (fun k q _ h => hF q.1 h)) ⟨fun i j x z hx hz hxz => ?_, fun k q hq => hD.2 _ q (hw2 k q hq)⟩ (fun i j x z hx hz hxz => ?_)⟩
  · obtain ⟨g1, g2⟩ := apart k q hq
    exact (hP _ q (hw2 k q hq)).kept (hk q.1 g1 g2)
  · have := hD.1 _ _ x z (hw2 i x hx) (hw2 j z hz) hxz
    omega
  · exact (apart j z hz).2 (by rw [← hxz]; exact hD1.2 i x hx)
theorem x_left (hP : va_P D vwCl (w ++ w2) H) (hD : va_D A (w ++ w2)) : va_P D vwCl w H ∧ va_D A w := by
  have h1 : ∀ (k : Nat) (q : Nat × va_E), w[k]? = some q → (w ++ w2)[k]? = some q := fun k q h => by
    rw [List.getElem?_append_left (List.getElem?_eq_some_iff.mp h).1]; exact h
  exact ⟨fun k q h => hP k q (h1 k q h), fun i j x z hx hz => hD.1 i j x z (h1 i x hx) (h1 j z hz), fun k q h => hD.2 k q (h1 k q h)⟩
theorem x_swap (hP : va_P D vwCl (w ++ w2) H) (hD : va_D A (w ++ w2)) : va_P D vwCl (w2 ++ w) H ∧ va_D A (w2 ++ w) := by
  have at1 : ∀ (k : Nat) (q : Nat × va_E), (w2 ++ w)[k]? = some q → ∃ j, (w ++ w2)[j]? = some q ∧ (k < w2.length → j = w.length + k) ∧ (w2.length ≤ k → j = k - w2.length ∧ j < w.length) := by
    intro k q h
    by_cases hk : k < w2.length
    · rw [List.getElem?_append_left hk] at h
      exact ⟨w.length + k, by rw [List.getElem?_append_right (by omega), show w.length + k - w.length = k by omega]; exact h, fun _ => rfl, fun h2 => by omega⟩
    · rw [List.getElem?_append_right (by omega)] at h
      have hlt := (List.getElem?_eq_some_iff.mp h).1
      exact ⟨k - w2.length, by rw [List.getElem?_append_left hlt]; exact h, fun h2 => by omega, fun _ => ⟨rfl, hlt⟩⟩
  refine ⟨fun k q h => ?_, fun i j x z hx hz hxz => ?_, fun k q h => ?_⟩
  · obtain ⟨j, hj, -⟩ := at1 k q h
    exact hP j q hj
  · obtain ⟨i', hi', a1, a2⟩ := at1 i x hx
    obtain ⟨j', hj', b1, b2⟩ := at1 j z hz
    have := hD.1 i' j' x z hi' hj' hxz
    by_cases hi : i < w2.length
    · have := a1 hi
      by_cases hj : j < w2.length
      · have := b1 hj; omega
      · have := b2 (by omega); omega
    · have := a2 (by omega)
      by_cases hj : j < w2.length
      · have := b1 hj; omega
      · have := b2 (by omega); omega
  · obtain ⟨j, hj, -⟩ := at1 k q h
    exact hD.2 j q hj
/-- the law's calls: the object's own cells stand in front, the others behind -/
theorem lcall_i {post : Int32 → va_W → Prop} (S : CallFix p m c cc nL s args lw_all own) (hM : xMi l y b L r rm D tys w (.ref a :: As) post) (cw : CallW R s args own C index y b L (some r) (ws_ y b L (some r)) rm 0 0 n) (hc : vwCl[ci]? = some (C, T, N)) (he : w[0]? = some (a, .inr (ci, fs)))
    (hK : va_K D vwCl tys s) (hP : va_P D vwCl (w ++ w2) H) (hD : va_D A (w ++ w2)) (hS : va_S A s.heap H locs) (hA : ∀ q : Nat, s.heap.size ≤ q → A q) (hn : As.length = n) (hsize : ls.size = nL) (hst : st0 = As.reverse ++ .ref a :: rest) (hr : (rest.map fun v => v.category).sum ≤ 8) (hdg : decode cc pc = .ok (.invokevirtual index, 3)) (hf : cells ≤ R.cells ∧ slots ≤ R.slots)
    (kk : ∀ (v : Int32) (u : va_W) (H1 : Heap) (locs1 : List Loc), post v u → va_P D vwCl (u ++ w2) H1 → va_D A (u ++ w2) → va_S A s.heap H1 locs1 → W p l e R s m args below meth c H1 locs1 cells slots Q (F0 m (pc + 3) ls (.int v :: rest))) : W p l e R s m args below meth c H locs cells slots Q (F0 m pc ls st0) := by
  obtain ⟨hPl, hDl⟩ := x_left hP hD
  have hF := x_free hDl hS hA
  refine va_calli (va_runV (As := As) (rest := rest) S (hM H.size) cw ⟨x_blind, va_recv hK hPl hc he, fun U hU hW => ⟨rfl, by rw [hU], by rw [hU]; exact hPl, va_K.moved hW.alike hK, hDl.weaken (fun _ _ _ _ => trivial)⟩⟩ rfl hn hsize hst (lv_room hr) hdg hf) hS (fun q _ h => hF q h) hF (fun v u t H1 locs1 ht hvm hw hB hz hk hS1 => ?_)
  obtain ⟨hP1, hK1, hD1⟩ := hB
  rw [ht] at hP1
  obtain ⟨g1, g2⟩ := x_joinL (H0 := H) hP hD hP1 hD1 hk hF
  exact kk v u H1 locs1 hw g1 g2 hS1
end XC
end
section
/-! THE WALK, 2: the kit's rows at natural numbers: nI a on the stack, nA g in an array; nP j is j - 1 (so -1 is nP 0) -/
def nA (g : Nat → Nat) : Nat → Int32 := fun j => nI (g j)
def nP (j : Nat) : Int32 := nI j - 1
def nPA (g : Nat → Nat) : Nat → Int32 := fun j => nP (g j)
def upN (g : Nat → Nat) (k v : Nat) : Nat → Nat := fun j => if j = k then v else g j
theorem upN_s (g : Nat → Nat) (k v : Nat) : upN g k v k = v := by simp [upN]
theorem upN_n (g : Nat → Nat) {k j : Nat} (v : Nat) (h : j ≠ k) : upN g k v j = g j := by simp [upN, h]
theorem nA_upd (g : Nat → Nat) (k v : Nat) : upd (nA g) k (nI v) = nA (upN g k v) := by
  funext j
  simp only [upd, nA, upN]
  split <;> rfl
theorem nPA_upd (g : Nat → Nat) (k v : Nat) : upd (nPA g) k (nP v) = nPA (upN g k v) := by
  funext j
  simp only [upd, nPA, upN]
  split <;> rfl
theorem nP_succ (j : Nat) : nP (j + 1) = nI j := nI_pred j
theorem nP_0 : nP 0 = -1 := by decide
theorem nP_neg : nP 0 < 0 := by decide
theorem nI_m1 (j : Nat) : nI j + (-1) = nP j := by
  unfold nP
  grind
theorem nI_byte {a : Nat} (h : a < 128) : (nI a).toInt8.toInt32 = nI a := by
  have := nI_toInt (n := a) (by omega)
  exact lg_i2b_small (by omega) (by omega)
theorem nv_narB {a : Nat} (h : a < 128) : vp_nar .byte (nI a) = nI a := by rw [vp_nar_byte, nI_byte h]
theorem nv_narP {a : Nat} (h : a < 128) : vp_nar .byte (nP a) = nP a := by
  cases a with
  | zero => decide
  | succ a => rw [nP_succ, nv_narB (by omega)]
theorem nI_sh : ∀ k, k < 32 → ((nI k &&& 31).toBitVec.smod 32).toNat = k := by decide +kernel
theorem nI_shl {a k : Nat} (hk : k < 32) (h : a * 2 ^ k < 2 ^ 32) : nI a <<< (nI k &&& 31) = nI (a * 2 ^ k) := pk_shlN _ k (nI_sh k hk) h
theorem nI_shr {a k : Nat} (hk : k < 32) (h : a < 2 ^ 31) : nI a >>> (nI k &&& 31) = nI (a / 2 ^ k) := pk_shrN h _ k (nI_sh k hk)
theorem nI_and (a b : Nat) : nI a &&& nI b = nI (a &&& b) := by
  apply Int32.toBitVec_inj.1
  show BitVec.ofNat 32 a &&& BitVec.ofNat 32 b = BitVec.ofNat 32 (a &&& b)
  apply BitVec.eq_of_getLsbD_eq
  intro i hi
  simp [hi]
theorem nI_or (a b : Nat) : nI a ||| nI b = nI (a ||| b) := by
  apply Int32.toBitVec_inj.1
  show BitVec.ofNat 32 a ||| BitVec.ofNat 32 b = BitVec.ofNat 32 (a ||| b)
  apply BitVec.eq_of_getLsbD_eq
  intro i hi
  simp [hi]
theorem nI_xor (a b : Nat) : nI a ^^^ nI b = nI (a ^^^ b) := by
  apply Int32.toBitVec_inj.1
  show BitVec.ofNat 32 a ^^^ BitVec.ofNat 32 b = BitVec.ofNat 32 (a ^^^ b)
  apply BitVec.eq_of_getLsbD_eq
  intro i hi
  simp [hi]
theorem nI_m1n : ((-1 : Int32)) = nI 4294967295 := by decide
theorem and_not64 {a b : Nat} (ha : a < 64) (hb : b < 64) : a &&& (b ^^^ 4294967295) = a &&& (b ^^^ 63) := by
  apply Nat.eq_of_testBit_eq
  intro i
  rw [Nat.testBit_and, Nat.testBit_and, Nat.testBit_xor, Nat.testBit_xor]
  by_cases hi : i < 6
  · have h1 : Nat.testBit 4294967295 i = Nat.testBit 63 i := (by decide : ∀ i, i < 6 → Nat.testBit 4294967295 i = Nat.testBit 63 i) i hi
    rw [h1]
  · have : a.testBit i = false := Nat.testBit_lt_two_pow (Nat.lt_of_lt_of_le ha (Nat.le_trans (show 64 ≤ 2 ^ 6 by decide) (Nat.pow_le_pow_right (by decide) (by omega))))
    rw [this]
    rfl
theorem nI_andn {a b : Nat} (ha : a < 64) (hb : b < 64) : nI a &&& (nI b ^^^ (-1)) = nI (a &&& (b ^^^ 63)) := by
  rw [nI_m1n, nI_xor, nI_and, and_not64 ha hb]
section NV
variable {p : Program} {l : Launch} {e : Env} {R : Room} {s : State} {m : MethodId} {args : Array Value} {below : List Frame} {meth : Method} {c : Code} {H : Heap} {locs : List Loc} {cells slots : Nat} {Q : State → Prop}
variable {cc : ByteArray} {pc : Nat} {ls : Array Slot} {rest : List Value} {a b : Nat}
theorem nv_iadd (hexec : p.tables.exec = Jvm.exec) (hb : c.code = cc) (hdg : decode cc pc = .ok (.iadd, 1)) (k : W p l e R s m args below meth c H locs cells slots Q (F0 m (pc + 1) ls (.int (nI (a + b)) :: rest))) : W p l e R s m args below meth c H locs cells slots Q (F0 m pc ls (.int (nI b) :: .int (nI a) :: rest)) := lv_iadd hexec hb hdg (by rw [nI_add]; exact k)
theorem nv_isub (hexec : p.tables.exec = Jvm.exec) (hb : c.code = cc) (h : b ≤ a) (hdg : decode cc pc = .ok (.isub, 1)) (k : W p l e R s m args below meth c H locs cells slots Q (F0 m (pc + 1) ls (.int (nI (a - b)) :: rest))) : W p l e R s m args below meth c H locs cells slots Q (F0 m pc ls (.int (nI b) :: .int (nI a) :: rest)) := lv_isub hexec hb hdg (by rw [pk_sub h]; exact k)
theorem nv_isub1 (hexec : p.tables.exec = Jvm.exec) (hb : c.code = cc) (hdg : decode cc pc = .ok (.isub, 1)) (k : W p l e R s m args below meth c H locs cells slots Q (F0 m (pc + 1) ls (.int (nP a) :: rest))) : W p l e R s m args below meth c H locs cells slots Q (F0 m pc ls (.int (nI 1) :: .int (nI a) :: rest)) := lv_isub hexec hb hdg k
theorem nv_imul (hexec : p.tables.exec = Jvm.exec) (hb : c.code = cc) (hdg : decode cc pc = .ok (.imul, 1)) (k : W p l e R s m args below meth c H locs cells slots Q (F0 m (pc + 1) ls (.int (nI (a * b)) :: rest))) : W p l e R s m args below meth c H locs cells slots Q (F0 m pc ls (.int (nI b) :: .int (nI a) :: rest)) := lv_imul hexec hb hdg (by rw [pk_mul]; exact k)
theorem nv_idiv (hexec : p.tables.exec = Jvm.exec) (hb : c.code = cc) (ha : a < 2 ^ 31) (h0 : 0 < b) (hb2 : b < 2 ^ 31) (hdg : decode cc pc = .ok (.idiv, 1)) (k : W p l e R s m args below meth c H locs cells slots Q (F0 m (pc + 1) ls (.int (nI (a / b)) :: rest))) : W p l e R s m args below meth c H locs cells slots Q (F0 m pc ls (.int (nI b) :: .int (nI a) :: rest)) := lv_idiv hexec hb hdg (nI_ne0 h0 hb2) (by rw [pk_div ha h0 hb2]; exact k)
theorem nv_irem (hexec : p.tables.exec = Jvm.exec) (hb : c.code = cc) (ha : a < 2 ^ 31) (h0 : 0 < b) (hb2 : b < 2 ^ 31) (hdg : decode cc pc = .ok (.irem, 1)) (k : W p l e R s m args below meth c H locs cells slots Q (F0 m (pc + 1) ls (.int (nI (a % b)) :: rest))) : W p l e R s m args below meth c H locs cells slots Q (F0 m pc ls (.int (nI b) :: .int (nI a) :: rest)) := lv_irem hexec hb hdg (nI_ne0 h0 hb2) (by rw [pk_rem ha h0 hb2]; exact k)
theorem nv_i2b (hexec : p.tables.exec = Jvm.exec) (hb : c.code = cc) (h : a < 128) (hdg : decode cc pc = .ok (.i2b, 1)) (k : W p l e R s m args below meth c H locs cells slots Q (F0 m (pc + 1) ls (.int (nI a) :: rest))) : W p l e R s m args below meth c H locs cells slots Q (F0 m pc ls (.int (nI a) :: rest)) := lv_i2b hexec hb hdg (nI_byte h) k
theorem nv_ishl (hexec : p.tables.exec = Jvm.exec) (hb : c.code = cc) (h : b < 32) (h2 : a * 2 ^ b < 2 ^ 32) (hdg : decode cc pc = .ok (.ishl, 1)) (k : W p l e R s m args below meth c H locs cells slots Q (F0 m (pc + 1) ls (.int (nI (a * 2 ^ b)) :: rest))) : W p l e R s m args below meth c H locs cells slots Q (F0 m pc ls (.int (nI b) :: .int (nI a) :: rest)) := lv_ishl hexec hb hdg (by rw [nI_shl h h2]; exact k)
theorem nv_ishr (hexec : p.tables.exec = Jvm.exec) (hb : c.code = cc) (h : b < 32) (h2 : a < 2 ^ 31) (hdg : decode cc pc = .ok (.ishr, 1)) (k : W p l e R s m args below meth c H locs cells slots Q (F0 m (pc + 1) ls (.int (nI (a / 2 ^ b)) :: rest))) : W p l e R s m args below meth c H locs cells slots Q (F0 m pc ls (.int (nI b) :: .int (nI a) :: rest)) := lv_ishr hexec hb hdg (by rw [nI_shr h h2]; exact k)
theorem nv_iand (hexec : p.tables.exec = Jvm.exec) (hb : c.code = cc) (hdg : decode cc pc = .ok (.iand, 1)) (k : W p l e R s m args below meth c H locs cells slots Q (F0 m (pc + 1) ls (.int (nI (a &&& b)) :: rest))) : W p l e R s m args below meth c H locs cells slots Q (F0 m pc ls (.int (nI b) :: .int (nI a) :: rest)) := lv_iand hexec hb hdg (by rw [nI_and]; exact k)
theorem nv_ior (hexec : p.tables.exec = Jvm.exec) (hb : c.code = cc) (hdg : decode cc pc = .ok (.ior, 1)) (k : W p l e R s m args below meth c H locs cells slots Q (F0 m (pc + 1) ls (.int (nI (a ||| b)) :: rest))) : W p l e R s m args below meth c H locs cells slots Q (F0 m pc ls (.int (nI b) :: .int (nI a) :: rest)) := lv_ior hexec hb hdg (by rw [nI_or]; exact k)
theorem nv_ixor (hexec : p.tables.exec = Jvm.exec) (hb : c.code = cc) (hdg : decode cc pc = .ok (.ixor, 1)) (k : W p l e R s m args below meth c H locs cells slots Q (F0 m (pc + 1) ls (.int (nI (a ^^^ b)) :: rest))) : W p l e R s m args below meth c H locs cells slots Q (F0 m pc ls (.int (nI b) :: .int (nI a) :: rest)) := lv_ixor hexec hb hdg (by rw [nI_xor]; exact k)
theorem nv_iandn (hexec : p.tables.exec = Jvm.exec) (hb : c.code = cc) (ha : a < 64) (hb2 : b < 64) (hdg : decode cc pc = .ok (.iand, 1)) (k : W p l e R s m args below meth c H locs cells slots Q (F0 m (pc + 1) ls (.int (nI (a &&& (b ^^^ 63))) :: rest))) : W p l e R s m args below meth c H locs cells slots Q (F0 m pc ls (.int (nI b ^^^ (-1)) :: .int (nI a) :: rest)) := lv_iand hexec hb hdg (by rw [nI_andn ha hb2]; exact k)
theorem nv_iinc (hexec : p.tables.exec = Jvm.exec) (hb : c.code = cc) {i nL k : Nat} {n : Int} {lv lv' : List (Nat × Value)} (v : Int32) (hdg : decode cc pc = .ok (.iinc i n, 3)) (h : lv_has ls nL lv) (hk : lv[k]? = some (i, .int (nI a))) (hv : nI a + Int32.ofInt n = v) (hn : i < nL) (hl : (i, Value.int v) :: lv.filter (fun q => !(q.1 == i) && !(q.1 + 1 == i && q.2.category == 2)) = lv')
    (kk : ∀ ls' : Array Slot, lv_has ls' nL lv' → W p l e R s m args below meth c H locs cells slots Q (F0 m (pc + 3) ls' rest)) : W p l e R s m args below meth c H locs cells slots Q (F0 m pc ls rest) := lv_iinc hexec hb hdg h hk hv hn hl kk
theorem nv_icmp_eq (hexec : p.tables.exec = Jvm.exec) (hb : c.code = cc) {off : Int} {tgt : Nat} (ha : a < 2 ^ 31) (hb2 : b < 2 ^ 31) (hdg : decode cc pc = .ok (.if_icmp .eq off, 3)) (ht : (pc : Int) + off = (tgt : Int))
    (kt : a = b → W p l e R s m args below meth c H locs cells slots Q (F0 m tgt ls rest)) (kf : a ≠ b → W p l e R s m args below meth c H locs cells slots Q (F0 m (pc + 3) ls rest)) : W p l e R s m args below meth c H locs cells slots Q (F0 m pc ls (.int (nI b) :: .int (nI a) :: rest)) := lv_icmp_eq hexec hb hdg ht (fun q => kt ((nI_eq ha hb2).mp q)) (fun q => kf (fun z => q ((nI_eq ha hb2).mpr z)))
theorem nv_icmp_ne (hexec : p.tables.exec = Jvm.exec) (hb : c.code = cc) {off : Int} {tgt : Nat} (ha : a < 2 ^ 31) (hb2 : b < 2 ^ 31) (hdg : decode cc pc = .ok (.if_icmp .ne off, 3)) (ht : (pc : Int) + off = (tgt : Int))
    (kt : a ≠ b → W p l e R s m args below meth c H locs cells slots Q (F0 m tgt ls rest)) (kf : a = b → W p l e R s m args below meth c H locs cells slots Q (F0 m (pc + 3) ls rest)) : W p l e R s m args below meth c H locs cells slots Q (F0 m pc ls (.int (nI b) :: .int (nI a) :: rest)) := lv_icmp_ne hexec hb hdg ht (fun q => kt (fun z => q ((nI_eq ha hb2).mpr z))) (fun q => kf ((nI_eq ha hb2).mp q))
theorem nv_icmp_ge (hexec : p.tables.exec = Jvm.exec) (hb : c.code = cc) {off : Int} {tgt : Nat} (ha : a < 2 ^ 31) (hb2 : b < 2 ^ 31) (hdg : decode cc pc = .ok (.if_icmp .ge off, 3)) (ht : (pc : Int) + off = (tgt : Int))
    (kt : b ≤ a → W p l e R s m args below meth c H locs cells slots Q (F0 m tgt ls rest)) (kf : a < b → W p l e R s m args below meth c H locs cells slots Q (F0 m (pc + 3) ls rest)) : W p l e R s m args below meth c H locs cells slots Q (F0 m pc ls (.int (nI b) :: .int (nI a) :: rest)) := lv_icmp_ge hexec hb hdg ht (fun q => kt ((nI_leI hb2 ha).mp q)) (fun q => kf (Nat.not_le.mp (fun z => q ((nI_leI hb2 ha).mpr z))))
theorem nv_icmp_lt (hexec : p.tables.exec = Jvm.exec) (hb : c.code = cc) {off : Int} {tgt : Nat} (ha : a < 2 ^ 31) (hb2 : b < 2 ^ 31) (hdg : decode cc pc = .ok (.if_icmp .lt off, 3)) (ht : (pc : Int) + off = (tgt : Int))
    (kt : a < b → W p l e R s m args below meth c H locs cells slots Q (F0 m tgt ls rest)) (kf : b ≤ a → W p l e R s m args below meth c H locs cells slots Q (F0 m (pc + 3) ls rest)) : W p l e R s m args below meth c H locs cells slots Q (F0 m pc ls (.int (nI b) :: .int (nI a) :: rest)) := lv_icmp_lt hexec hb hdg ht (fun q => kt ((nI_ltI ha hb2).mp q)) (fun q => kf (Nat.not_lt.mp (fun z => q ((nI_ltI ha hb2).mpr z))))
theorem nv_icmp_gt (hexec : p.tables.exec = Jvm.exec) (hb : c.code = cc) {off : Int} {tgt : Nat} (ha : a < 2 ^ 31) (hb2 : b < 2 ^ 31) (hdg : decode cc pc = .ok (.if_icmp .gt off, 3)) (ht : (pc : Int) + off = (tgt : Int))
    (kt : b < a → W p l e R s m args below meth c H locs cells slots Q (F0 m tgt ls rest)) (kf : a ≤ b → W p l e R s m args below meth c H locs cells slots Q (F0 m (pc + 3) ls rest)) : W p l e R s m args below meth c H locs cells slots Q (F0 m pc ls (.int (nI b) :: .int (nI a) :: rest)) := lv_icmp_gt hexec hb hdg ht (fun q => kt ((nI_ltI hb2 ha).mp q)) (fun q => kf (Nat.not_lt.mp (fun z => q ((nI_ltI hb2 ha).mpr z))))
theorem nv_icmp_le (hexec : p.tables.exec = Jvm.exec) (hb : c.code = cc) {off : Int} {tgt : Nat} (ha : a < 2 ^ 31) (hb2 : b < 2 ^ 31) (hdg : decode cc pc = .ok (.if_icmp .le off, 3)) (ht : (pc : Int) + off = (tgt : Int))
    (kt : a ≤ b → W p l e R s m args below meth c H locs cells slots Q (F0 m tgt ls rest)) (kf : b < a → W p l e R s m args below meth c H locs cells slots Q (F0 m (pc + 3) ls rest)) : W p l e R s m args below meth c H locs cells slots Q (F0 m pc ls (.int (nI b) :: .int (nI a) :: rest)) := lv_icmp_le hexec hb hdg ht (fun q => kt ((nI_leI ha hb2).mp q)) (fun q => kf (Nat.not_le.mp (fun z => q ((nI_leI ha hb2).mpr z))))
theorem nv_if_eq (hexec : p.tables.exec = Jvm.exec) (hb : c.code = cc) {off : Int} {tgt : Nat} (ha : a < 2 ^ 31) (hdg : decode cc pc = .ok (.ifCond .eq off, 3)) (ht : (pc : Int) + off = (tgt : Int))
    (kt : a = 0 → W p l e R s m args below meth c H locs cells slots Q (F0 m tgt ls rest)) (kf : 0 < a → W p l e R s m args below meth c H locs cells slots Q (F0 m (pc + 3) ls rest)) : W p l e R s m args below meth c H locs cells slots Q (F0 m pc ls (.int (nI a) :: rest)) :=
  lv_if_eq hexec hb hdg ht (fun q => kt ((nI_eq ha (by omega)).mp (q.trans nI_0.symm))) (fun q => kf (Nat.pos_of_ne_zero (fun z => q (by rw [z]; exact nI_0))))
theorem nv_if_ne (hexec : p.tables.exec = Jvm.exec) (hb : c.code = cc) {off : Int} {tgt : Nat} (ha : a < 2 ^ 31) (hdg : decode cc pc = .ok (.ifCond .ne off, 3)) (ht : (pc : Int) + off = (tgt : Int))
    (kt : 0 < a → W p l e R s m args below meth c H locs cells slots Q (F0 m tgt ls rest)) (kf : a = 0 → W p l e R s m args below meth c H locs cells slots Q (F0 m (pc + 3) ls rest)) : W p l e R s m args below meth c H locs cells slots Q (F0 m pc ls (.int (nI a) :: rest)) :=
  lv_if_ne hexec hb hdg ht (fun q => kt (Nat.pos_of_ne_zero (fun z => q (by rw [z]; exact nI_0)))) (fun q => kf ((nI_eq ha (by omega)).mp (q.trans nI_0.symm)))
theorem nv_if_lt (hexec : p.tables.exec = Jvm.exec) (hb : c.code = cc) {off : Int} {tgt : Nat} (ha : a < 2 ^ 31) (hdg : decode cc pc = .ok (.ifCond .lt off, 3)) (ht : (pc : Int) + off = (tgt : Int))
    (kf : W p l e R s m args below meth c H locs cells slots Q (F0 m (pc + 3) ls rest)) : W p l e R s m args below meth c H locs cells slots Q (F0 m pc ls (.int (nI a) :: rest)) :=
  lv_if_lt hexec hb hdg ht (fun q => absurd q (nI_pos ha)) (fun _ => kf)
theorem nv_if_ltP (hexec : p.tables.exec = Jvm.exec) (hb : c.code = cc) {off : Int} {tgt : Nat} (hdg : decode cc pc = .ok (.ifCond .lt off, 3)) (ht : (pc : Int) + off = (tgt : Int))
    (kt : W p l e R s m args below meth c H locs cells slots Q (F0 m tgt ls rest)) : W p l e R s m args below meth c H locs cells slots Q (F0 m pc ls (.int (nP 0) :: rest)) :=
  lv_if_lt hexec hb hdg ht (fun _ => kt) (fun q => absurd nP_neg q)
theorem nv_if_ge (hexec : p.tables.exec = Jvm.exec) (hb : c.code = cc) {off : Int} {tgt : Nat} (ha : a < 2 ^ 31) (hdg : decode cc pc = .ok (.ifCond .ge off, 3)) (ht : (pc : Int) + off = (tgt : Int))
    (kt : W p l e R s m args below meth c H locs cells slots Q (F0 m tgt ls rest)) : W p l e R s m args below meth c H locs cells slots Q (F0 m pc ls (.int (nI a) :: rest)) :=
  lv_if_ge hexec hb hdg ht (fun _ => kt) (fun q => absurd (nI_pos' ha) q)
theorem nv_if_geP (hexec : p.tables.exec = Jvm.exec) (hb : c.code = cc) {off : Int} {tgt : Nat} (hdg : decode cc pc = .ok (.ifCond .ge off, 3)) (ht : (pc : Int) + off = (tgt : Int))
    (kf : W p l e R s m args below meth c H locs cells slots Q (F0 m (pc + 3) ls rest)) : W p l e R s m args below meth c H locs cells slots Q (F0 m pc ls (.int (nP 0) :: rest)) :=
  lv_if_ge hexec hb hdg ht (fun q => absurd q (by decide)) (fun _ => kf)
theorem nv_if_gt (hexec : p.tables.exec = Jvm.exec) (hb : c.code = cc) {off : Int} {tgt : Nat} (ha : a < 2 ^ 31) (hdg : decode cc pc = .ok (.ifCond .gt off, 3)) (ht : (pc : Int) + off = (tgt : Int))
    (kt : 0 < a → W p l e R s m args below meth c H locs cells slots Q (F0 m tgt ls rest)) (kf : a = 0 → W p l e R s m args below meth c H locs cells slots Q (F0 m (pc + 3) ls rest)) : W p l e R s m args below meth c H locs cells slots Q (F0 m pc ls (.int (nI a) :: rest)) :=
  lv_if_gt hexec hb hdg ht (fun q => kt (Nat.pos_of_ne_zero (fun z => by rw [z, nI_0] at q; exact absurd q (by decide)))) (fun q => kf (Nat.le_zero.mp (Nat.not_lt.mp (fun z => q (by rw [← nI_0]; exact nI_lt z ha)))))
theorem nv_if_le (hexec : p.tables.exec = Jvm.exec) (hb : c.code = cc) {off : Int} {tgt : Nat} (ha : a < 2 ^ 31) (hdg : decode cc pc = .ok (.ifCond .le off, 3)) (ht : (pc : Int) + off = (tgt : Int))
    (kt : a = 0 → W p l e R s m args below meth c H locs cells slots Q (F0 m tgt ls rest)) (kf : 0 < a → W p l e R s m args below meth c H locs cells slots Q (F0 m (pc + 3) ls rest)) : W p l e R s m args below meth c H locs cells slots Q (F0 m pc ls (.int (nI a) :: rest)) :=
  lv_if_le hexec hb hdg ht (fun q => kt (Nat.le_zero.mp (Nat.not_lt.mp (fun z => nI_nle z ha q)))) (fun q => kf (Nat.pos_of_ne_zero (fun z => q (by rw [z, nI_0]; decide))))
variable {D : va_G} {cl : List vw_C} {A : Nat → Prop} {tys : List (ClassId × FieldType)} {ws : va_W} {H0 : Heap} {cA : ClassId} {n : Nat}
theorem nx_iald (hexec : p.tables.exec = Jvm.exec) (hb : c.code = cc) (hK : va_K D cl tys s) (hP : va_P D cl ws H) (q0 t0 : Nat) {f : Nat → Int32} (ha : ws[q0]? = some (a, .inl (cA, n, .inl f))) (ht : tys[t0]? = some (cA, .int)) {k : Nat} (hk : k < n) (hn : n < 2 ^ 31) (hdg : decode cc pc = .ok (.iaload, 1))
    (kk : W p l e R s m args below meth c H locs cells slots Q (F0 m (pc + 1) ls (.int (f k) :: rest))) : W p l e R s m args below meth c H locs cells slots Q (F0 m pc ls (.int (nI k) :: .ref a :: rest)) := va_iald hexec hb hK hP q0 t0 ha ht (vp_in_nI hk hn) hdg (by rw [nI_clamp (by omega)]; exact kk)
theorem nx_bald (hexec : p.tables.exec = Jvm.exec) (hb : c.code = cc) (hK : va_K D cl tys s) (hP : va_P D cl ws H) (q0 t0 : Nat) {f : Nat → Int32} (ha : ws[q0]? = some (a, .inl (cA, n, .inl f))) (ht : tys[t0]? = some (cA, .byte)) {k : Nat} (hk : k < n) (hn : n < 2 ^ 31) (hdg : decode cc pc = .ok (.baload, 1))
    (kk : W p l e R s m args below meth c H locs cells slots Q (F0 m (pc + 1) ls (.int (f k) :: rest))) : W p l e R s m args below meth c H locs cells slots Q (F0 m pc ls (.int (nI k) :: .ref a :: rest)) := va_bald hexec hb hK hP q0 t0 ha ht (vp_in_nI hk hn) hdg (by rw [nI_clamp (by omega)]; exact kk)
theorem nv_iald (hexec : p.tables.exec = Jvm.exec) (hb : c.code = cc) (hK : va_K D cl tys s) (hP : va_P D cl ws H) (q0 t0 : Nat) {g : Nat → Nat} (ha : ws[q0]? = some (a, .inl (cA, n, .inl (nA g)))) (ht : tys[t0]? = some (cA, .int)) {k : Nat} (hk : k < n) (hn : n < 2 ^ 31) (hdg : decode cc pc = .ok (.iaload, 1))
    (kk : W p l e R s m args below meth c H locs cells slots Q (F0 m (pc + 1) ls (.int (nI (g k)) :: rest))) : W p l e R s m args below meth c H locs cells slots Q (F0 m pc ls (.int (nI k) :: .ref a :: rest)) := nx_iald hexec hb hK hP q0 t0 ha ht hk hn hdg kk
theorem nv_bald (hexec : p.tables.exec = Jvm.exec) (hb : c.code = cc) (hK : va_K D cl tys s) (hP : va_P D cl ws H) (q0 t0 : Nat) {g : Nat → Nat} (ha : ws[q0]? = some (a, .inl (cA, n, .inl (nA g)))) (ht : tys[t0]? = some (cA, .byte)) {k : Nat} (hk : k < n) (hn : n < 2 ^ 31) (hdg : decode cc pc = .ok (.baload, 1))
    (kk : W p l e R s m args below meth c H locs cells slots Q (F0 m (pc + 1) ls (.int (nI (g k)) :: rest))) : W p l e R s m args below meth c H locs cells slots Q (F0 m pc ls (.int (nI k) :: .ref a :: rest)) := nx_bald hexec hb hK hP q0 t0 ha ht hk hn hdg kk
theorem nw_iald (hexec : p.tables.exec = Jvm.exec) (hb : c.code = cc) (hK : va_K D cl tys s) (hP : va_P D cl ws H) (q0 t0 : Nat) {g : Nat → Nat} (ha : ws[q0]? = some (a, .inl (cA, n, .inl (nPA g)))) (ht : tys[t0]? = some (cA, .int)) {k : Nat} (hk : k < n) (hn : n < 2 ^ 31) (hdg : decode cc pc = .ok (.iaload, 1))
    (kk : W p l e R s m args below meth c H locs cells slots Q (F0 m (pc + 1) ls (.int (nP (g k)) :: rest))) : W p l e R s m args below meth c H locs cells slots Q (F0 m pc ls (.int (nI k) :: .ref a :: rest)) := nx_iald hexec hb hK hP q0 t0 ha ht hk hn hdg kk
theorem nw_bald (hexec : p.tables.exec = Jvm.exec) (hb : c.code = cc) (hK : va_K D cl tys s) (hP : va_P D cl ws H) (q0 t0 : Nat) {g : Nat → Nat} (ha : ws[q0]? = some (a, .inl (cA, n, .inl (nPA g)))) (ht : tys[t0]? = some (cA, .byte)) {k : Nat} (hk : k < n) (hn : n < 2 ^ 31) (hdg : decode cc pc = .ok (.baload, 1))
    (kk : W p l e R s m args below meth c H locs cells slots Q (F0 m (pc + 1) ls (.int (nP (g k)) :: rest))) : W p l e R s m args below meth c H locs cells slots Q (F0 m pc ls (.int (nI k) :: .ref a :: rest)) := nx_bald hexec hb hK hP q0 t0 ha ht hk hn hdg kk
theorem nv_iast (hexec : p.tables.exec = Jvm.exec) (hb : c.code = cc) (hK : va_K D cl tys s) (hP : va_P D cl ws H) (hD : va_D A ws) (hS : va_S A H0 H locs) (q0 t0 : Nat) {g : Nat → Nat} (ha : ws[q0]? = some (a, .inl (cA, n, .inl (nA g)))) (ht : tys[t0]? = some (cA, .int)) {k v : Nat} (hk : k < n) (hn : n < 2 ^ 31) (hdg : decode cc pc = .ok (.iastore, 1))
    (kk : ∀ (H1 : Heap) (locs1 : List Loc), va_P D cl (ws.set q0 (a, .inl (cA, n, .inl (nA (upN g k v))))) H1 → va_D A (ws.set q0 (a, .inl (cA, n, .inl (nA (upN g k v))))) → va_S A H0 H1 locs1 → W p l e R s m args below meth c H1 locs1 cells slots Q (F0 m (pc + 1) ls rest)) : W p l e R s m args below meth c H locs cells slots Q (F0 m pc ls (.int (nI v) :: .int (nI k) :: .ref a :: rest)) := by
  refine va_iast hexec hb hK hP hD hS q0 t0 ha ht (vp_in_nI hk hn) hdg (fun H1 locs1 h1 h2 h3 => ?_)
  rw [nI_clamp (by omega), nA_upd] at h1 h2
  exact kk H1 locs1 h1 h2 h3
theorem nv_bast (hexec : p.tables.exec = Jvm.exec) (hb : c.code = cc) (hK : va_K D cl tys s) (hP : va_P D cl ws H) (hD : va_D A ws) (hS : va_S A H0 H locs) (q0 t0 : Nat) {g : Nat → Nat} (ha : ws[q0]? = some (a, .inl (cA, n, .inl (nA g)))) (ht : tys[t0]? = some (cA, .byte)) {k v : Nat} (hk : k < n) (hn : n < 2 ^ 31) (hv : v < 128) (hdg : decode cc pc = .ok (.bastore, 1))
    (kk : ∀ (H1 : Heap) (locs1 : List Loc), va_P D cl (ws.set q0 (a, .inl (cA, n, .inl (nA (upN g k v))))) H1 → va_D A (ws.set q0 (a, .inl (cA, n, .inl (nA (upN g k v))))) → va_S A H0 H1 locs1 → W p l e R s m args below meth c H1 locs1 cells slots Q (F0 m (pc + 1) ls rest)) : W p l e R s m args below meth c H locs cells slots Q (F0 m pc ls (.int (nI v) :: .int (nI k) :: .ref a :: rest)) := by
  refine va_bast hexec hb hK hP hD hS q0 t0 ha ht (vp_in_nI hk hn) hdg (fun H1 locs1 h1 h2 h3 => ?_)
  rw [nI_clamp (by omega), nv_narB hv, nA_upd] at h1 h2
  exact kk H1 locs1 h1 h2 h3
theorem nw_iast (hexec : p.tables.exec = Jvm.exec) (hb : c.code = cc) (hK : va_K D cl tys s) (hP : va_P D cl ws H) (hD : va_D A ws) (hS : va_S A H0 H locs) (q0 t0 : Nat) {g : Nat → Nat} (ha : ws[q0]? = some (a, .inl (cA, n, .inl (nPA g)))) (ht : tys[t0]? = some (cA, .int)) {k v : Nat} (hk : k < n) (hn : n < 2 ^ 31) (hdg : decode cc pc = .ok (.iastore, 1))
    (kk : ∀ (H1 : Heap) (locs1 : List Loc), va_P D cl (ws.set q0 (a, .inl (cA, n, .inl (nPA (upN g k v))))) H1 → va_D A (ws.set q0 (a, .inl (cA, n, .inl (nPA (upN g k v))))) → va_S A H0 H1 locs1 → W p l e R s m args below meth c H1 locs1 cells slots Q (F0 m (pc + 1) ls rest)) : W p l e R s m args below meth c H locs cells slots Q (F0 m pc ls (.int (nP v) :: .int (nI k) :: .ref a :: rest)) := by
  refine va_iast hexec hb hK hP hD hS q0 t0 ha ht (vp_in_nI hk hn) hdg (fun H1 locs1 h1 h2 h3 => ?_)
  rw [nI_clamp (by omega), nPA_upd] at h1 h2
  exact kk H1 locs1 h1 h2 h3
theorem nw_bast (hexec : p.tables.exec = Jvm.exec) (hb : c.code = cc) (hK : va_K D cl tys s) (hP : va_P D cl ws H) (hD : va_D A ws) (hS : va_S A H0 H locs) (q0 t0 : Nat) {g : Nat → Nat} (ha : ws[q0]? = some (a, .inl (cA, n, .inl (nPA g)))) (ht : tys[t0]? = some (cA, .byte)) {k v : Nat} (hk : k < n) (hn : n < 2 ^ 31) (hv : v < 128) (hdg : decode cc pc = .ok (.bastore, 1))
    (kk : ∀ (H1 : Heap) (locs1 : List Loc), va_P D cl (ws.set q0 (a, .inl (cA, n, .inl (nPA (upN g k v))))) H1 → va_D A (ws.set q0 (a, .inl (cA, n, .inl (nPA (upN g k v))))) → va_S A H0 H1 locs1 → W p l e R s m args below meth c H1 locs1 cells slots Q (F0 m (pc + 1) ls rest)) : W p l e R s m args below meth c H locs cells slots Q (F0 m pc ls (.int (nP v) :: .int (nI k) :: .ref a :: rest)) := by
  refine va_bast hexec hb hK hP hD hS q0 t0 ha ht (vp_in_nI hk hn) hdg (fun H1 locs1 h1 h2 h3 => ?_)
  rw [nI_clamp (by omega), nv_narP hv, nPA_upd] at h1 h2
  exact kk H1 locs1 h1 h2 h3
/-! the two classes' fields -/
theorem gX0 (hexec : p.tables.exec = Jvm.exec) (hb : c.code = cc) {index : Nat} (hts : ∀ w ∈ lw_all, w.before args s = true) (hown : s.vm.findClass RX0 = some m.cls) (hK : va_K D vwCl tys s) (hP : va_P D vwCl ws H) (q0 : Nat) {fs : List Value} (he : ws[q0]? = some (a, .inr (0, fs))) (k : Nat) (hk : k < 15) (hq : Cond.fieldLink RX0 index (TX0 k).1 (TX0 k).2.1 (TX0 k).2.2.1 ∈ lw_all) {v : Value} (hv : fs[k]? = some v) (hdg : decode cc pc = .ok (.getfield index, 3))
    (kk : W p l e R s m args below meth c H locs cells slots Q (F0 m (pc + 3) ls (v :: rest))) : W p l e R s m args below meth c H locs cells slots Q (F0 m pc ls (.ref a :: rest)) :=
  va_get (C := RX0) (T := TX0) (N := 15) (ci := 0) hexec hb hts in_X0 hown hK hP q0 he rfl k hk (hts _ hq) (fun _ h9 => h9) hv hdg kk
theorem pX0 (hexec : p.tables.exec = Jvm.exec) (hb : c.code = cc) {index : Nat} (hts : ∀ w ∈ lw_all, w.before args s = true) (hown : s.vm.findClass RX0 = some m.cls) (hK : va_K D vwCl tys s) (hP : va_P D vwCl ws H) (hD : va_D A ws) (hS : va_S A H0 H locs) (q0 : Nat) {fs : List Value} (he : ws[q0]? = some (a, .inr (0, fs))) (k : Nat) (hk : k < 15) (hq : Cond.fieldLink RX0 index (TX0 k).1 (TX0 k).2.1 (TX0 k).2.2.1 ∈ lw_all) (hfin : (TX0 k).2.2.2 = false) {v : Value} (hn : narrow (tyX0 k) v = v) (hfit : fits (tyX0 k) v = true) (hl : k < fs.length) (hdg : decode cc pc = .ok (.putfield index, 3))
    (kk : ∀ (H1 : Heap) (locs1 : List Loc), va_P D vwCl (ws.set q0 (a, .inr (0, fs.set k v))) H1 → va_D A (ws.set q0 (a, .inr (0, fs.set k v))) → va_S A H0 H1 locs1 → W p l e R s m args below meth c H1 locs1 cells slots Q (F0 m (pc + 3) ls rest)) : W p l e R s m args below meth c H locs cells slots Q (F0 m pc ls (v :: .ref a :: rest)) :=
  va_put (C := RX0) (T := TX0) (N := 15) (ci := 0) hexec hb hts in_X0 tyX0 tyX0_ok nmX0 hown hK hP hD hS q0 he rfl k hk (hts _ hq) (fun _ h9 => h9) hfin (tyX0_ok k hk) hn hfit hl hdg kk
theorem gX1 (hexec : p.tables.exec = Jvm.exec) (hb : c.code = cc) {index : Nat} (hts : ∀ w ∈ lw_all, w.before args s = true) (hown : s.vm.findClass RX1 = some m.cls) (hK : va_K D vwCl tys s) (hP : va_P D vwCl ws H) (q0 : Nat) {fs : List Value} (he : ws[q0]? = some (a, .inr (1, fs))) (k : Nat) (hk : k < 9) (hq : Cond.fieldLink RX1 index (TX1 k).1 (TX1 k).2.1 (TX1 k).2.2.1 ∈ lw_all) {v : Value} (hv : fs[k]? = some v) (hdg : decode cc pc = .ok (.getfield index, 3))
    (kk : W p l e R s m args below meth c H locs cells slots Q (F0 m (pc + 3) ls (v :: rest))) : W p l e R s m args below meth c H locs cells slots Q (F0 m pc ls (.ref a :: rest)) :=
  va_get (C := RX1) (T := TX1) (N := 9) (ci := 1) hexec hb hts in_X1 hown hK hP q0 he rfl k hk (hts _ hq) (fun _ h9 => h9) hv hdg kk
theorem pX1 (hexec : p.tables.exec = Jvm.exec) (hb : c.code = cc) {index : Nat} (hts : ∀ w ∈ lw_all, w.before args s = true) (hown : s.vm.findClass RX1 = some m.cls) (hK : va_K D vwCl tys s) (hP : va_P D vwCl ws H) (hD : va_D A ws) (hS : va_S A H0 H locs) (q0 : Nat) {fs : List Value} (he : ws[q0]? = some (a, .inr (1, fs))) (k : Nat) (hk : k < 9) (hq : Cond.fieldLink RX1 index (TX1 k).1 (TX1 k).2.1 (TX1 k).2.2.1 ∈ lw_all) (hfin : (TX1 k).2.2.2 = false) {v : Value} (hn : narrow (tyX1 k) v = v) (hfit : fits (tyX1 k) v = true) (hl : k < fs.length) (hdg : decode cc pc = .ok (.putfield index, 3))
    (kk : ∀ (H1 : Heap) (locs1 : List Loc), va_P D vwCl (ws.set q0 (a, .inr (1, fs.set k v))) H1 → va_D A (ws.set q0 (a, .inr (1, fs.set k v))) → va_S A H0 H1 locs1 → W p l e R s m args below meth c H1 locs1 cells slots Q (F0 m (pc + 3) ls rest)) : W p l e R s m args below meth c H locs cells slots Q (F0 m pc ls (v :: .ref a :: rest)) :=
  va_put (C := RX1) (T := TX1) (N := 9) (ci := 1) hexec hb hts in_X1 tyX1 tyX1_ok nmX1 hown hK hP hD hS q0 he rfl k hk (hts _ hq) (fun _ h9 => h9) hfin (tyX1_ok k hk) hn hfit hl hdg kk
end NV
end
section
/-! THE WALK, 3: the two worlds; small numbers -/
abbrev tyX (di db : ClassId) : List (ClassId × FieldType) := [(di, .int), (db, .byte)]
/-- ModalJudge: the object at ad 0, its ten arrays at ad 1 .. ad 10 -/
abbrev cwX (ad : Nat → Nat) (di db : ClassId) (st mk : Nat → Nat) (n : Nat) (tk : Nat → Nat) (ps so dp : Nat) (te sc bd de : Nat → Nat) (sv : Nat) (me mo dg : Nat → Nat) : va_W :=
  [(ad 0, .inr (0, [.ref (ad 1), .ref (ad 2), .int (nI n), .ref (ad 3), .int (nI ps), .int (nI so), .int (nI dp), .ref (ad 4), .ref (ad 5), .ref (ad 6), .ref (ad 7), .int (nI sv), .ref (ad 8), .ref (ad 9), .ref (ad 10)])),
   (ad 1, .inl (di, 6, .inl (nA st))), (ad 2, .inl (di, 3, .inl (nA mk))), (ad 3, .inl (db, 12, .inl (nA tk))), (ad 4, .inl (db, 12, .inl (nA te))), (ad 5, .inl (db, 12, .inl (nA sc))), (ad 6, .inl (db, 12, .inl (nPA bd))), (ad 7, .inl (db, 12, .inl (nA de))), (ad 8, .inl (di, 72, .inl (nA me))), (ad 9, .inl (db, 4, .inl (nA mo))), (ad 10, .inl (db, 4, .inl (nA dg)))]
/-- ModalJudgeModel: the object at ad 0, its eight arrays at ad 1 .. ad 8 -/
abbrev mwX (ad : Nat → Nat) (di : ClassId) (nx mk : Nat → Nat) (n : Nat) (tk en bd fx bo sk : Nat → Nat) : va_W :=
  [(ad 0, .inr (1, [.ref (ad 1), .ref (ad 2), .int (nI n), .ref (ad 3), .ref (ad 4), .ref (ad 5), .ref (ad 6), .ref (ad 7), .ref (ad 8)])),
   (ad 1, .inl (di, 6, .inl (nA nx))), (ad 2, .inl (di, 3, .inl (nA mk))), (ad 3, .inl (di, 12, .inl (nA tk))), (ad 4, .inl (di, 13, .inl (nA en))), (ad 5, .inl (di, 12, .inl (nPA bd))), (ad 6, .inl (di, 12, .inl (nA fx))), (ad 7, .inl (di, 12, .inl (nA bo))), (ad 8, .inl (di, 13, .inl (nA sk)))]
theorem q153n : Cond.constant RX0 68 (nI 1000000) ∈ lw_all := q153
theorem nI_inc (j : Nat) : nI j + Int32.ofInt 1 = nI (j + 1) := by rw [show Int32.ofInt 1 = 1 by decide]; exact nI_1 j
theorem nI_inc4 (j : Nat) : nI j + Int32.ofInt 4 = nI (j + 4) := by rw [show Int32.ofInt 4 = nI 4 by decide]; exact nI_add j 4
theorem nI_dec (j : Nat) : nI j + Int32.ofInt (-1) = nP j := by rw [show Int32.ofInt (-1) = -1 by decide]; exact nI_m1 j
theorem p2_64 {j : Nat} (h : j < 6) : 1 * 2 ^ j < 64 := by
  have : 2 ^ j < 2 ^ 6 := Nat.pow_lt_pow_right (by decide) h
  omega
theorem p2lt {j : Nat} (h : j < 6) : 1 * 2 ^ j < 2 ^ 32 := Nat.lt_trans (p2_64 h) (by decide)
theorem rng_gt {x : Int32} {N : Nat} (hN : N < 2 ^ 31) (h0 : ¬ x < 0) (h1 : ¬ nI N < x) : ∃ j, j ≤ N ∧ x = nI j := by
  obtain ⟨j, hj, e⟩ := nI_of h0
  subst e
  refine ⟨j, Nat.not_lt.mp (fun h => h1 (nI_lt h hj)), rfl⟩
theorem rng_le {x : Int32} {N : Nat} (hN : N < 2 ^ 31) (h0 : ¬ x < 0) (h1 : x ≤ nI N) : ∃ j, j ≤ N ∧ x = nI j := by
  obtain ⟨j, hj, e⟩ := nI_of h0
  subst e
  exact ⟨j, (nI_leI hj hN).mp h1, rfl⟩
theorem rng_ge {x : Int32} {N : Nat} (hN : N < 2 ^ 31) (h0 : ¬ x < 0) (h1 : ¬ nI N ≤ x) : ∃ j, j < N ∧ x = nI j := by
  obtain ⟨j, hj, e⟩ := nI_of h0
  subst e
  exact ⟨j, Nat.not_le.mp (fun h => h1 ((nI_leI hN hj).mpr h)), rfl⟩
/-- is it a state: 1 or 0 -/
def isN (x : Int32) : Nat := if x < 0 then 0 else if nI 6 ≤ x then 0 else 1
theorem isN_cases (x : Int32) : (isN x = 1 ∧ ∃ j, j < 6 ∧ x = nI j) ∨ (isN x = 0 ∧ ∀ j, j < 6 → x ≠ nI j) := by
  by_cases h0 : x < 0
  · refine Or.inr ⟨by unfold isN; rw [if_pos h0], fun j hj e => ?_⟩
    rw [e] at h0
    exact nI_pos (by omega) h0
  · by_cases h1 : nI 6 ≤ x
    · refine Or.inr ⟨by unfold isN; rw [if_neg h0, if_pos h1], fun j hj e => ?_⟩
      rw [e, nI_leI (by omega) (by omega)] at h1
      omega
    · exact Or.inl ⟨by unfold isN; rw [if_neg h0, if_neg h1], rng_ge (by omega) h0 h1⟩
theorem rngN (x : Int32) {N : Nat} (hN : N < 2 ^ 31) : (∃ j, j ≤ N ∧ x = nI j) ∨ (∀ j, j ≤ N → x ≠ nI j) := by
  by_cases h : ∃ j, j ≤ N ∧ x = nI j
  · exact Or.inl h
  · exact Or.inr (fun j hj e => h ⟨j, hj, e⟩)
/-- a state's steps with the step to j, or without it -/
def tog (v j b : Nat) : Nat := if b = 0 then v &&& ((1 * 2 ^ j) ^^^ 63) else v ||| (1 * 2 ^ j)
/-- the token's counterpart -/
def cpt (t : Nat) : Nat := if t < 3 then t + 3 else if t < 6 then t - 3 else if t < 10 then t ^^^ 1 else if t < 13 then t + 3 else if t < 16 then t - 3 else t
def bi (t : Nat) : Nat := if mj_bd t = true then 1 else 0
end
section
/-! ModalJudge, the leaves: isState, binds, termsBehind, changeFormula, step, mark, token, wipe, steps -/
theorem bi_1 {t : Nat} (h : 10 ≤ t ∧ t < 16) : bi t = 1 := by unfold bi; rw [if_pos (mj_bd_iff.mpr h)]
theorem bi_0 {t : Nat} (h : ¬ (10 ≤ t ∧ t < 16)) : bi t = 0 := by unfold bi; rw [if_neg (fun q => h (mj_bd_iff.mp q))]
set_option maxHeartbeats 4000000 in
set_option maxRecDepth 100000 in
theorem metX0_isState (l : Launch) (h0 : Nat) (x : Int32) : pMi l yX0_isState cX0_isState 2 .boolean ({ frames := 0, cells := 0, slots := 0, locals := 0 }) [.ref h0, .int x] (fun r => r = nI (isN x)) := by
  refine pMi_intro (by decide) (Nat.le_of_ble_eq_true rfl) ?_
  intro p e s m args below meth c Q hx hb hml hown hts hret ls hl
  have hl : lv_has ls 2 [(0, .ref h0), (1, .int x)] := hl
  refine lv_iload_n hx hb dX0_isState_0 rfl (lv_at hl 1 rfl) ?_
  refine lv_if_lt (tgt := 14) hx hb dX0_isState_1 (by decide) (fun c1 => ?_) (fun c1 => ?_)
  · refine lv_iconst (v := nI 0) hx hb dX0_isState_14 (by decide) ?_
    exact hret _ _ _ rfl dX0_isState_15 (by unfold isN; simp only [*, if_true, if_false])
  · refine lv_iload_n hx hb dX0_isState_4 rfl (lv_at hl 1 rfl) ?_
    refine lv_bipush (v := nI 6) hx hb dX0_isState_5 (by decide) ?_
    refine lv_icmp_ge (tgt := 14) hx hb dX0_isState_7 (by decide) (fun c7 => ?_) (fun c7 => ?_)
    · refine lv_iconst (v := nI 0) hx hb dX0_isState_14 (by decide) ?_
      exact hret _ _ _ rfl dX0_isState_15 (by unfold isN; simp only [*, if_true, if_false])
    · refine lv_iconst (v := nI 1) hx hb dX0_isState_10 (by decide) ?_
      refine lv_goto (tgt := 15) hx hb dX0_isState_11 (by decide) ?_
      exact hret _ _ _ rfl dX0_isState_15 (by unfold isN; simp only [*, if_true, if_false])
set_option maxHeartbeats 4000000 in
set_option maxRecDepth 100000 in
theorem metX0_binds (l : Launch) (h0 : Nat) (t : Nat) (ht : t < 128) : pMi l yX0_binds cX0_binds 2 .boolean ({ frames := 0, cells := 0, slots := 0, locals := 0 }) [.ref h0, .int (nI t)] (fun r => r = nI (bi t)) := by
  refine pMi_intro (by decide) (Nat.le_of_ble_eq_true rfl) ?_
  intro p e s m args below meth c Q hx hb hml hown hts hret ls hl
  have hl : lv_has ls 2 [(0, .ref h0), (1, .int (nI t))] := hl
  refine lv_iload_n hx hb dX0_binds_0 rfl (lv_at hl 1 rfl) ?_
  refine lv_bipush (v := nI 10) hx hb dX0_binds_1 (by decide) ?_
  refine nv_icmp_lt (tgt := 16) hx hb (by omega) (by omega) dX0_binds_3 (by decide) (fun c3 => ?_) (fun c3 => ?_)
  · refine lv_iconst (v := nI 0) hx hb dX0_binds_16 (by decide) ?_
    exact hret _ _ _ rfl dX0_binds_17 (by rw [bi_0 (by omega)])
  · refine lv_iload_n hx hb dX0_binds_6 rfl (lv_at hl 1 rfl) ?_
    refine lv_bipush (v := nI 16) hx hb dX0_binds_7 (by decide) ?_
    refine nv_icmp_ge (tgt := 16) hx hb (by omega) (by omega) dX0_binds_9 (by decide) (fun c9 => ?_) (fun c9 => ?_)
    · refine lv_iconst (v := nI 0) hx hb dX0_binds_16 (by decide) ?_
      exact hret _ _ _ rfl dX0_binds_17 (by rw [bi_0 (by omega)])
    · refine lv_iconst (v := nI 1) hx hb dX0_binds_12 (by decide) ?_
      refine lv_goto (tgt := 17) hx hb dX0_binds_13 (by decide) ?_
      exact hret _ _ _ rfl dX0_binds_17 (by rw [bi_1 (by omega)])
set_option maxHeartbeats 4000000 in
set_option maxRecDepth 100000 in
theorem metX0_termsBehind (l : Launch) (h0 : Nat) (t : Nat) (ht : t < 128) : pMi l yX0_termsBehind cX0_termsBehind 2 .int ({ frames := 0, cells := 0, slots := 0, locals := 0 }) [.ref h0, .int (nI t)] (fun r => r = nI (mj_ar t)) := by
  refine pMi_intro (by decide) (Nat.le_of_ble_eq_true rfl) ?_
  intro p e s m args below meth c Q hx hb hml hown hts hret ls hl
  have hl : lv_has ls 2 [(0, .ref h0), (1, .int (nI t))] := hl
  refine lv_iload_n hx hb dX0_termsBehind_0 rfl (lv_at hl 1 rfl) ?_
  refine lv_bipush (v := nI 6) hx hb dX0_termsBehind_1 (by decide) ?_
  refine nv_icmp_eq (tgt := 12) hx hb (by omega) (by omega) dX0_termsBehind_3 (by decide) (fun c3 => ?_) (fun c3 => ?_)
  · refine lv_iconst (v := nI 2) hx hb dX0_termsBehind_12 (by decide) ?_
    exact hret _ _ _ rfl dX0_termsBehind_13 (by rw [mj_ar2.mpr (by omega)])
  · refine lv_iload_n hx hb dX0_termsBehind_6 rfl (lv_at hl 1 rfl) ?_
    refine lv_bipush (v := nI 7) hx hb dX0_termsBehind_7 (by decide) ?_
    refine nv_icmp_ne (tgt := 14) hx hb (by omega) (by omega) dX0_termsBehind_9 (by decide) (fun c9 => ?_) (fun c9 => ?_)
    · refine lv_iload_n hx hb dX0_termsBehind_14 rfl (lv_at hl 1 rfl) ?_
      refine lv_bipush (v := nI 8) hx hb dX0_termsBehind_15 (by decide) ?_
      refine nv_icmp_lt (tgt := 30) hx hb (by omega) (by omega) dX0_termsBehind_17 (by decide) (fun c17 => ?_) (fun c17 => ?_)
      · refine lv_iconst (v := nI 0) hx hb dX0_termsBehind_30 (by decide) ?_
        exact hret _ _ _ rfl dX0_termsBehind_31 (by rw [mj_ar0.mpr (by omega)])
      · refine lv_iload_n hx hb dX0_termsBehind_20 rfl (lv_at hl 1 rfl) ?_
        refine lv_bipush (v := nI 16) hx hb dX0_termsBehind_21 (by decide) ?_
        refine nv_icmp_ge (tgt := 30) hx hb (by omega) (by omega) dX0_termsBehind_23 (by decide) (fun c23 => ?_) (fun c23 => ?_)
        · refine lv_iconst (v := nI 0) hx hb dX0_termsBehind_30 (by decide) ?_
          exact hret _ _ _ rfl dX0_termsBehind_31 (by rw [mj_ar0.mpr (by omega)])
        · refine lv_iconst (v := nI 1) hx hb dX0_termsBehind_26 (by decide) ?_
          refine lv_goto (tgt := 31) hx hb dX0_termsBehind_27 (by decide) ?_
          exact hret _ _ _ rfl dX0_termsBehind_31 (by rw [mj_ar1.mpr (by omega)])
    · refine lv_iconst (v := nI 2) hx hb dX0_termsBehind_12 (by decide) ?_
      exact hret _ _ _ rfl dX0_termsBehind_13 (by rw [mj_ar2.mpr (by omega)])
set_option maxHeartbeats 4000000 in
set_option maxRecDepth 100000 in
/-- changeFormula -/
theorem metX0_changeFormula (l : Launch) (D : va_G) (ad : Nat → Nat) (di db : ClassId) (st mk : Nat → Nat) (n : Nat) (tk : Nat → Nat) (ps so dp : Nat) (te sc bd de : Nat → Nat) (sv : Nat) (me mo dg : Nat → Nat)   : xMv l yX0_changeFormula cX0_changeFormula 1 ({ frames := 0, cells := 0, slots := 0, locals := 0 }) D (tyX di db) (cwX ad di db st mk n tk ps so dp te sc bd de sv me mo dg) [.ref (ad 0)] (fun u => u = cwX ad di db st mk n tk 0 so dp te sc bd de 0 me mo dg) := by
  refine xMv_intro (by decide) (Nat.le_of_ble_eq_true rfl) ?_
  intro p e s m args below meth c A Q hx hb hml hown hts hA hK hP hD hS hret ls hl
  have hl : lv_has ls 1 [(0, .ref (ad 0))] := hl
  refine lv_aload_n hx hb dX0_changeFormula_0 rfl (lv_at hl 0 rfl) ?_
  refine lv_iconst (v := nI 0) hx hb dX0_changeFormula_1 (by decide) ?_
  refine pX0 hx hb hts hown hK hP hD hS 0 rfl 4 (by decide) q41 rfl rfl rfl (Nat.le_of_ble_eq_true rfl) dX0_changeFormula_2 (fun H locs hP hD hS => ?_)
  have hP : va_P D vwCl (cwX ad di db st mk n tk 0 so dp te sc bd de sv me mo dg) H := hP
  have hD : va_D A (cwX ad di db st mk n tk 0 so dp te sc bd de sv me mo dg) := hD
  refine lv_aload_n hx hb dX0_changeFormula_5 rfl (lv_at hl 0 rfl) ?_
  refine lv_iconst (v := nI 0) hx hb dX0_changeFormula_6 (by decide) ?_
  refine pX0 hx hb hts hown hK hP hD hS 0 rfl 11 (by decide) q48 rfl rfl rfl (Nat.le_of_ble_eq_true rfl) dX0_changeFormula_7 (fun H locs hP hD hS => ?_)
  have hP : va_P D vwCl (cwX ad di db st mk n tk 0 so dp te sc bd de 0 me mo dg) H := hP
  have hD : va_D A (cwX ad di db st mk n tk 0 so dp te sc bd de 0 me mo dg) := hD
  exact hret _ _ _ _ (cwX ad di db st mk n tk 0 so dp te sc bd de 0 me mo dg) dX0_changeFormula_10 (rfl) hP hD hS
set_option maxHeartbeats 4000000 in
set_option maxRecDepth 100000 in
/-- step -/
theorem metX0_step (l : Launch) (D : va_G) (ad : Nat → Nat) (di db : ClassId) (st mk : Nat → Nat) (n : Nat) (tk : Nat → Nat) (ps so dp : Nat) (te sc bd de : Nat → Nat) (sv : Nat) (me mo dg : Nat → Nat) (p0 p1 : Int32) (b : Nat) (hb2 : b < 2) (hst : ∀ j, st j < 64) : xMi l yX0_step cX0_step 4 .boolean ({ frames := 1, cells := 0, slots := 0, locals := 21 }) D (tyX di db) (cwX ad di db st mk n tk ps so dp te sc bd de sv me mo dg) [.ref (ad 0), .int p0, .int p1, .int (nI b)] (fun r u => (∃ i j, i < 6 ∧ j < 6 ∧ p0 = nI i ∧ p1 = nI j ∧ r = nI 1 ∧ u = cwX ad di db (upN st i (tog (st i) j b)) mk n tk ps so dp te sc bd de 0 me mo dg) ∨ ((∀ i j, i < 6 → j < 6 → ¬ (p0 = nI i ∧ p1 = nI j)) ∧ r = nI 0 ∧ u = cwX ad di db st mk n tk ps so dp te sc bd de sv me mo dg)) := by
  refine xMi_intro (by decide) (Nat.le_of_ble_eq_true rfl) ?_
  intro p e s m args below meth c A Q hx hb hml hown hts hA hK hP hD hS hret ls hl
  have hl : lv_has ls 4 [(0, .ref (ad 0)), (1, .int p0), (2, .int p1), (3, .int (nI b))] := hl
  rcases isN_cases p0 with ⟨e0, i, hi, rfl⟩ | ⟨e0, hno⟩
  · rcases isN_cases p1 with ⟨e1, j, hj, rfl⟩ | ⟨e1, hno⟩
    · rcases (show b = 0 ∨ b = 1 by omega) with rfl | rfl
      · have h64 := p2_64 hj
        have h6 := hst i
        refine lv_aload_n hx hb dX0_step_0 rfl (lv_at hl 0 rfl) ?_
        refine lv_iload_n hx hb dX0_step_1 rfl (lv_at hl 1 rfl) ?_
        refine pcall_i (As := [.int (nI i)]) (rest := []) (ci := 0) (q0 := 0) ⟨hx, hb, hml, hown, hts⟩ (metX0_isState l (ad 0) ((nI i))) (cwV 1 hts (lw_V q89 q91 qs0 q27 q92) rfl rfl rfl (by decide +kernel) ⟨Nat.le_of_ble_eq_true rfl, Nat.le_of_ble_eq_true rfl⟩) rfl rfl hK hP rfl hl.1 rfl (Nat.le_of_ble_eq_true rfl) dX0_step_2 ⟨Nat.zero_le _, Nat.zero_le _⟩ (fun r hr => ?_)
        rw [e0] at hr
        subst hr
        refine nv_if_eq (tgt := 16) hx hb (by omega) dX0_step_5 (by decide) (fun q => absurd q (by omega)) (fun c5 => ?_)
        refine lv_aload_n hx hb dX0_step_8 rfl (lv_at hl 0 rfl) ?_
        refine lv_iload_n hx hb dX0_step_9 rfl (lv_at hl 2 rfl) ?_
        refine pcall_i (As := [.int (nI j)]) (rest := []) (ci := 0) (q0 := 0) ⟨hx, hb, hml, hown, hts⟩ (metX0_isState l (ad 0) ((nI j))) (cwV 1 hts (lw_V q89 q91 qs0 q27 q92) rfl rfl rfl (by decide +kernel) ⟨Nat.le_of_ble_eq_true rfl, Nat.le_of_ble_eq_true rfl⟩) rfl rfl hK hP rfl hl.1 rfl (Nat.le_of_ble_eq_true rfl) dX0_step_10 ⟨Nat.zero_le _, Nat.zero_le _⟩ (fun r hr => ?_)
        rw [e1] at hr
        subst hr
        refine nv_if_ne (tgt := 18) hx hb (by omega) dX0_step_13 (by decide) (fun c13 => ?_) (fun q => absurd q (by omega))
        refine lv_iload_n hx hb dX0_step_18 rfl (lv_at hl 3 rfl) ?_
        refine nv_if_eq (tgt := 37) hx hb (by omega) dX0_step_19 (by decide) (fun c19 => ?_) (fun q => absurd q (by omega))
        refine lv_aload_n hx hb dX0_step_37 rfl (lv_at hl 0 rfl) ?_
        refine gX0 hx hb hts hown hK hP 0 rfl 0 (by decide) q37 rfl dX0_step_38 ?_
        refine lv_iload_n hx hb dX0_step_41 rfl (lv_at hl 1 rfl) ?_
        refine lv_dup2_11 hx hb dX0_step_42 rfl rfl ?_
        refine nv_iald hx hb hK hP 1 0 rfl rfl (by omega) (by decide) dX0_step_43 ?_
        refine lv_iconst (v := nI 1) hx hb dX0_step_44 (by decide) ?_
        refine lv_iload_n hx hb dX0_step_45 rfl (lv_at hl 2 rfl) ?_
        refine nv_ishl hx hb (by omega) (p2lt (by omega)) dX0_step_46 ?_
        refine lv_iconst (v := (-1)) hx hb dX0_step_47 (by decide) ?_
        refine lv_ixor hx hb dX0_step_48 ?_
        refine nv_iandn hx hb (by omega) (by omega) dX0_step_49 ?_
        refine nv_iast hx hb hK hP hD hS 1 0 rfl rfl (by omega) (by decide) dX0_step_50 (fun H locs hP hD hS => ?_)
        have hP : va_P D vwCl (cwX ad di db (upN st i ((st i) &&& ((1 * 2 ^ j) ^^^ 63))) mk n tk ps so dp te sc bd de sv me mo dg) H := hP
        have hD : va_D A (cwX ad di db (upN st i ((st i) &&& ((1 * 2 ^ j) ^^^ 63))) mk n tk ps so dp te sc bd de sv me mo dg) := hD
        refine lv_aload_n hx hb dX0_step_51 rfl (lv_at hl 0 rfl) ?_
        refine lv_iconst (v := nI 0) hx hb dX0_step_52 (by decide) ?_
        refine pX0 hx hb hts hown hK hP hD hS 0 rfl 11 (by decide) q48 rfl rfl rfl (Nat.le_of_ble_eq_true rfl) dX0_step_53 (fun H locs hP hD hS => ?_)
        have hP : va_P D vwCl (cwX ad di db (upN st i ((st i) &&& ((1 * 2 ^ j) ^^^ 63))) mk n tk ps so dp te sc bd de 0 me mo dg) H := hP
        have hD : va_D A (cwX ad di db (upN st i ((st i) &&& ((1 * 2 ^ j) ^^^ 63))) mk n tk ps so dp te sc bd de 0 me mo dg) := hD
        refine lv_iconst (v := nI 1) hx hb dX0_step_56 (by decide) ?_
        exact hret _ _ _ _ _ (cwX ad di db (upN st i ((st i) &&& ((1 * 2 ^ j) ^^^ 63))) mk n tk ps so dp te sc bd de 0 me mo dg) rfl dX0_step_57 (Or.inl ⟨i, j, hi, hj, rfl, rfl, rfl, rfl⟩) hP hD hS
      · have h64 := p2_64 hj
        have h6 := hst i
        refine lv_aload_n hx hb dX0_step_0 rfl (lv_at hl 0 rfl) ?_
        refine lv_iload_n hx hb dX0_step_1 rfl (lv_at hl 1 rfl) ?_
        refine pcall_i (As := [.int (nI i)]) (rest := []) (ci := 0) (q0 := 0) ⟨hx, hb, hml, hown, hts⟩ (metX0_isState l (ad 0) ((nI i))) (cwV 1 hts (lw_V q89 q91 qs0 q27 q92) rfl rfl rfl (by decide +kernel) ⟨Nat.le_of_ble_eq_true rfl, Nat.le_of_ble_eq_true rfl⟩) rfl rfl hK hP rfl hl.1 rfl (Nat.le_of_ble_eq_true rfl) dX0_step_2 ⟨Nat.zero_le _, Nat.zero_le _⟩ (fun r hr => ?_)
        rw [e0] at hr
        subst hr
        refine nv_if_eq (tgt := 16) hx hb (by omega) dX0_step_5 (by decide) (fun q => absurd q (by omega)) (fun c5 => ?_)
        refine lv_aload_n hx hb dX0_step_8 rfl (lv_at hl 0 rfl) ?_
        refine lv_iload_n hx hb dX0_step_9 rfl (lv_at hl 2 rfl) ?_
        refine pcall_i (As := [.int (nI j)]) (rest := []) (ci := 0) (q0 := 0) ⟨hx, hb, hml, hown, hts⟩ (metX0_isState l (ad 0) ((nI j))) (cwV 1 hts (lw_V q89 q91 qs0 q27 q92) rfl rfl rfl (by decide +kernel) ⟨Nat.le_of_ble_eq_true rfl, Nat.le_of_ble_eq_true rfl⟩) rfl rfl hK hP rfl hl.1 rfl (Nat.le_of_ble_eq_true rfl) dX0_step_10 ⟨Nat.zero_le _, Nat.zero_le _⟩ (fun r hr => ?_)
        rw [e1] at hr
        subst hr
        refine nv_if_ne (tgt := 18) hx hb (by omega) dX0_step_13 (by decide) (fun c13 => ?_) (fun q => absurd q (by omega))
        refine lv_iload_n hx hb dX0_step_18 rfl (lv_at hl 3 rfl) ?_
        refine nv_if_eq (tgt := 37) hx hb (by omega) dX0_step_19 (by decide) (fun q => absurd q (by omega)) (fun c19 => ?_)
        refine lv_aload_n hx hb dX0_step_22 rfl (lv_at hl 0 rfl) ?_
        refine gX0 hx hb hts hown hK hP 0 rfl 0 (by decide) q37 rfl dX0_step_23 ?_
        refine lv_iload_n hx hb dX0_step_26 rfl (lv_at hl 1 rfl) ?_
        refine lv_dup2_11 hx hb dX0_step_27 rfl rfl ?_
        refine nv_iald hx hb hK hP 1 0 rfl rfl (by omega) (by decide) dX0_step_28 ?_
        refine lv_iconst (v := nI 1) hx hb dX0_step_29 (by decide) ?_
        refine lv_iload_n hx hb dX0_step_30 rfl (lv_at hl 2 rfl) ?_
        refine nv_ishl hx hb (by omega) (p2lt (by omega)) dX0_step_31 ?_
        refine nv_ior hx hb dX0_step_32 ?_
        refine nv_iast hx hb hK hP hD hS 1 0 rfl rfl (by omega) (by decide) dX0_step_33 (fun H locs hP hD hS => ?_)
        have hP : va_P D vwCl (cwX ad di db (upN st i ((st i) ||| (1 * 2 ^ j))) mk n tk ps so dp te sc bd de sv me mo dg) H := hP
        have hD : va_D A (cwX ad di db (upN st i ((st i) ||| (1 * 2 ^ j))) mk n tk ps so dp te sc bd de sv me mo dg) := hD
        refine lv_goto (tgt := 51) hx hb dX0_step_34 (by decide) ?_
        refine lv_aload_n hx hb dX0_step_51 rfl (lv_at hl 0 rfl) ?_
        refine lv_iconst (v := nI 0) hx hb dX0_step_52 (by decide) ?_
        refine pX0 hx hb hts hown hK hP hD hS 0 rfl 11 (by decide) q48 rfl rfl rfl (Nat.le_of_ble_eq_true rfl) dX0_step_53 (fun H locs hP hD hS => ?_)
        have hP : va_P D vwCl (cwX ad di db (upN st i ((st i) ||| (1 * 2 ^ j))) mk n tk ps so dp te sc bd de 0 me mo dg) H := hP
        have hD : va_D A (cwX ad di db (upN st i ((st i) ||| (1 * 2 ^ j))) mk n tk ps so dp te sc bd de 0 me mo dg) := hD
        refine lv_iconst (v := nI 1) hx hb dX0_step_56 (by decide) ?_
        exact hret _ _ _ _ _ (cwX ad di db (upN st i ((st i) ||| (1 * 2 ^ j))) mk n tk ps so dp te sc bd de 0 me mo dg) rfl dX0_step_57 (Or.inl ⟨i, j, hi, hj, rfl, rfl, rfl, rfl⟩) hP hD hS
    · refine lv_aload_n hx hb dX0_step_0 rfl (lv_at hl 0 rfl) ?_
      refine lv_iload_n hx hb dX0_step_1 rfl (lv_at hl 1 rfl) ?_
      refine pcall_i (As := [.int (nI i)]) (rest := []) (ci := 0) (q0 := 0) ⟨hx, hb, hml, hown, hts⟩ (metX0_isState l (ad 0) ((nI i))) (cwV 1 hts (lw_V q89 q91 qs0 q27 q92) rfl rfl rfl (by decide +kernel) ⟨Nat.le_of_ble_eq_true rfl, Nat.le_of_ble_eq_true rfl⟩) rfl rfl hK hP rfl hl.1 rfl (Nat.le_of_ble_eq_true rfl) dX0_step_2 ⟨Nat.zero_le _, Nat.zero_le _⟩ (fun r hr => ?_)
      rw [e0] at hr
      subst hr
      refine nv_if_eq (tgt := 16) hx hb (by omega) dX0_step_5 (by decide) (fun q => absurd q (by omega)) (fun c5 => ?_)
      refine lv_aload_n hx hb dX0_step_8 rfl (lv_at hl 0 rfl) ?_
      refine lv_iload_n hx hb dX0_step_9 rfl (lv_at hl 2 rfl) ?_
      refine pcall_i (As := [.int p1]) (rest := []) (ci := 0) (q0 := 0) ⟨hx, hb, hml, hown, hts⟩ (metX0_isState l (ad 0) (p1)) (cwV 1 hts (lw_V q89 q91 qs0 q27 q92) rfl rfl rfl (by decide +kernel) ⟨Nat.le_of_ble_eq_true rfl, Nat.le_of_ble_eq_true rfl⟩) rfl rfl hK hP rfl hl.1 rfl (Nat.le_of_ble_eq_true rfl) dX0_step_10 ⟨Nat.zero_le _, Nat.zero_le _⟩ (fun r hr => ?_)
      rw [e1] at hr
      subst hr
      refine nv_if_ne (tgt := 18) hx hb (by omega) dX0_step_13 (by decide) (fun q => absurd q (by omega)) (fun c13 => ?_)
      refine lv_iconst (v := nI 0) hx hb dX0_step_16 (by decide) ?_
      exact hret _ _ _ _ _ (cwX ad di db st mk n tk ps so dp te sc bd de sv me mo dg) rfl dX0_step_17 (Or.inr ⟨fun _ j _ hj q => hno j hj q.2, rfl, rfl⟩) hP hD hS
  · refine lv_aload_n hx hb dX0_step_0 rfl (lv_at hl 0 rfl) ?_
    refine lv_iload_n hx hb dX0_step_1 rfl (lv_at hl 1 rfl) ?_
    refine pcall_i (As := [.int p0]) (rest := []) (ci := 0) (q0 := 0) ⟨hx, hb, hml, hown, hts⟩ (metX0_isState l (ad 0) (p0)) (cwV 1 hts (lw_V q89 q91 qs0 q27 q92) rfl rfl rfl (by decide +kernel) ⟨Nat.le_of_ble_eq_true rfl, Nat.le_of_ble_eq_true rfl⟩) rfl rfl hK hP rfl hl.1 rfl (Nat.le_of_ble_eq_true rfl) dX0_step_2 ⟨Nat.zero_le _, Nat.zero_le _⟩ (fun r hr => ?_)
    rw [e0] at hr
    subst hr
    refine nv_if_eq (tgt := 16) hx hb (by omega) dX0_step_5 (by decide) (fun c5 => ?_) (fun q => absurd q (by omega))
    refine lv_iconst (v := nI 0) hx hb dX0_step_16 (by decide) ?_
    exact hret _ _ _ _ _ (cwX ad di db st mk n tk ps so dp te sc bd de sv me mo dg) rfl dX0_step_17 (Or.inr ⟨fun i _ hi _ q => hno i hi q.1, rfl, rfl⟩) hP hD hS
set_option maxHeartbeats 4000000 in
set_option maxRecDepth 100000 in
/-- mark -/
theorem metX0_mark (l : Launch) (D : va_G) (ad : Nat → Nat) (di db : ClassId) (st mk : Nat → Nat) (n : Nat) (tk : Nat → Nat) (ps so dp : Nat) (te sc bd de : Nat → Nat) (sv : Nat) (me mo dg : Nat → Nat) (p0 p1 : Int32)  : xMi l yX0_mark cX0_mark 3 .boolean ({ frames := 0, cells := 0, slots := 0, locals := 0 }) D (tyX di db) (cwX ad di db st mk n tk ps so dp te sc bd de sv me mo dg) [.ref (ad 0), .int p0, .int p1] (fun r u => (∃ i v, i < 3 ∧ v < 64 ∧ p0 = nI i ∧ p1 = nI v ∧ r = nI 1 ∧ u = cwX ad di db st (upN mk i v) n tk ps so dp te sc bd de 0 me mo dg) ∨ ((∀ i v, i < 3 → v < 64 → ¬ (p0 = nI i ∧ p1 = nI v)) ∧ r = nI 0 ∧ u = cwX ad di db st mk n tk ps so dp te sc bd de sv me mo dg)) := by
  refine xMi_intro (by decide) (Nat.le_of_ble_eq_true rfl) ?_
  intro p e s m args below meth c A Q hx hb hml hown hts hA hK hP hD hS hret ls hl
  have hl : lv_has ls 3 [(0, .ref (ad 0)), (1, .int p0), (2, .int p1)] := hl
  rcases rngN p0 (N := 2) (by omega) with ⟨i, hi, rfl⟩ | hno
  · rcases rngN p1 (N := 63) (by omega) with ⟨v, hv, rfl⟩ | hno
    · refine lv_iload_n hx hb dX0_mark_0 rfl (lv_at hl 1 rfl) ?_
      refine nv_if_lt (tgt := 19) hx hb (by omega) dX0_mark_1 (by decide) ?_
      refine lv_iload_n hx hb dX0_mark_4 rfl (lv_at hl 1 rfl) ?_
      refine lv_iconst (v := nI 2) hx hb dX0_mark_5 (by decide) ?_
      refine nv_icmp_gt (tgt := 19) hx hb (by omega) (by omega) dX0_mark_6 (by decide) (fun q => absurd q (by omega)) (fun c6 => ?_)
      refine lv_iload_n hx hb dX0_mark_9 rfl (lv_at hl 2 rfl) ?_
      refine nv_if_lt (tgt := 19) hx hb (by omega) dX0_mark_10 (by decide) ?_
      refine lv_iload_n hx hb dX0_mark_13 rfl (lv_at hl 2 rfl) ?_
      refine lv_bipush (v := nI 63) hx hb dX0_mark_14 (by decide) ?_
      refine nv_icmp_le (tgt := 21) hx hb (by omega) (by omega) dX0_mark_16 (by decide) (fun c16 => ?_) (fun q => absurd q (by omega))
      refine lv_aload_n hx hb dX0_mark_21 rfl (lv_at hl 0 rfl) ?_
      refine gX0 hx hb hts hown hK hP 0 rfl 1 (by decide) q38 rfl dX0_mark_22 ?_
      refine lv_iload_n hx hb dX0_mark_25 rfl (lv_at hl 1 rfl) ?_
      refine lv_iload_n hx hb dX0_mark_26 rfl (lv_at hl 2 rfl) ?_
      refine nv_iast hx hb hK hP hD hS 2 0 rfl rfl (by omega) (by decide) dX0_mark_27 (fun H locs hP hD hS => ?_)
      have hP : va_P D vwCl (cwX ad di db st (upN mk i v) n tk ps so dp te sc bd de sv me mo dg) H := hP
      have hD : va_D A (cwX ad di db st (upN mk i v) n tk ps so dp te sc bd de sv me mo dg) := hD
      refine lv_aload_n hx hb dX0_mark_28 rfl (lv_at hl 0 rfl) ?_
      refine lv_iconst (v := nI 0) hx hb dX0_mark_29 (by decide) ?_
      refine pX0 hx hb hts hown hK hP hD hS 0 rfl 11 (by decide) q48 rfl rfl rfl (Nat.le_of_ble_eq_true rfl) dX0_mark_30 (fun H locs hP hD hS => ?_)
      have hP : va_P D vwCl (cwX ad di db st (upN mk i v) n tk ps so dp te sc bd de 0 me mo dg) H := hP
      have hD : va_D A (cwX ad di db st (upN mk i v) n tk ps so dp te sc bd de 0 me mo dg) := hD
      refine lv_iconst (v := nI 1) hx hb dX0_mark_33 (by decide) ?_
      exact hret _ _ _ _ _ (cwX ad di db st (upN mk i v) n tk ps so dp te sc bd de 0 me mo dg) rfl dX0_mark_34 (Or.inl ⟨i, v, by omega, by omega, rfl, rfl, rfl, rfl⟩) hP hD hS
    · refine lv_iload_n hx hb dX0_mark_0 rfl (lv_at hl 1 rfl) ?_
      refine nv_if_lt (tgt := 19) hx hb (by omega) dX0_mark_1 (by decide) ?_
      refine lv_iload_n hx hb dX0_mark_4 rfl (lv_at hl 1 rfl) ?_
      refine lv_iconst (v := nI 2) hx hb dX0_mark_5 (by decide) ?_
      refine nv_icmp_gt (tgt := 19) hx hb (by omega) (by omega) dX0_mark_6 (by decide) (fun q => absurd q (by omega)) (fun c6 => ?_)
      refine lv_iload_n hx hb dX0_mark_9 rfl (lv_at hl 2 rfl) ?_
      refine lv_if_lt (tgt := 19) hx hb dX0_mark_10 (by decide) (fun c10 => ?_) (fun c10 => ?_)
      · refine lv_iconst (v := nI 0) hx hb dX0_mark_19 (by decide) ?_
        exact hret _ _ _ _ _ (cwX ad di db st mk n tk ps so dp te sc bd de sv me mo dg) rfl dX0_mark_20 (Or.inr ⟨fun _ v _ hv q => hno v (by omega) q.2, rfl, rfl⟩) hP hD hS
      · refine lv_iload_n hx hb dX0_mark_13 rfl (lv_at hl 2 rfl) ?_
        refine lv_bipush (v := nI 63) hx hb dX0_mark_14 (by decide) ?_
        refine lv_icmp_le (tgt := 21) hx hb dX0_mark_16 (by decide) (fun c16 => ?_) (fun c16 => ?_)
        · obtain ⟨v, hv, e⟩ := rng_le (by omega) c10 c16
          exact absurd e (hno v hv)
        · refine lv_iconst (v := nI 0) hx hb dX0_mark_19 (by decide) ?_
          exact hret _ _ _ _ _ (cwX ad di db st mk n tk ps so dp te sc bd de sv me mo dg) rfl dX0_mark_20 (Or.inr ⟨fun _ v _ hv q => hno v (by omega) q.2, rfl, rfl⟩) hP hD hS
  · refine lv_iload_n hx hb dX0_mark_0 rfl (lv_at hl 1 rfl) ?_
    refine lv_if_lt (tgt := 19) hx hb dX0_mark_1 (by decide) (fun c1 => ?_) (fun c1 => ?_)
    · refine lv_iconst (v := nI 0) hx hb dX0_mark_19 (by decide) ?_
      exact hret _ _ _ _ _ (cwX ad di db st mk n tk ps so dp te sc bd de sv me mo dg) rfl dX0_mark_20 (Or.inr ⟨fun i _ hi _ q => hno i (by omega) q.1, rfl, rfl⟩) hP hD hS
    · refine lv_iload_n hx hb dX0_mark_4 rfl (lv_at hl 1 rfl) ?_
      refine lv_iconst (v := nI 2) hx hb dX0_mark_5 (by decide) ?_
      refine lv_icmp_gt (tgt := 19) hx hb dX0_mark_6 (by decide) (fun c6 => ?_) (fun c6 => ?_)
      · refine lv_iconst (v := nI 0) hx hb dX0_mark_19 (by decide) ?_
        exact hret _ _ _ _ _ (cwX ad di db st mk n tk ps so dp te sc bd de sv me mo dg) rfl dX0_mark_20 (Or.inr ⟨fun i _ hi _ q => hno i (by omega) q.1, rfl, rfl⟩) hP hD hS
      · obtain ⟨i, hi, e⟩ := rng_gt (by omega) c1 c6
        exact absurd e (hno i hi)
set_option maxHeartbeats 4000000 in
set_option maxRecDepth 100000 in
/-- token -/
theorem metX0_token (l : Launch) (D : va_G) (ad : Nat → Nat) (di db : ClassId) (st mk : Nat → Nat) (n : Nat) (tk : Nat → Nat) (ps so dp : Nat) (te sc bd de : Nat → Nat) (sv : Nat) (me mo dg : Nat → Nat) (p0 : Int32) (hn : n ≤ 12) : xMi l yX0_token cX0_token 2 .int ({ frames := 1, cells := 0, slots := 0, locals := 20 }) D (tyX di db) (cwX ad di db st mk n tk ps so dp te sc bd de sv me mo dg) [.ref (ad 0), .int p0] (fun r u => (n = 12 ∧ r = (-2) ∧ u = cwX ad di db st mk n tk ps so dp te sc bd de sv me mo dg) ∨ (n < 12 ∧ (∀ t, t ≤ 18 → p0 ≠ nI t) ∧ r = nP 0 ∧ u = cwX ad di db st mk n tk ps so dp te sc bd de sv me mo dg) ∨ (∃ t, n < 12 ∧ t ≤ 18 ∧ p0 = nI t ∧ r = nI (n + 1) ∧ u = cwX ad di db st mk (n + 1) (upN tk n t) 0 so dp te sc bd de 0 me mo dg)) := by
  refine xMi_intro (by decide) (Nat.le_of_ble_eq_true rfl) ?_
  intro p e s m args below meth c A Q hx hb hml hown hts hA hK hP hD hS hret ls hl
  have hl : lv_has ls 2 [(0, .ref (ad 0)), (1, .int p0)] := hl
  refine lv_aload_n hx hb dX0_token_0 rfl (lv_at hl 0 rfl) ?_
  refine gX0 hx hb hts hown hK hP 0 rfl 2 (by decide) q39 rfl dX0_token_1 ?_
  refine lv_bipush (v := nI 12) hx hb dX0_token_4 (by decide) ?_
  refine nv_icmp_lt (tgt := 12) hx hb (by omega) (by omega) dX0_token_6 (by decide) (fun c6 => ?_) (fun c6 => ?_)
  · rcases rngN p0 (N := 18) (by omega) with ⟨t, ht, rfl⟩ | hno
    · refine lv_iload_n hx hb dX0_token_12 rfl (lv_at hl 1 rfl) ?_
      refine nv_if_lt (tgt := 22) hx hb (by omega) dX0_token_13 (by decide) ?_
      refine lv_iload_n hx hb dX0_token_16 rfl (lv_at hl 1 rfl) ?_
      refine lv_bipush (v := nI 18) hx hb dX0_token_17 (by decide) ?_
      refine nv_icmp_le (tgt := 24) hx hb (by omega) (by omega) dX0_token_19 (by decide) (fun c19 => ?_) (fun q => absurd q (by omega))
      refine lv_aload_n hx hb dX0_token_24 rfl (lv_at hl 0 rfl) ?_
      refine gX0 hx hb hts hown hK hP 0 rfl 3 (by decide) q40 rfl dX0_token_25 ?_
      refine lv_aload_n hx hb dX0_token_28 rfl (lv_at hl 0 rfl) ?_
      refine gX0 hx hb hts hown hK hP 0 rfl 2 (by decide) q39 rfl dX0_token_29 ?_
      refine lv_iload_n hx hb dX0_token_32 rfl (lv_at hl 1 rfl) ?_
      refine nv_i2b hx hb (by omega) dX0_token_33 ?_
      refine nv_bast hx hb hK hP hD hS 3 1 rfl rfl (by omega) (by decide) (by omega) dX0_token_34 (fun H locs hP hD hS => ?_)
      have hP : va_P D vwCl (cwX ad di db st mk n (upN tk n t) ps so dp te sc bd de sv me mo dg) H := hP
      have hD : va_D A (cwX ad di db st mk n (upN tk n t) ps so dp te sc bd de sv me mo dg) := hD
      refine lv_aload_n hx hb dX0_token_35 rfl (lv_at hl 0 rfl) ?_
      refine lv_dup hx hb dX0_token_36 rfl ?_
      refine gX0 hx hb hts hown hK hP 0 rfl 2 (by decide) q39 rfl dX0_token_37 ?_
      refine lv_iconst (v := nI 1) hx hb dX0_token_40 (by decide) ?_
      refine nv_iadd hx hb dX0_token_41 ?_
      refine pX0 hx hb hts hown hK hP hD hS 0 rfl 2 (by decide) q39 rfl rfl rfl (Nat.le_of_ble_eq_true rfl) dX0_token_42 (fun H locs hP hD hS => ?_)
      have hP : va_P D vwCl (cwX ad di db st mk (n + 1) (upN tk n t) ps so dp te sc bd de sv me mo dg) H := hP
      have hD : va_D A (cwX ad di db st mk (n + 1) (upN tk n t) ps so dp te sc bd de sv me mo dg) := hD
      refine lv_aload_n hx hb dX0_token_45 rfl (lv_at hl 0 rfl) ?_
      refine xcall_v (As := []) (rest := []) (ci := 0) ⟨hx, hb, hml, hown, hts⟩ (metX0_changeFormula l D ad di db st mk (n + 1) (upN tk n t) ps so dp te sc bd de sv me mo dg) (cwV 0 hts (lw_V q101 q103 qs1 q27 q104) rfl rfl rfl (by decide +kernel) ⟨Nat.le_of_ble_eq_true rfl, Nat.le_of_ble_eq_true rfl⟩) rfl rfl hK hP hD hS hA rfl hl.1 rfl (Nat.le_of_ble_eq_true rfl) dX0_token_46 ⟨Nat.zero_le _, Nat.zero_le _⟩ (fun u H locs hw hP hD hS => ?_)
      subst hw
      refine lv_aload_n hx hb dX0_token_49 rfl (lv_at hl 0 rfl) ?_
      refine gX0 hx hb hts hown hK hP 0 rfl 2 (by decide) q39 rfl dX0_token_50 ?_
      exact hret _ _ _ _ _ (cwX ad di db st mk (n + 1) (upN tk n t) 0 so dp te sc bd de 0 me mo dg) rfl dX0_token_53 (Or.inr (Or.inr ⟨t, by omega, ht, rfl, rfl, rfl⟩)) hP hD hS
    · refine lv_iload_n hx hb dX0_token_12 rfl (lv_at hl 1 rfl) ?_
      refine lv_if_lt (tgt := 22) hx hb dX0_token_13 (by decide) (fun c13 => ?_) (fun c13 => ?_)
      · refine lv_iconst (v := nP 0) hx hb dX0_token_22 (by decide) ?_
        exact hret _ _ _ _ _ (cwX ad di db st mk n tk ps so dp te sc bd de sv me mo dg) rfl dX0_token_23 (Or.inr (Or.inl ⟨by omega, hno, rfl, rfl⟩)) hP hD hS
      · refine lv_iload_n hx hb dX0_token_16 rfl (lv_at hl 1 rfl) ?_
        refine lv_bipush (v := nI 18) hx hb dX0_token_17 (by decide) ?_
        refine lv_icmp_le (tgt := 24) hx hb dX0_token_19 (by decide) (fun c19 => ?_) (fun c19 => ?_)
        · obtain ⟨t, ht, e⟩ := rng_le (by omega) c13 c19
          exact absurd e (hno t ht)
        · refine lv_iconst (v := nP 0) hx hb dX0_token_22 (by decide) ?_
          exact hret _ _ _ _ _ (cwX ad di db st mk n tk ps so dp te sc bd de sv me mo dg) rfl dX0_token_23 (Or.inr (Or.inl ⟨by omega, hno, rfl, rfl⟩)) hP hD hS
  · refine lv_bipush (v := (-2)) hx hb dX0_token_9 (by decide) ?_
    exact hret _ _ _ _ _ (cwX ad di db st mk n tk ps so dp te sc bd de sv me mo dg) rfl dX0_token_11 (Or.inl ⟨by omega, rfl, rfl⟩) hP hD hS
set_option maxHeartbeats 4000000 in
set_option maxRecDepth 100000 in
/-- wipe -/
theorem metX0_wipe (l : Launch) (D : va_G) (ad : Nat → Nat) (di db : ClassId) (st mk : Nat → Nat) (n : Nat) (tk : Nat → Nat) (ps so dp : Nat) (te sc bd de : Nat → Nat) (sv : Nat) (me mo dg : Nat → Nat)   : xMi l yX0_wipe cX0_wipe 2 .int ({ frames := 1, cells := 0, slots := 0, locals := 20 }) D (tyX di db) (cwX ad di db st mk n tk ps so dp te sc bd de sv me mo dg) [.ref (ad 0)] (fun r u => r = nI n ∧ u = cwX ad di db st mk 0 tk 0 so dp te sc bd de 0 me mo dg) := by
  refine xMi_intro (by decide) (Nat.le_of_ble_eq_true rfl) ?_
  intro p e s m args below meth c A Q hx hb hml hown hts hA hK hP hD hS hret ls hl
  have hl : lv_has ls 2 [(0, .ref (ad 0))] := hl
  refine lv_aload_n hx hb dX0_wipe_0 rfl (lv_at hl 0 rfl) ?_
  refine gX0 hx hb hts hown hK hP 0 rfl 2 (by decide) q39 rfl dX0_wipe_1 ?_
  refine lv_istore_n (lv' := [(1, .int (nI n)), (0, .ref (ad 0))]) hx hb dX0_wipe_4 rfl hl (by decide) rfl (fun ls hl => ?_)
  refine lv_aload_n hx hb dX0_wipe_5 rfl (lv_at hl 1 rfl) ?_
  refine lv_iconst (v := nI 0) hx hb dX0_wipe_6 (by decide) ?_
  refine pX0 hx hb hts hown hK hP hD hS 0 rfl 2 (by decide) q39 rfl rfl rfl (Nat.le_of_ble_eq_true rfl) dX0_wipe_7 (fun H locs hP hD hS => ?_)
  have hP : va_P D vwCl (cwX ad di db st mk 0 tk ps so dp te sc bd de sv me mo dg) H := hP
  have hD : va_D A (cwX ad di db st mk 0 tk ps so dp te sc bd de sv me mo dg) := hD
  refine lv_aload_n hx hb dX0_wipe_10 rfl (lv_at hl 1 rfl) ?_
  refine xcall_v (As := []) (rest := []) (ci := 0) ⟨hx, hb, hml, hown, hts⟩ (metX0_changeFormula l D ad di db st mk 0 tk ps so dp te sc bd de sv me mo dg) (cwV 0 hts (lw_V q101 q103 qs1 q27 q104) rfl rfl rfl (by decide +kernel) ⟨Nat.le_of_ble_eq_true rfl, Nat.le_of_ble_eq_true rfl⟩) rfl rfl hK hP hD hS hA rfl hl.1 rfl (Nat.le_of_ble_eq_true rfl) dX0_wipe_11 ⟨Nat.zero_le _, Nat.zero_le _⟩ (fun u H locs hw hP hD hS => ?_)
  subst hw
  refine lv_iload_n hx hb dX0_wipe_14 rfl (lv_at hl 0 rfl) ?_
  exact hret _ _ _ _ _ (cwX ad di db st mk 0 tk 0 so dp te sc bd de 0 me mo dg) rfl dX0_wipe_15 (⟨rfl, rfl⟩) hP hD hS
set_option maxHeartbeats 4000000 in
set_option maxRecDepth 100000 in
/-- steps -/
theorem metX0_steps (l : Launch) (D : va_G) (ad : Nat → Nat) (di db : ClassId) (st mk : Nat → Nat) (n : Nat) (tk : Nat → Nat) (ps so dp : Nat) (te sc bd de : Nat → Nat) (sv : Nat) (me mo dg : Nat → Nat) (p0 : Int32)  : xMi l yX0_steps cX0_steps 2 .int ({ frames := 1, cells := 0, slots := 0, locals := 21 }) D (tyX di db) (cwX ad di db st mk n tk ps so dp te sc bd de sv me mo dg) [.ref (ad 0), .int p0] (fun r u => ((∃ i, i < 6 ∧ p0 = nI i ∧ r = nI (st i)) ∨ ((∀ i, i < 6 → p0 ≠ nI i) ∧ r = nP 0)) ∧ u = cwX ad di db st mk n tk ps so dp te sc bd de sv me mo dg) := by
  refine xMi_intro (by decide) (Nat.le_of_ble_eq_true rfl) ?_
  intro p e s m args below meth c A Q hx hb hml hown hts hA hK hP hD hS hret ls hl
  have hl : lv_has ls 2 [(0, .ref (ad 0)), (1, .int p0)] := hl
  rcases isN_cases p0 with ⟨e0, i, hi, rfl⟩ | ⟨e0, hno⟩
  · refine lv_aload_n hx hb dX0_steps_0 rfl (lv_at hl 0 rfl) ?_
    refine lv_iload_n hx hb dX0_steps_1 rfl (lv_at hl 1 rfl) ?_
    refine pcall_i (As := [.int (nI i)]) (rest := []) (ci := 0) (q0 := 0) ⟨hx, hb, hml, hown, hts⟩ (metX0_isState l (ad 0) ((nI i))) (cwV 1 hts (lw_V q89 q91 qs0 q27 q92) rfl rfl rfl (by decide +kernel) ⟨Nat.le_of_ble_eq_true rfl, Nat.le_of_ble_eq_true rfl⟩) rfl rfl hK hP rfl hl.1 rfl (Nat.le_of_ble_eq_true rfl) dX0_steps_2 ⟨Nat.zero_le _, Nat.zero_le _⟩ (fun r hr => ?_)
    rw [e0] at hr
    subst hr
    refine nv_if_eq (tgt := 17) hx hb (by omega) dX0_steps_5 (by decide) (fun q => absurd q (by omega)) (fun c5 => ?_)
    refine lv_aload_n hx hb dX0_steps_8 rfl (lv_at hl 0 rfl) ?_
    refine gX0 hx hb hts hown hK hP 0 rfl 0 (by decide) q37 rfl dX0_steps_9 ?_
    refine lv_iload_n hx hb dX0_steps_12 rfl (lv_at hl 1 rfl) ?_
    refine nv_iald hx hb hK hP 1 0 rfl rfl (by omega) (by decide) dX0_steps_13 ?_
    refine lv_goto (tgt := 18) hx hb dX0_steps_14 (by decide) ?_
    exact hret _ _ _ _ _ (cwX ad di db st mk n tk ps so dp te sc bd de sv me mo dg) rfl dX0_steps_18 (⟨Or.inl ⟨i, hi, rfl, rfl⟩, rfl⟩) hP hD hS
  · refine lv_aload_n hx hb dX0_steps_0 rfl (lv_at hl 0 rfl) ?_
    refine lv_iload_n hx hb dX0_steps_1 rfl (lv_at hl 1 rfl) ?_
    refine pcall_i (As := [.int p0]) (rest := []) (ci := 0) (q0 := 0) ⟨hx, hb, hml, hown, hts⟩ (metX0_isState l (ad 0) (p0)) (cwV 1 hts (lw_V q89 q91 qs0 q27 q92) rfl rfl rfl (by decide +kernel) ⟨Nat.le_of_ble_eq_true rfl, Nat.le_of_ble_eq_true rfl⟩) rfl rfl hK hP rfl hl.1 rfl (Nat.le_of_ble_eq_true rfl) dX0_steps_2 ⟨Nat.zero_le _, Nat.zero_le _⟩ (fun r hr => ?_)
    rw [e0] at hr
    subst hr
    refine nv_if_eq (tgt := 17) hx hb (by omega) dX0_steps_5 (by decide) (fun c5 => ?_) (fun q => absurd q (by omega))
    refine lv_iconst (v := nP 0) hx hb dX0_steps_17 (by decide) ?_
    exact hret _ _ _ _ _ (cwX ad di db st mk n tk ps so dp te sc bd de sv me mo dg) rfl dX0_steps_18 (⟨Or.inr ⟨hno, rfl⟩, rfl⟩) hP hD hS
end
section
/-! ModalJudge.turn -/
theorem mj_cnt_t {p : Nat → Bool} {k : Nat} (h : p k = true) : mj_cnt p (k + 1) = mj_cnt p k + 1 := by show _ + (if _ then 1 else 0) = _; rw [if_pos h]
theorem mj_cnt_f {p : Nat → Bool} {k : Nat} (h : p k = false) : mj_cnt p (k + 1) = mj_cnt p k := by show _ + (if _ then 1 else 0) = _; rw [if_neg (by rw [h]; decide)]; rfl
theorem cpt_a {t : Nat} (h : t < 3) : cpt t = t + 3 := by unfold cpt; rw [if_pos h]
theorem cpt_b {t : Nat} (h : 3 ≤ t) (h2 : t < 6) : cpt t = t - 3 := by unfold cpt; rw [if_neg (by omega), if_pos h2]
theorem cpt_c {t : Nat} (h : 6 ≤ t) (h2 : t < 10) : cpt t = t ^^^ 1 := by unfold cpt; rw [if_neg (by omega), if_neg (by omega), if_pos h2]
theorem cpt_d {t : Nat} (h : 10 ≤ t) (h2 : t < 13) : cpt t = t + 3 := by unfold cpt; rw [if_neg (by omega), if_neg (by omega), if_neg (by omega), if_pos h2]
theorem cpt_e {t : Nat} (h : 13 ≤ t) (h2 : t < 16) : cpt t = t - 3 := by unfold cpt; rw [if_neg (by omega), if_neg (by omega), if_neg (by omega), if_neg (by omega), if_pos h2]
theorem cpt_f {t : Nat} (h : 16 ≤ t) : cpt t = t := by unfold cpt; rw [if_neg (by omega), if_neg (by omega), if_neg (by omega), if_neg (by omega), if_neg (by omega)]
theorem cpt_x {t : Nat} (h : 6 ≤ t) (h2 : t < 10) : t ^^^ 1 < 10 := by
  rcases (show t = 6 ∨ t = 7 ∨ t = 8 ∨ t = 9 by omega) with rfl | rfl | rfl | rfl <;> decide
/-- the first k tokens turned -/
def cptA (tk : Nat → Nat) (k : Nat) : Nat → Nat := fun j => if j < k then cpt (tk j) else tk j
theorem cptA_0 (tk : Nat → Nat) : cptA tk 0 = tk := by funext j; simp [cptA]
theorem cptA_at {tk : Nat → Nat} {k : Nat} : cptA tk k k = tk k := by simp [cptA]
theorem cptA_step {tk : Nat → Nat} {k : Nat} : upN (cptA tk k) k (cpt (tk k)) = cptA tk (k + 1) := by
  funext j
  unfold upN cptA
  by_cases h : j = k
  · subst h; rw [if_pos rfl, if_pos (by omega)]
  · rw [if_neg h]
    by_cases h2 : j < k
    · rw [if_pos h2, if_pos (by omega)]
    · rw [if_neg h2, if_neg (by omega)]
theorem cptA_keep {tk : Nat → Nat} {k : Nat} (h : 16 ≤ tk k) : cptA tk k = cptA tk (k + 1) := by
  rw [← cptA_step, cpt_f h]
  funext j
  unfold upN
  by_cases e : j = k
  · rw [if_pos e, e, cptA_at]
  · rw [if_neg e]
set_option maxHeartbeats 4000000 in
set_option maxRecDepth 100000 in
/-- turn -/
theorem metX0_turn (l : Launch) (D : va_G) (ad : Nat → Nat) (di db : ClassId) (st mk : Nat → Nat) (n : Nat) (tk : Nat → Nat) (ps so dp : Nat) (te sc bd de : Nat → Nat) (sv : Nat) (me mo dg : Nat → Nat)  (hn : n ≤ 12) (htk : ∀ j, tk j ≤ 18) : xMi l yX0_turn cX0_turn 4 .int ({ frames := 1, cells := 0, slots := 0, locals := 20 }) D (tyX di db) (cwX ad di db st mk n tk ps so dp te sc bd de sv me mo dg) [.ref (ad 0)] (fun r u => r = nI (mj_cnt (fun j => decide (tk j < 16)) n) ∧ u = cwX ad di db st mk n (cptA tk n) 0 so dp te sc bd de 0 me mo dg) := by
  refine xMi_intro (by decide) (Nat.le_of_ble_eq_true rfl) ?_
  intro p e s m args below meth c A Q hx hb hml hown hts hA hK hP hD hS hret ls hl
  have hl : lv_has ls 4 [(0, .ref (ad 0))] := hl
  refine lv_iconst (v := nI 0) hx hb dX0_turn_0 (by decide) ?_
  refine lv_istore_n (lv' := [(1, .int (nI 0)), (0, .ref (ad 0))]) hx hb dX0_turn_1 rfl hl (by decide) rfl (fun ls hl => ?_)
  refine lv_iconst (v := nI 0) hx hb dX0_turn_2 (by decide) ?_
  refine lv_istore_n (lv' := [(2, .int (nI 0)), (1, .int (nI 0)), (0, .ref (ad 0))]) hx hb dX0_turn_3 rfl hl (by decide) rfl (fun ls hl => ?_)
  have L : ∀ (d k : Nat) , n < k + d → k ≤ n → ∀ (H : Heap) (locs : List Loc), va_P D vwCl (cwX ad di db st mk n (cptA tk k) ps so dp te sc bd de sv me mo dg) H → va_D A (cwX ad di db st mk n (cptA tk k) ps so dp te sc bd de sv me mo dg) → va_S A s.heap H locs → ∀ ls : Array Slot, lv_has ls 4 [(0, .ref (ad 0)), (1, .int (nI (mj_cnt (fun j => decide (tk j < 16)) k))), (2, .int (nI k))] → W p l e ({ frames := 1, cells := 0, slots := 0, locals := 20 }) s m args below meth c H locs 0 0 Q (F0 m 4 ls []) := by
    intro d
    induction d with
    | zero =>
      intro k  h1_ h2_
      exfalso; omega
    | succ d ihL =>
      intro k  h1_ h2_  H locs hP hD hS ls hl
      have hcb := mj_cnt_bound (fun j => decide (tk j < 16)) k
      refine lv_iload_n hx hb dX0_turn_4 rfl (lv_at hl 2 rfl) ?_
      refine lv_aload_n hx hb dX0_turn_5 rfl (lv_at hl 0 rfl) ?_
      refine gX0 hx hb hts hown hK hP 0 rfl 2 (by decide) q39 rfl dX0_turn_6 ?_
      refine nv_icmp_ge (tgt := 108) hx hb (by omega) (by omega) dX0_turn_9 (by decide) (fun c9 => ?_) (fun c9 => ?_)
      · refine lv_aload_n hx hb dX0_turn_108 rfl (lv_at hl 0 rfl) ?_
        refine xcall_v (As := []) (rest := []) (ci := 0) ⟨hx, hb, hml, hown, hts⟩ (metX0_changeFormula l D ad di db st mk n (cptA tk k) ps so dp te sc bd de sv me mo dg) (cwV 0 hts (lw_V q101 q103 qs1 q27 q104) rfl rfl rfl (by decide +kernel) ⟨Nat.le_of_ble_eq_true rfl, Nat.le_of_ble_eq_true rfl⟩) rfl rfl hK hP hD hS hA rfl hl.1 rfl (Nat.le_of_ble_eq_true rfl) dX0_turn_109 ⟨Nat.zero_le _, Nat.zero_le _⟩ (fun u H locs hw hP hD hS => ?_)
        subst hw
        refine lv_iload_n hx hb dX0_turn_112 rfl (lv_at hl 1 rfl) ?_
        have hkn : k = n := by omega
        exact hret _ _ _ _ _ (cwX ad di db st mk n (cptA tk k) 0 so dp te sc bd de 0 me mo dg) rfl dX0_turn_113 (⟨by rw [hkn], by rw [hkn]⟩) hP hD hS
      · refine lv_aload_n hx hb dX0_turn_12 rfl (lv_at hl 0 rfl) ?_
        refine gX0 hx hb hts hown hK hP 0 rfl 3 (by decide) q40 rfl dX0_turn_13 ?_
        refine lv_iload_n hx hb dX0_turn_16 rfl (lv_at hl 2 rfl) ?_
        refine nv_bald hx hb hK hP 3 1 rfl rfl (by omega) (by decide) dX0_turn_17 ?_
        rw [cptA_at]
        have h18 := htk k
        refine lv_istore_n (lv' := [(3, .int (nI (tk k))), (0, .ref (ad 0)), (1, .int (nI (mj_cnt (fun j => decide (tk j < 16)) k))), (2, .int (nI k))]) hx hb dX0_turn_18 rfl hl (by decide) rfl (fun ls hl => ?_)
        refine lv_iload_n hx hb dX0_turn_19 rfl (lv_at hl 0 rfl) ?_
        refine lv_bipush (v := nI 16) hx hb dX0_turn_20 (by decide) ?_
        refine nv_icmp_lt (tgt := 28) hx hb (by omega) (by omega) dX0_turn_22 (by decide) (fun c22 => ?_) (fun c22 => ?_)
        · refine nv_iinc (k := 2) (lv' := [(1, .int (nI ((mj_cnt (fun j => decide (tk j < 16)) k) + 1))), (3, .int (nI (tk k))), (0, .ref (ad 0)), (2, .int (nI k))]) (v := (nI ((mj_cnt (fun j => decide (tk j < 16)) k) + 1))) hx hb dX0_turn_28 hl rfl (nI_inc _) (by decide) rfl (fun ls hl => ?_)
          refine lv_iload_n hx hb dX0_turn_31 rfl (lv_at hl 1 rfl) ?_
          refine lv_bipush (v := nI 6) hx hb dX0_turn_32 (by decide) ?_
          refine nv_icmp_ge (tgt := 61) hx hb (by omega) (by omega) dX0_turn_34 (by decide) (fun c34 => ?_) (fun c34 => ?_)
          · refine lv_iload_n hx hb dX0_turn_61 rfl (lv_at hl 1 rfl) ?_
            refine lv_bipush (v := nI 10) hx hb dX0_turn_62 (by decide) ?_
            refine nv_icmp_ge (tgt := 80) hx hb (by omega) (by omega) dX0_turn_64 (by decide) (fun c64 => ?_) (fun c64 => ?_)
            · refine lv_aload_n hx hb dX0_turn_80 rfl (lv_at hl 2 rfl) ?_
              refine gX0 hx hb hts hown hK hP 0 rfl 3 (by decide) q40 rfl dX0_turn_81 ?_
              refine lv_iload_n hx hb dX0_turn_84 rfl (lv_at hl 3 rfl) ?_
              refine lv_iload_n hx hb dX0_turn_85 rfl (lv_at hl 1 rfl) ?_
              refine lv_bipush (v := nI 13) hx hb dX0_turn_86 (by decide) ?_
              refine nv_icmp_ge (tgt := 97) hx hb (by omega) (by omega) dX0_turn_88 (by decide) (fun c88 => ?_) (fun c88 => ?_)
              · refine lv_iload_n hx hb dX0_turn_97 rfl (lv_at hl 1 rfl) ?_
                refine lv_iconst (v := nI 3) hx hb dX0_turn_98 (by decide) ?_
                refine nv_isub hx hb (by omega) dX0_turn_99 ?_
                refine nv_i2b hx hb (by omega) dX0_turn_100 ?_
                refine nv_bast hx hb hK hP hD hS 3 1 rfl rfl (by omega) (by decide) (by omega) dX0_turn_101 (fun H locs hP hD hS => ?_)
                have hP : va_P D vwCl (cwX ad di db st mk n (upN (cptA tk k) k ((tk k) - 3)) ps so dp te sc bd de sv me mo dg) H := hP
                have hD : va_D A (cwX ad di db st mk n (upN (cptA tk k) k ((tk k) - 3)) ps so dp te sc bd de sv me mo dg) := hD
                rw [show ((tk k) - 3) = cpt (tk k) by first | exact (cpt_a (by omega)).symm | exact (cpt_b (by omega) (by omega)).symm | exact (cpt_c (by omega) (by omega)).symm | exact (cpt_d (by omega) (by omega)).symm | exact (cpt_e (by omega) (by omega)).symm, cptA_step] at hP hD
                rw [← mj_cnt_t (p := fun j => decide (tk j < 16)) (k := k) (by simp; omega)] at hl
                refine nv_iinc (k := 3) (lv' := [(2, .int (nI (k + 1))), (1, .int (nI (mj_cnt (fun j => decide (tk j < 16)) (k + 1)))), (3, .int (nI (tk k))), (0, .ref (ad 0))]) (v := (nI (k + 1))) hx hb dX0_turn_102 hl rfl (nI_inc _) (by decide) rfl (fun ls hl => ?_)
                refine lv_goto (tgt := 4) hx hb dX0_turn_105 (by decide) ?_
                exact ihL (k + 1) (by omega) (by omega) _ _ hP hD hS ls (lv_sub hl [3, 1, 0] rfl)
              · refine lv_iload_n hx hb dX0_turn_91 rfl (lv_at hl 1 rfl) ?_
                refine lv_iconst (v := nI 3) hx hb dX0_turn_92 (by decide) ?_
                refine nv_iadd hx hb dX0_turn_93 ?_
                refine lv_goto (tgt := 100) hx hb dX0_turn_94 (by decide) ?_
                refine nv_i2b hx hb (by omega) dX0_turn_100 ?_
                refine nv_bast hx hb hK hP hD hS 3 1 rfl rfl (by omega) (by decide) (by omega) dX0_turn_101 (fun H locs hP hD hS => ?_)
                have hP : va_P D vwCl (cwX ad di db st mk n (upN (cptA tk k) k ((tk k) + 3)) ps so dp te sc bd de sv me mo dg) H := hP
                have hD : va_D A (cwX ad di db st mk n (upN (cptA tk k) k ((tk k) + 3)) ps so dp te sc bd de sv me mo dg) := hD
                rw [show ((tk k) + 3) = cpt (tk k) by first | exact (cpt_a (by omega)).symm | exact (cpt_b (by omega) (by omega)).symm | exact (cpt_c (by omega) (by omega)).symm | exact (cpt_d (by omega) (by omega)).symm | exact (cpt_e (by omega) (by omega)).symm, cptA_step] at hP hD
                rw [← mj_cnt_t (p := fun j => decide (tk j < 16)) (k := k) (by simp; omega)] at hl
                refine nv_iinc (k := 3) (lv' := [(2, .int (nI (k + 1))), (1, .int (nI (mj_cnt (fun j => decide (tk j < 16)) (k + 1)))), (3, .int (nI (tk k))), (0, .ref (ad 0))]) (v := (nI (k + 1))) hx hb dX0_turn_102 hl rfl (nI_inc _) (by decide) rfl (fun ls hl => ?_)
                refine lv_goto (tgt := 4) hx hb dX0_turn_105 (by decide) ?_
                exact ihL (k + 1) (by omega) (by omega) _ _ hP hD hS ls (lv_sub hl [3, 1, 0] rfl)
            · refine lv_aload_n hx hb dX0_turn_67 rfl (lv_at hl 2 rfl) ?_
              refine gX0 hx hb hts hown hK hP 0 rfl 3 (by decide) q40 rfl dX0_turn_68 ?_
              refine lv_iload_n hx hb dX0_turn_71 rfl (lv_at hl 3 rfl) ?_
              refine lv_iload_n hx hb dX0_turn_72 rfl (lv_at hl 1 rfl) ?_
              refine lv_iconst (v := nI 1) hx hb dX0_turn_73 (by decide) ?_
              refine nv_ixor hx hb dX0_turn_74 ?_
              have hxx := cpt_x (t := tk k) (by omega) (by omega)
              refine nv_i2b hx hb (by omega) dX0_turn_75 ?_
              refine nv_bast hx hb hK hP hD hS 3 1 rfl rfl (by omega) (by decide) (by omega) dX0_turn_76 (fun H locs hP hD hS => ?_)
              have hP : va_P D vwCl (cwX ad di db st mk n (upN (cptA tk k) k ((tk k) ^^^ 1)) ps so dp te sc bd de sv me mo dg) H := hP
              have hD : va_D A (cwX ad di db st mk n (upN (cptA tk k) k ((tk k) ^^^ 1)) ps so dp te sc bd de sv me mo dg) := hD
              refine lv_goto (tgt := 102) hx hb dX0_turn_77 (by decide) ?_
              rw [show ((tk k) ^^^ 1) = cpt (tk k) by first | exact (cpt_a (by omega)).symm | exact (cpt_b (by omega) (by omega)).symm | exact (cpt_c (by omega) (by omega)).symm | exact (cpt_d (by omega) (by omega)).symm | exact (cpt_e (by omega) (by omega)).symm, cptA_step] at hP hD
              rw [← mj_cnt_t (p := fun j => decide (tk j < 16)) (k := k) (by simp; omega)] at hl
              refine nv_iinc (k := 3) (lv' := [(2, .int (nI (k + 1))), (1, .int (nI (mj_cnt (fun j => decide (tk j < 16)) (k + 1)))), (3, .int (nI (tk k))), (0, .ref (ad 0))]) (v := (nI (k + 1))) hx hb dX0_turn_102 hl rfl (nI_inc _) (by decide) rfl (fun ls hl => ?_)
              refine lv_goto (tgt := 4) hx hb dX0_turn_105 (by decide) ?_
              exact ihL (k + 1) (by omega) (by omega) _ _ hP hD hS ls (lv_sub hl [3, 1, 0] rfl)
          · refine lv_aload_n hx hb dX0_turn_37 rfl (lv_at hl 2 rfl) ?_
            refine gX0 hx hb hts hown hK hP 0 rfl 3 (by decide) q40 rfl dX0_turn_38 ?_
            refine lv_iload_n hx hb dX0_turn_41 rfl (lv_at hl 3 rfl) ?_
            refine lv_iload_n hx hb dX0_turn_42 rfl (lv_at hl 1 rfl) ?_
            refine lv_iconst (v := nI 3) hx hb dX0_turn_43 (by decide) ?_
            refine nv_icmp_ge (tgt := 53) hx hb (by omega) (by omega) dX0_turn_44 (by decide) (fun c44 => ?_) (fun c44 => ?_)
            · refine lv_iload_n hx hb dX0_turn_53 rfl (lv_at hl 1 rfl) ?_
              refine lv_iconst (v := nI 3) hx hb dX0_turn_54 (by decide) ?_
              refine nv_isub hx hb (by omega) dX0_turn_55 ?_
              refine nv_i2b hx hb (by omega) dX0_turn_56 ?_
              refine nv_bast hx hb hK hP hD hS 3 1 rfl rfl (by omega) (by decide) (by omega) dX0_turn_57 (fun H locs hP hD hS => ?_)
              have hP : va_P D vwCl (cwX ad di db st mk n (upN (cptA tk k) k ((tk k) - 3)) ps so dp te sc bd de sv me mo dg) H := hP
              have hD : va_D A (cwX ad di db st mk n (upN (cptA tk k) k ((tk k) - 3)) ps so dp te sc bd de sv me mo dg) := hD
              refine lv_goto (tgt := 102) hx hb dX0_turn_58 (by decide) ?_
              rw [show ((tk k) - 3) = cpt (tk k) by first | exact (cpt_a (by omega)).symm | exact (cpt_b (by omega) (by omega)).symm | exact (cpt_c (by omega) (by omega)).symm | exact (cpt_d (by omega) (by omega)).symm | exact (cpt_e (by omega) (by omega)).symm, cptA_step] at hP hD
              rw [← mj_cnt_t (p := fun j => decide (tk j < 16)) (k := k) (by simp; omega)] at hl
              refine nv_iinc (k := 3) (lv' := [(2, .int (nI (k + 1))), (1, .int (nI (mj_cnt (fun j => decide (tk j < 16)) (k + 1)))), (3, .int (nI (tk k))), (0, .ref (ad 0))]) (v := (nI (k + 1))) hx hb dX0_turn_102 hl rfl (nI_inc _) (by decide) rfl (fun ls hl => ?_)
              refine lv_goto (tgt := 4) hx hb dX0_turn_105 (by decide) ?_
              exact ihL (k + 1) (by omega) (by omega) _ _ hP hD hS ls (lv_sub hl [3, 1, 0] rfl)
            · refine lv_iload_n hx hb dX0_turn_47 rfl (lv_at hl 1 rfl) ?_
              refine lv_iconst (v := nI 3) hx hb dX0_turn_48 (by decide) ?_
              refine nv_iadd hx hb dX0_turn_49 ?_
              refine lv_goto (tgt := 56) hx hb dX0_turn_50 (by decide) ?_
              refine nv_i2b hx hb (by omega) dX0_turn_56 ?_
              refine nv_bast hx hb hK hP hD hS 3 1 rfl rfl (by omega) (by decide) (by omega) dX0_turn_57 (fun H locs hP hD hS => ?_)
              have hP : va_P D vwCl (cwX ad di db st mk n (upN (cptA tk k) k ((tk k) + 3)) ps so dp te sc bd de sv me mo dg) H := hP
              have hD : va_D A (cwX ad di db st mk n (upN (cptA tk k) k ((tk k) + 3)) ps so dp te sc bd de sv me mo dg) := hD
              refine lv_goto (tgt := 102) hx hb dX0_turn_58 (by decide) ?_
              rw [show ((tk k) + 3) = cpt (tk k) by first | exact (cpt_a (by omega)).symm | exact (cpt_b (by omega) (by omega)).symm | exact (cpt_c (by omega) (by omega)).symm | exact (cpt_d (by omega) (by omega)).symm | exact (cpt_e (by omega) (by omega)).symm, cptA_step] at hP hD
              rw [← mj_cnt_t (p := fun j => decide (tk j < 16)) (k := k) (by simp; omega)] at hl
              refine nv_iinc (k := 3) (lv' := [(2, .int (nI (k + 1))), (1, .int (nI (mj_cnt (fun j => decide (tk j < 16)) (k + 1)))), (3, .int (nI (tk k))), (0, .ref (ad 0))]) (v := (nI (k + 1))) hx hb dX0_turn_102 hl rfl (nI_inc _) (by decide) rfl (fun ls hl => ?_)
              refine lv_goto (tgt := 4) hx hb dX0_turn_105 (by decide) ?_
              exact ihL (k + 1) (by omega) (by omega) _ _ hP hD hS ls (lv_sub hl [3, 1, 0] rfl)
        · refine lv_goto (tgt := 102) hx hb dX0_turn_25 (by decide) ?_
          rw [cptA_keep (k := k) (by omega)] at hP hD
          rw [← mj_cnt_f (p := fun j => decide (tk j < 16)) (k := k) (by simp; omega)] at hl
          refine nv_iinc (k := 3) (lv' := [(2, .int (nI (k + 1))), (3, .int (nI (tk k))), (0, .ref (ad 0)), (1, .int (nI (mj_cnt (fun j => decide (tk j < 16)) (k + 1))))]) (v := (nI (k + 1))) hx hb dX0_turn_102 hl rfl (nI_inc _) (by decide) rfl (fun ls hl => ?_)
          refine lv_goto (tgt := 4) hx hb dX0_turn_105 (by decide) ?_
          exact ihL (k + 1) (by omega) (by omega) _ _ hP hD hS ls (lv_sub hl [2, 3, 0] rfl)
  have h0 : cptA tk 0 = tk := cptA_0 tk
  rw [← h0] at hP hD
  exact L (n + 1) 0 (by omega) (by omega) _ _ hP hD hS ls (lv_sub hl [2, 1, 0] rfl)
end
section
/-! PLAIN LAW, 5: when a row of tokens is sound, and what reading it lays down -/
def mtc (a t : Nat) : Prop := a + 6 = t ∨ a + 3 = t
/-- the last binder of that name around k -/
def IsB (tk E : Nat → Nat) (b k : Nat) : Prop := b < k ∧ mtc (tk b) (tk k) ∧ k < E b ∧ ∀ c, b < c → c < k → mtc (tk c) (tk k) → E c ≤ k
def Str (tk : Nat → Nat) (n : Nat) (E B : Nat → Nat) : Prop := 0 < n ∧ mj_EndOK tk n E ∧ E 0 = n ∧ (∀ k, k < n → 16 ≤ tk k → IsB tk E (B k) k) ∧ mj_nb tk n ≤ 4
def Snd (tk : Nat → Nat) (n : Nat) : Prop := ∃ E B, Str tk n E B
theorem Str_enc {tk : Nat → Nat} {n : Nat} {E B : Nat → Nat} (h18 : ∀ j, tk j ≤ 18) (h : Str tk n E B) : ∀ k, k < n → 16 ≤ tk k → mj_Enc tk E (B k) k := by
  intro k hk h16
  obtain ⟨h1, h2, h3, -⟩ := h.2.2.2.1 k hk h16
  have := h18 k
  unfold mtc at h2
  exact ⟨h1, ⟨by omega, by omega⟩, h3⟩
/-- the deepest nesting of binders below j -/
def mj_deep (tk E : Nat → Nat) : Nat → Nat
  | 0 => 0
  | j + 1 => if mj_bd (tk j) = true then max (mj_deep tk E j) (mj_dep tk E j + 1) else mj_deep tk E j
theorem mj_dep_le (tk E : Nat → Nat) (k : Nat) : mj_dep tk E k ≤ k := mj_cnt_bound _ k
theorem mj_deep_le (tk E : Nat → Nat) (j : Nat) : mj_deep tk E j ≤ j := by
  induction j with
  | zero => exact Nat.le_refl _
  | succ j ih =>
    have := mj_dep_le tk E j
    show (if _ then _ else _) ≤ _
    split
    · exact Nat.max_le.mpr ⟨by omega, by omega⟩
    · omega
theorem deep_b1 {tk E : Nat → Nat} {j : Nat} (hb : 10 ≤ tk j ∧ tk j < 16) (h : mj_deep tk E j < mj_dep tk E j + 1) : mj_dep tk E j + 1 = mj_deep tk E (j + 1) := by
  show _ = (if _ then _ else _)
  rw [if_pos (mj_bd_iff.mpr hb)]
  omega
theorem deep_b0 {tk E : Nat → Nat} {j : Nat} (hb : 10 ≤ tk j ∧ tk j < 16) (h : mj_dep tk E j + 1 ≤ mj_deep tk E j) : mj_deep tk E j = mj_deep tk E (j + 1) := by
  show _ = (if _ then _ else _)
  rw [if_pos (mj_bd_iff.mpr hb)]
  omega
theorem deep_n {tk E : Nat → Nat} {j : Nat} (hb : ¬ (10 ≤ tk j ∧ tk j < 16)) : mj_deep tk E j = mj_deep tk E (j + 1) := by
  show _ = (if _ then _ else _)
  rw [if_neg (fun q => hb (mj_bd_iff.mp q))]
theorem nb_1 {tk : Nat → Nat} {j : Nat} (hb : 10 ≤ tk j ∧ tk j < 16) : mj_nb tk j + 1 = mj_nb tk (j + 1) := (mj_cnt_t (p := fun b => mj_bd (tk b)) (mj_bd_iff.mpr hb)).symm
theorem nb_0 {tk : Nat → Nat} {j : Nat} (hb : ¬ (10 ≤ tk j ∧ tk j < 16)) : mj_nb tk j = mj_nb tk (j + 1) := (mj_cnt_f (p := fun b => mj_bd (tk b)) (by
  cases h : mj_bd (tk j)
  · rfl
  · exact absurd (mj_bd_iff.mp h) hb)).symm
theorem mj_nb_le (tk : Nat → Nat) (j : Nat) : mj_nb tk j ≤ j := mj_cnt_bound _ j
/-- the binders around k among the first b -/
def mj_dp (tk E : Nat → Nat) (k b : Nat) : Nat := mj_cnt (fun b => mj_bd (tk b) && decide (k < E b)) b
theorem mj_dp_le (tk E : Nat → Nat) (k b : Nat) : mj_dp tk E k b ≤ b := mj_cnt_bound _ b
theorem mj_dp_all (tk E : Nat → Nat) (k : Nat) : mj_dp tk E k k = mj_dep tk E k := rfl
theorem dp_1 {tk E : Nat → Nat} {k b : Nat} (hb : 10 ≤ tk b ∧ tk b < 16) (h : k < E b) : mj_dp tk E k b + 1 = mj_dp tk E k (b + 1) := (mj_cnt_t (p := fun b => mj_bd (tk b) && decide (k < E b)) (by simp only [Bool.and_eq_true, decide_eq_true_eq]; exact ⟨mj_bd_iff.mpr hb, h⟩)).symm
theorem dp_0 {tk E : Nat → Nat} {k b : Nat} (hb : ¬ (10 ≤ tk b ∧ tk b < 16) ∨ E b ≤ k) : mj_dp tk E k b = mj_dp tk E k (b + 1) := (mj_cnt_f (p := fun b => mj_bd (tk b) && decide (k < E b)) (by
  rcases hb with h | h
  · cases h2 : mj_bd (tk b)
    · rfl
    · exact absurd (mj_bd_iff.mp h2) h
  · rw [Bool.and_eq_false_iff]; exact Or.inr (decide_eq_false (by omega)))).symm
theorem bi_le (t : Nat) : bi t ≤ 1 := by unfold bi; split <;> omega
theorem bi_pos {t : Nat} (h : 0 < bi t) : 10 ≤ t ∧ t < 16 := by
  unfold bi at h
  by_cases c : mj_bd t = true
  · exact mj_bd_iff.mp c
  · rw [if_neg c] at h; omega
theorem bi_zero {t : Nat} (h : bi t = 0) : ¬ (10 ≤ t ∧ t < 16) := by
  intro q
  unfold bi at h
  rw [if_pos (mj_bd_iff.mpr q)] at h
  omega
theorem upN_upN (g : Nat → Nat) (k v w : Nat) : upN (upN g k v) k w = upN g k w := by
  funext j
  unfold upN
  by_cases h : j = k
  · rw [if_pos h, if_pos h]
  · rw [if_neg h, if_neg h, if_neg h]
theorem upN_all {g : Nat → Nat} {k v : Nat} {P : Nat → Prop} (h : ∀ j, P (g j)) (hv : P v) : ∀ j, P (upN g k v j) := by
  intro j
  unfold upN
  split
  · exact hv
  · exact h j
/-- findBinder's loop: v - 1 is the last binder of the name so far -/
def FB (tk te : Nat → Nat) (k b v : Nat) : Prop := v ≤ b ∧ (v = 0 ∨ (mtc (tk (v - 1)) (tk k) ∧ k < te (v - 1))) ∧ ∀ c, v ≤ c → c < b → mtc (tk c) (tk k) → te c ≤ k
theorem FB_0 (tk te : Nat → Nat) (k : Nat) : FB tk te k 0 0 := ⟨Nat.le_refl _, Or.inl rfl, fun c _ h => by omega⟩
theorem FB_skip {tk te : Nat → Nat} {k b v : Nat} (h : FB tk te k b v) (hs : mtc (tk b) (tk k) → te b ≤ k) : FB tk te k (b + 1) v := by
  obtain ⟨h1, h2, h3⟩ := h
  refine ⟨by omega, h2, fun c hc hcb hm => ?_⟩
  by_cases e : c = b
  · subst e; exact hs hm
  · exact h3 c hc (by omega) hm
theorem FB_take {tk te : Nat → Nat} {k b : Nat} (hm : mtc (tk b) (tk k)) (hk : k < te b) : FB tk te k (b + 1) (b + 1) :=
  ⟨Nat.le_refl _, Or.inr ⟨hm, hk⟩, fun c h1 h2 => by omega⟩
theorem FB_some {tk te : Nat → Nat} {k v : Nat} (h : FB tk te k k (v + 1)) : IsB tk te (v + 1 - 1) k := by
  obtain ⟨h1, h2, h3⟩ := h
  rcases h2 with h2 | h2
  · omega
  · exact ⟨by omega, h2.1, h2.2, fun c hc hck hm => h3 c (by omega) hck hm⟩
theorem FB_none {tk te : Nat → Nat} {k : Nat} (h : FB tk te k k 0) : ∀ b, b < k → mtc (tk b) (tk k) → te b ≤ k := fun b hb hm => h.2.2 b (by omega) hb hm
theorem Str_ends {tk : Nat → Nat} {n lo : Nat} {E B te : Nat → Nat} (h : Str tk n E B) (ht : ∀ i, lo ≤ i → i < n → mj_EndAt tk n te i) {i : Nat} (h1 : lo ≤ i) (h2 : i < n) : E i = te i :=
  mj_uniq (lo := lo) (fun j _ hj => h.2.1 j hj) ht n i (by omega) h1 h2
theorem no_binder {tk : Nat → Nat} {n : Nat} {te : Nat → Nat} (he : mj_EndOK tk n te) {k : Nat} (hk : k < n) (h16 : 16 ≤ tk k) (h : ∀ b, b < k → mtc (tk b) (tk k) → te b ≤ k) : ¬ Snd tk n := by
  rintro ⟨E, B, hs⟩
  obtain ⟨h1, h2, h3, -⟩ := hs.2.2.2.1 k hk h16
  have := h _ h1 h2
  rw [Str_ends (lo := 0) hs (fun i _ hi => he i hi) (by omega) (by omega)] at h3
  omega
theorem no_nb {tk : Nat → Nat} {n : Nat} (h : 4 < mj_nb tk n) : ¬ Snd tk n := by
  rintro ⟨E, B, hs⟩
  have := hs.2.2.2.2
  omega
theorem no_end1 {tk : Nat → Nat} {n j : Nat} (hj : j < n) (ha : mj_ar (tk j) ≠ 0) (h : n ≤ j + 1) : ¬ Snd tk n := by
  rintro ⟨E, B, hs⟩
  have := mj_ch1 hs.2.1 hj ha
  omega
theorem no_end2 {tk : Nat → Nat} {n j : Nat} {te : Nat → Nat} (hj : j < n) (ht : ∀ i, j + 1 ≤ i → i < n → mj_EndAt tk n te i) (ha : mj_ar (tk j) = 2) (h : n ≤ te (j + 1)) : ¬ Snd tk n := by
  rintro ⟨E, B, hs⟩
  have h1 := mj_ch1 hs.2.1 hj (by omega)
  have h2 := mj_ch2 hs.2.1 hj ha
  rw [Str_ends hs ht (by omega) h1.1] at h2
  omega
theorem no_whole {tk : Nat → Nat} {n : Nat} {te : Nat → Nat} (ht : mj_EndOK tk n te) (h : te 0 ≠ n) : ¬ Snd tk n := by
  rintro ⟨E, B, hs⟩
  have h0 := hs.1
  have := Str_ends (lo := 0) hs (fun i _ hi => ht i hi) (Nat.le_refl 0) h0
  rw [hs.2.2.1] at this
  exact h this.symm
theorem no_empty {tk : Nat → Nat} : ¬ Snd tk 0 := by
  rintro ⟨E, B, hs⟩
  have := hs.1
  omega
theorem end_step {tk : Nat → Nat} {n j v : Nat} {E : Nat → Nat} (hj : j < n) (h : ∀ i, j + 1 ≤ i → i < n → mj_EndAt tk n E i) (hv : (mj_ar (tk j) = 0 → v = j + 1) ∧ (mj_ar (tk j) = 1 → j + 1 < n ∧ v = E (j + 1)) ∧ (mj_ar (tk j) = 2 → j + 1 < n ∧ E (j + 1) < n ∧ v = E (E (j + 1)))) : ∀ i, j ≤ i → i < n → mj_EndAt tk n (upN E j v) i := by
  have rg := mj_rng h n
  intro i h1 h2
  by_cases e : i = j
  · subst e
    obtain ⟨v0, v1, v2⟩ := hv
    unfold mj_EndAt
    rw [upN_s, upN_n _ _ (show i + 1 ≠ i by omega)]
    refine ⟨v0, v1, fun ha => ?_⟩
    obtain ⟨a1, a2, a3⟩ := v2 ha
    have := rg (i + 1) (by omega) (by omega) a1
    rw [upN_n _ _ (show E (i + 1) ≠ i by omega)]
    exact ⟨a1, a2, a3⟩
  · obtain ⟨e0, e1, e2⟩ := h i (by omega) h2
    unfold mj_EndAt
    rw [upN_n _ _ e, upN_n _ _ (show i + 1 ≠ j by omega)]
    refine ⟨e0, e1, fun ha => ?_⟩
    obtain ⟨a1, a2, a3⟩ := e2 ha
    have := rg (i + 1) (by omega) (by omega) a1
    rw [upN_n _ _ (show E (i + 1) ≠ j by omega)]
    exact ⟨a1, a2, a3⟩
/-- small numbers in the byte arrays -/
def BX (te bd de : Nat → Nat) : Prop := (∀ j, te j < 128) ∧ (∀ j, bd j < 128) ∧ ∀ j, de j < 128
/-- what reading the formula has laid down -/
def PX (tk : Nat → Nat) (n so dp : Nat) (te sc bd de : Nat → Nat) : Prop :=
  (so = 1 ∧ Str tk n te (fun k => bd k - 1) ∧ (∀ k, k < n → 16 ≤ tk k → 0 < bd k) ∧ (∀ k, k < n → mj_ar (tk k) = 2 → sc k = te (k + 1)) ∧ (∀ k, k < n → de k = mj_dep tk te k) ∧ dp = mj_deep tk te n) ∨ (so = 0 ∧ ¬ Snd tk n)
end
section
/-! ModalJudge: findBinder, bindAll, parse -/
theorem upN_lt {g : Nat → Nat} {k v b : Nat} (h : ∀ j, g j < b) (hv : v < b) : ∀ j, upN g k v j < b := by
  intro j
  unfold upN
  split
  · exact hv
  · exact h j
theorem dA_step {tk te de1 : Nat → Nat} {k : Nat} (h : ∀ j, j < k → de1 j = mj_dep tk te j) : ∀ j, j < k + 1 → upN de1 k (mj_dep tk te k) j = mj_dep tk te j := by
  intro j hj
  by_cases e : j = k
  · subst e; exact upN_s _ _ _
  · rw [upN_n _ _ e]; exact h j (by omega)
theorem bA_name {tk te bd1 : Nat → Nat} {k v : Nat} (h : ∀ j, j < k → 16 ≤ tk j → 0 < bd1 j ∧ IsB tk te (bd1 j - 1) j) (hv : 0 < v) (hB : IsB tk te (v - 1) k) : ∀ j, j < k + 1 → 16 ≤ tk j → 0 < upN bd1 k v j ∧ IsB tk te (upN bd1 k v j - 1) j := by
  intro j hj h16
  by_cases e : j = k
  · subst e; rw [upN_s]; exact ⟨hv, hB⟩
  · rw [upN_n _ _ e]; exact h j (by omega) h16
theorem bA_other {tk te bd1 : Nat → Nat} {k v : Nat} (h : ∀ j, j < k → 16 ≤ tk j → 0 < bd1 j ∧ IsB tk te (bd1 j - 1) j) (hk : tk k < 16) : ∀ j, j < k + 1 → 16 ≤ tk j → 0 < upN bd1 k v j ∧ IsB tk te (upN bd1 k v j - 1) j := by
  intro j hj h16
  by_cases e : j = k
  · subst e; omega
  · rw [upN_n _ _ e]; exact h j (by omega) h16
theorem sc_keep {tk : Nat → Nat} {n j v : Nat} {te1 sc1 : Nat → Nat} (hj : j < n) (h : ∀ i, j + 1 ≤ i → i < n → mj_EndAt tk n te1 i) (h2 : ∀ i, j + 1 ≤ i → i < n → mj_ar (tk i) = 2 → sc1 i = te1 (i + 1)) (ha : mj_ar (tk j) ≠ 2) : ∀ i, j ≤ i → i < n → mj_ar (tk i) = 2 → sc1 i = upN te1 j v (i + 1) := by
  intro i h3 h4 h5
  by_cases e : i = j
  · subst e; exact absurd h5 ha
  · rw [upN_n _ _ (by omega)]; exact h2 i (by omega) h4 h5
theorem sc_keep1 {tk : Nat → Nat} {n j v x : Nat} {te1 sc1 : Nat → Nat} (hj : j < n) (h : ∀ i, j + 1 ≤ i → i < n → mj_EndAt tk n te1 i) (h2 : ∀ i, j + 1 ≤ i → i < n → mj_ar (tk i) = 2 → sc1 i = te1 (i + 1)) (ha : mj_ar (tk j) ≠ 2) : ∀ i, j ≤ i → i < n → mj_ar (tk i) = 2 → upN sc1 j x i = upN te1 j v (i + 1) := by
  intro i h3 h4 h5
  by_cases e : i = j
  · subst e; exact absurd h5 ha
  · rw [upN_n _ _ e, upN_n _ _ (by omega)]; exact h2 i (by omega) h4 h5
theorem sc_set {tk : Nat → Nat} {n j v : Nat} {te1 sc1 : Nat → Nat} (hj : j < n) (h : ∀ i, j + 1 ≤ i → i < n → mj_EndAt tk n te1 i) (h2 : ∀ i, j + 1 ≤ i → i < n → mj_ar (tk i) = 2 → sc1 i = te1 (i + 1)) : ∀ i, j ≤ i → i < n → mj_ar (tk i) = 2 → upN sc1 j (te1 (j + 1)) i = upN te1 j v (i + 1) := by
  intro i h3 h4 h5
  by_cases e : i = j
  · subst e; rw [upN_s, upN_n _ _ (by omega)]
  · rw [upN_n _ _ e, upN_n _ _ (by omega)]; exact h2 i (by omega) h4 h5
set_option maxHeartbeats 4000000 in
set_option maxRecDepth 100000 in
/-- findBinder -/
theorem metX0_findBinder (l : Launch) (D : va_G) (ad : Nat → Nat) (di db : ClassId) (st mk : Nat → Nat) (n : Nat) (tk : Nat → Nat) (ps so dp : Nat) (te sc bd de : Nat → Nat) (sv : Nat) (me mo dg : Nat → Nat) (k : Nat) (hk : k < 12) (h16 : 16 ≤ tk k) (htk : ∀ j, tk j ≤ 18) (hte : ∀ j, te j < 128) : xMi l yX0_findBinder cX0_findBinder 5 .boolean ({ frames := 0, cells := 0, slots := 0, locals := 0 }) D (tyX di db) (cwX ad di db st mk n tk ps so dp te sc (upN bd k 0) de sv me mo dg) [.ref (ad 0), .int (nI k), .int (nI (tk k - 16))] (fun r u => ∃ v, v ≤ k ∧ u = cwX ad di db st mk n tk ps so dp te sc (upN bd k v) de sv me mo dg ∧ ((r = nI 1 ∧ 0 < v ∧ IsB tk te (v - 1) k) ∨ (r = nI 0 ∧ v = 0 ∧ ∀ b, b < k → mtc (tk b) (tk k) → te b ≤ k))) := by
  refine xMi_intro (by decide) (Nat.le_of_ble_eq_true rfl) ?_
  intro p e s m args below meth c A Q hx hb hml hown hts hA hK hP hD hS hret ls hl
  have hl : lv_has ls 5 [(0, .ref (ad 0)), (1, .int (nI k)), (2, .int (nI (tk k - 16)))] := hl
  have h18k := htk k
  refine lv_iconst (v := nI 0) hx hb dX0_findBinder_0 (by decide) ?_
  refine lv_istore_n (lv' := [(3, .int (nI 0)), (0, .ref (ad 0)), (1, .int (nI k)), (2, .int (nI (tk k - 16)))]) hx hb dX0_findBinder_1 rfl hl (by decide) rfl (fun ls hl => ?_)
  have L : ∀ (d b : Nat) (v : Nat), k < b + d → b ≤ k → FB tk te k b v → ∀ (H : Heap) (locs : List Loc), va_P D vwCl (cwX ad di db st mk n tk ps so dp te sc (upN bd k v) de sv me mo dg) H → va_D A (cwX ad di db st mk n tk ps so dp te sc (upN bd k v) de sv me mo dg) → va_S A s.heap H locs → ∀ ls : Array Slot, lv_has ls 5 [(0, .ref (ad 0)), (1, .int (nI k)), (2, .int (nI (tk k - 16))), (3, .int (nI b))] → W p l e ({ frames := 0, cells := 0, slots := 0, locals := 0 }) s m args below meth c H locs 0 0 Q (F0 m 2 ls []) := by
    intro d
    induction d with
    | zero =>
      intro b v h1_ h2_
      exfalso; omega
    | succ d ihL =>
      intro b v h1_ h2_ hF H locs hP hD hS ls hl
      refine lv_iload_n hx hb dX0_findBinder_2 rfl (lv_at hl 3 rfl) ?_
      refine lv_iload_n hx hb dX0_findBinder_3 rfl (lv_at hl 1 rfl) ?_
      refine nv_icmp_ge (tgt := 69) hx hb (by omega) (by omega) dX0_findBinder_4 (by decide) (fun c4 => ?_) (fun c4 => ?_)
      · refine lv_aload_n hx hb dX0_findBinder_69 rfl (lv_at hl 0 rfl) ?_
        refine gX0 hx hb hts hown hK hP 0 rfl 9 (by decide) q46 rfl dX0_findBinder_70 ?_
        refine lv_iload_n hx hb dX0_findBinder_73 rfl (lv_at hl 1 rfl) ?_
        refine nw_bald hx hb hK hP 6 1 rfl rfl (by omega) (by decide) dX0_findBinder_74 ?_
        rw [upN_s]
        have hbk : b = k := by omega
        rw [hbk] at hF
        have hvk := hF.1
        rcases Nat.eq_zero_or_pos v with hv0 | hv0
        · subst hv0
          refine nv_if_ltP (tgt := 82) hx hb dX0_findBinder_75 (by decide) ?_
          refine lv_iconst (v := nI 0) hx hb dX0_findBinder_82 (by decide) ?_
          exact hret _ _ _ _ _ (cwX ad di db st mk n tk ps so dp te sc (upN bd k 0) de sv me mo dg) rfl dX0_findBinder_83 (⟨0, Nat.zero_le _, rfl, Or.inr ⟨rfl, rfl, FB_none hF⟩⟩) hP hD hS
        · obtain ⟨v, rfl⟩ : ∃ v', v = v' + 1 := ⟨v - 1, by omega⟩
          rw [nP_succ]
          refine nv_if_lt (tgt := 82) hx hb (by omega) dX0_findBinder_75 (by decide) ?_
          refine lv_iconst (v := nI 1) hx hb dX0_findBinder_78 (by decide) ?_
          refine lv_goto (tgt := 83) hx hb dX0_findBinder_79 (by decide) ?_
          exact hret _ _ _ _ _ (cwX ad di db st mk n tk ps so dp te sc (upN bd k (v + 1)) de sv me mo dg) rfl dX0_findBinder_83 (⟨v + 1, hvk, rfl, Or.inl ⟨rfl, hv0, FB_some hF⟩⟩) hP hD hS
      · refine lv_aload_n hx hb dX0_findBinder_7 rfl (lv_at hl 0 rfl) ?_
        refine gX0 hx hb hts hown hK hP 0 rfl 3 (by decide) q40 rfl dX0_findBinder_8 ?_
        refine lv_iload_n hx hb dX0_findBinder_11 rfl (lv_at hl 3 rfl) ?_
        refine nv_bald hx hb hK hP 3 1 rfl rfl (by omega) (by decide) dX0_findBinder_12 ?_
        have hld12 := htk b
        refine lv_bipush (v := nI 10) hx hb dX0_findBinder_13 (by decide) ?_
        refine lv_iload_n hx hb dX0_findBinder_15 rfl (lv_at hl 2 rfl) ?_
        refine nv_iadd hx hb dX0_findBinder_16 ?_
        refine nv_icmp_eq (tgt := 33) hx hb (by omega) (by omega) dX0_findBinder_17 (by decide) (fun c17 => ?_) (fun c17 => ?_)
        · refine lv_iconst (v := nI 1) hx hb dX0_findBinder_33 (by decide) ?_
          refine lv_goto (tgt := 38) hx hb dX0_findBinder_34 (by decide) ?_
          refine lv_istore (lv' := [(4, .int (nI 1)), (0, .ref (ad 0)), (1, .int (nI k)), (2, .int (nI (tk k - 16))), (3, .int (nI b))]) hx hb dX0_findBinder_38 hl (by decide) rfl (fun ls hl => ?_)
          refine lv_iload hx hb dX0_findBinder_40 (lv_at hl 0 rfl) ?_
          refine nv_if_eq (tgt := 63) hx hb (by omega) dX0_findBinder_42 (by decide) (fun q => absurd q (by omega)) (fun c42 => ?_)
          refine lv_aload_n hx hb dX0_findBinder_45 rfl (lv_at hl 1 rfl) ?_
          refine gX0 hx hb hts hown hK hP 0 rfl 7 (by decide) q44 rfl dX0_findBinder_46 ?_
          refine lv_iload_n hx hb dX0_findBinder_49 rfl (lv_at hl 4 rfl) ?_
          refine nv_bald hx hb hK hP 4 1 rfl rfl (by omega) (by decide) dX0_findBinder_50 ?_
          have hld50 := hte b
          refine lv_iload_n hx hb dX0_findBinder_51 rfl (lv_at hl 2 rfl) ?_
          refine nv_icmp_le (tgt := 63) hx hb (by omega) (by omega) dX0_findBinder_52 (by decide) (fun c52 => ?_) (fun c52 => ?_)
          · refine nv_iinc (k := 4) (lv' := [(3, .int (nI (b + 1))), (4, .int (nI 1)), (0, .ref (ad 0)), (1, .int (nI k)), (2, .int (nI (tk k - 16)))]) (v := (nI (b + 1))) hx hb dX0_findBinder_63 hl rfl (nI_inc _) (by decide) rfl (fun ls hl => ?_)
            refine lv_goto (tgt := 2) hx hb dX0_findBinder_66 (by decide) ?_
            exact ihL (b + 1) v (by omega) (by omega) (FB_skip hF (fun q => by unfold mtc at q; omega)) _ _ hP hD hS ls (lv_sub hl [2, 3, 4, 0] rfl)
          · refine lv_aload_n hx hb dX0_findBinder_55 rfl (lv_at hl 1 rfl) ?_
            refine gX0 hx hb hts hown hK hP 0 rfl 9 (by decide) q46 rfl dX0_findBinder_56 ?_
            refine lv_iload_n hx hb dX0_findBinder_59 rfl (lv_at hl 2 rfl) ?_
            refine lv_iload_n hx hb dX0_findBinder_60 rfl (lv_at hl 4 rfl) ?_
            refine nv_i2b hx hb (by omega) dX0_findBinder_61 ?_
            rw [← nP_succ b]
            refine nw_bast hx hb hK hP hD hS 6 1 rfl rfl (by omega) (by decide) (by omega) dX0_findBinder_62 (fun H locs hP hD hS => ?_)
            have hP : va_P D vwCl (cwX ad di db st mk n tk ps so dp te sc (upN (upN bd k v) k (b + 1)) de sv me mo dg) H := hP
            have hD : va_D A (cwX ad di db st mk n tk ps so dp te sc (upN (upN bd k v) k (b + 1)) de sv me mo dg) := hD
            rw [upN_upN] at hP hD
            refine nv_iinc (k := 4) (lv' := [(3, .int (nI (b + 1))), (4, .int (nI 1)), (0, .ref (ad 0)), (1, .int (nI k)), (2, .int (nI (tk k - 16)))]) (v := (nI (b + 1))) hx hb dX0_findBinder_63 hl rfl (nI_inc _) (by decide) rfl (fun ls hl => ?_)
            refine lv_goto (tgt := 2) hx hb dX0_findBinder_66 (by decide) ?_
            exact ihL (b + 1) (b + 1) (by omega) (by omega) (FB_take (by unfold mtc; omega) c52) _ _ hP hD hS ls (lv_sub hl [2, 3, 4, 0] rfl)
        · refine lv_aload_n hx hb dX0_findBinder_20 rfl (lv_at hl 0 rfl) ?_
          refine gX0 hx hb hts hown hK hP 0 rfl 3 (by decide) q40 rfl dX0_findBinder_21 ?_
          refine lv_iload_n hx hb dX0_findBinder_24 rfl (lv_at hl 3 rfl) ?_
          refine nv_bald hx hb hK hP 3 1 rfl rfl (by omega) (by decide) dX0_findBinder_25 ?_
          have hld25 := htk b
          refine lv_bipush (v := nI 13) hx hb dX0_findBinder_26 (by decide) ?_
          refine lv_iload_n hx hb dX0_findBinder_28 rfl (lv_at hl 2 rfl) ?_
          refine nv_iadd hx hb dX0_findBinder_29 ?_
          refine nv_icmp_ne (tgt := 37) hx hb (by omega) (by omega) dX0_findBinder_30 (by decide) (fun c30 => ?_) (fun c30 => ?_)
          · refine lv_iconst (v := nI 0) hx hb dX0_findBinder_37 (by decide) ?_
            refine lv_istore (lv' := [(4, .int (nI 0)), (0, .ref (ad 0)), (1, .int (nI k)), (2, .int (nI (tk k - 16))), (3, .int (nI b))]) hx hb dX0_findBinder_38 hl (by decide) rfl (fun ls hl => ?_)
            refine lv_iload hx hb dX0_findBinder_40 (lv_at hl 0 rfl) ?_
            refine nv_if_eq (tgt := 63) hx hb (by omega) dX0_findBinder_42 (by decide) (fun c42 => ?_) (fun q => absurd q (by omega))
            refine nv_iinc (k := 4) (lv' := [(3, .int (nI (b + 1))), (4, .int (nI 0)), (0, .ref (ad 0)), (1, .int (nI k)), (2, .int (nI (tk k - 16)))]) (v := (nI (b + 1))) hx hb dX0_findBinder_63 hl rfl (nI_inc _) (by decide) rfl (fun ls hl => ?_)
            refine lv_goto (tgt := 2) hx hb dX0_findBinder_66 (by decide) ?_
            exact ihL (b + 1) v (by omega) (by omega) (FB_skip hF (fun q => by unfold mtc at q; omega)) _ _ hP hD hS ls (lv_sub hl [2, 3, 4, 0] rfl)
          · refine lv_iconst (v := nI 1) hx hb dX0_findBinder_33 (by decide) ?_
            refine lv_goto (tgt := 38) hx hb dX0_findBinder_34 (by decide) ?_
            refine lv_istore (lv' := [(4, .int (nI 1)), (0, .ref (ad 0)), (1, .int (nI k)), (2, .int (nI (tk k - 16))), (3, .int (nI b))]) hx hb dX0_findBinder_38 hl (by decide) rfl (fun ls hl => ?_)
            refine lv_iload hx hb dX0_findBinder_40 (lv_at hl 0 rfl) ?_
            refine nv_if_eq (tgt := 63) hx hb (by omega) dX0_findBinder_42 (by decide) (fun q => absurd q (by omega)) (fun c42 => ?_)
            refine lv_aload_n hx hb dX0_findBinder_45 rfl (lv_at hl 1 rfl) ?_
            refine gX0 hx hb hts hown hK hP 0 rfl 7 (by decide) q44 rfl dX0_findBinder_46 ?_
            refine lv_iload_n hx hb dX0_findBinder_49 rfl (lv_at hl 4 rfl) ?_
            refine nv_bald hx hb hK hP 4 1 rfl rfl (by omega) (by decide) dX0_findBinder_50 ?_
            have hld50 := hte b
            refine lv_iload_n hx hb dX0_findBinder_51 rfl (lv_at hl 2 rfl) ?_
            refine nv_icmp_le (tgt := 63) hx hb (by omega) (by omega) dX0_findBinder_52 (by decide) (fun c52 => ?_) (fun c52 => ?_)
            · refine nv_iinc (k := 4) (lv' := [(3, .int (nI (b + 1))), (4, .int (nI 1)), (0, .ref (ad 0)), (1, .int (nI k)), (2, .int (nI (tk k - 16)))]) (v := (nI (b + 1))) hx hb dX0_findBinder_63 hl rfl (nI_inc _) (by decide) rfl (fun ls hl => ?_)
              refine lv_goto (tgt := 2) hx hb dX0_findBinder_66 (by decide) ?_
              exact ihL (b + 1) v (by omega) (by omega) (FB_skip hF (fun q => by unfold mtc at q; omega)) _ _ hP hD hS ls (lv_sub hl [2, 3, 4, 0] rfl)
            · refine lv_aload_n hx hb dX0_findBinder_55 rfl (lv_at hl 1 rfl) ?_
              refine gX0 hx hb hts hown hK hP 0 rfl 9 (by decide) q46 rfl dX0_findBinder_56 ?_
              refine lv_iload_n hx hb dX0_findBinder_59 rfl (lv_at hl 2 rfl) ?_
              refine lv_iload_n hx hb dX0_findBinder_60 rfl (lv_at hl 4 rfl) ?_
              refine nv_i2b hx hb (by omega) dX0_findBinder_61 ?_
              rw [← nP_succ b]
              refine nw_bast hx hb hK hP hD hS 6 1 rfl rfl (by omega) (by decide) (by omega) dX0_findBinder_62 (fun H locs hP hD hS => ?_)
              have hP : va_P D vwCl (cwX ad di db st mk n tk ps so dp te sc (upN (upN bd k v) k (b + 1)) de sv me mo dg) H := hP
              have hD : va_D A (cwX ad di db st mk n tk ps so dp te sc (upN (upN bd k v) k (b + 1)) de sv me mo dg) := hD
              rw [upN_upN] at hP hD
              refine nv_iinc (k := 4) (lv' := [(3, .int (nI (b + 1))), (4, .int (nI 1)), (0, .ref (ad 0)), (1, .int (nI k)), (2, .int (nI (tk k - 16)))]) (v := (nI (b + 1))) hx hb dX0_findBinder_63 hl rfl (nI_inc _) (by decide) rfl (fun ls hl => ?_)
              refine lv_goto (tgt := 2) hx hb dX0_findBinder_66 (by decide) ?_
              exact ihL (b + 1) (b + 1) (by omega) (by omega) (FB_take (by unfold mtc; omega) c52) _ _ hP hD hS ls (lv_sub hl [2, 3, 4, 0] rfl)
  exact L (k + 1) 0 0 (by omega) (by omega) (FB_0 tk te k) _ _ hP hD hS ls (lv_sub hl [1, 2, 3, 0] rfl)
set_option maxHeartbeats 4000000 in
set_option maxRecDepth 100000 in
/-- bindAll -/
theorem metX0_bindAll (l : Launch) (D : va_G) (ad : Nat → Nat) (di db : ClassId) (st mk : Nat → Nat) (n : Nat) (tk : Nat → Nat) (ps so dp : Nat) (te sc bd de : Nat → Nat) (sv : Nat) (me mo dg : Nat → Nat)  (hn : n ≤ 12) (htk : ∀ j, tk j ≤ 18) (hte : ∀ j, te j < 128) (hbd : ∀ j, bd j < 128) (hde : ∀ j, de j < 128) (hE : mj_EndOK tk n te) : xMi l yX0_bindAll cX0_bindAll 4 .boolean ({ frames := 1, cells := 0, slots := 0, locals := 24 }) D (tyX di db) (cwX ad di db st mk n tk ps so 0 te sc bd de sv me mo dg) [.ref (ad 0)] (fun r u => ∃ dp1 bd1 de1, u = cwX ad di db st mk n tk ps so dp1 te sc bd1 de1 sv me mo dg ∧ (∀ j, bd1 j < 128) ∧ (∀ j, de1 j < 128) ∧ ((r = nI 1 ∧ mj_nb tk n ≤ 4 ∧ (∀ k, k < n → 16 ≤ tk k → 0 < bd1 k ∧ IsB tk te (bd1 k - 1) k) ∧ (∀ k, k < n → de1 k = mj_dep tk te k) ∧ dp1 = mj_deep tk te n) ∨ (r = nI 0 ∧ ¬ Snd tk n))) := by
  refine xMi_intro (by decide) (Nat.le_of_ble_eq_true rfl) ?_
  intro p e s m args below meth c A Q hx hb hml hown hts hA hK hP hD hS hret ls hl
  have hl : lv_has ls 4 [(0, .ref (ad 0))] := hl
  refine lv_iconst (v := nI 0) hx hb dX0_bindAll_0 (by decide) ?_
  refine lv_istore_n (lv' := [(1, .int (nI 0)), (0, .ref (ad 0))]) hx hb dX0_bindAll_1 rfl hl (by decide) rfl (fun ls hl => ?_)
  refine lv_iconst (v := nI 0) hx hb dX0_bindAll_2 (by decide) ?_
  refine lv_istore_n (lv' := [(2, .int (nI 0)), (1, .int (nI 0)), (0, .ref (ad 0))]) hx hb dX0_bindAll_3 rfl hl (by decide) rfl (fun ls hl => ?_)
  have L : ∀ (d k : Nat) (de1 bd1 : Nat → Nat), n < k + d → k ≤ n → (∀ j, j < k → de1 j = mj_dep tk te j) → (∀ j, j < k → 16 ≤ tk j → 0 < bd1 j ∧ IsB tk te (bd1 j - 1) j) → (∀ j, de1 j < 128) → (∀ j, bd1 j < 128) → ∀ (H : Heap) (locs : List Loc), va_P D vwCl (cwX ad di db st mk n tk ps so (mj_deep tk te k) te sc bd1 de1 sv me mo dg) H → va_D A (cwX ad di db st mk n tk ps so (mj_deep tk te k) te sc bd1 de1 sv me mo dg) → va_S A s.heap H locs → ∀ ls : Array Slot, lv_has ls 4 [(0, .ref (ad 0)), (1, .int (nI (mj_nb tk k))), (2, .int (nI k))] → W p l e ({ frames := 1, cells := 0, slots := 0, locals := 24 }) s m args below meth c H locs 0 0 Q (F0 m 4 ls []) := by
    intro d
    induction d with
    | zero =>
      intro k de1 bd1 h1_ h2_
      exfalso; omega
    | succ d ihL =>
      intro k de1 bd1 h1_ h2_ I1 I2 I3 I4 H locs hP hD hS ls hl
      have hnbk := mj_nb_le tk k
      have hdpk := mj_deep_le tk te k
      have hdek := mj_dep_le tk te k
      refine lv_iload_n hx hb dX0_bindAll_4 rfl (lv_at hl 2 rfl) ?_
      refine lv_aload_n hx hb dX0_bindAll_5 rfl (lv_at hl 0 rfl) ?_
      refine gX0 hx hb hts hown hK hP 0 rfl 2 (by decide) q39 rfl dX0_bindAll_6 ?_
      refine nv_icmp_ge (tgt := 144) hx hb (by omega) (by omega) dX0_bindAll_9 (by decide) (fun c9 => ?_) (fun c9 => ?_)
      · refine lv_iload_n hx hb dX0_bindAll_144 rfl (lv_at hl 1 rfl) ?_
        refine lv_iconst (v := nI 4) hx hb dX0_bindAll_145 (by decide) ?_
        refine nv_icmp_gt (tgt := 153) hx hb (by omega) (by omega) dX0_bindAll_146 (by decide) (fun c146 => ?_) (fun c146 => ?_)
        · refine lv_iconst (v := nI 0) hx hb dX0_bindAll_153 (by decide) ?_
          have hkn : k = n := by omega
          rw [hkn] at I1 I2 c146
          exact hret _ _ _ _ _ (cwX ad di db st mk n tk ps so (mj_deep tk te k) te sc bd1 de1 sv me mo dg) rfl dX0_bindAll_154 (⟨_, _, _, rfl, I4, I3, Or.inr ⟨rfl, no_nb c146⟩⟩) hP hD hS
        · refine lv_iconst (v := nI 1) hx hb dX0_bindAll_149 (by decide) ?_
          refine lv_goto (tgt := 154) hx hb dX0_bindAll_150 (by decide) ?_
          have hkn : k = n := by omega
          rw [hkn] at I1 I2 c146
          exact hret _ _ _ _ _ (cwX ad di db st mk n tk ps so (mj_deep tk te k) te sc bd1 de1 sv me mo dg) rfl dX0_bindAll_154 (⟨_, _, _, rfl, I4, I3, Or.inl ⟨rfl, c146, I2, I1, by rw [hkn]⟩⟩) hP hD hS
      · refine lv_aload_n hx hb dX0_bindAll_12 rfl (lv_at hl 0 rfl) ?_
        refine gX0 hx hb hts hown hK hP 0 rfl 10 (by decide) q47 rfl dX0_bindAll_13 ?_
        refine lv_iload_n hx hb dX0_bindAll_16 rfl (lv_at hl 2 rfl) ?_
        refine lv_iconst (v := nI 0) hx hb dX0_bindAll_17 (by decide) ?_
        refine nv_bast hx hb hK hP hD hS 7 1 rfl rfl (by omega) (by decide) (by omega) dX0_bindAll_18 (fun H locs hP hD hS => ?_)
        have hP : va_P D vwCl (cwX ad di db st mk n tk ps so (mj_deep tk te k) te sc bd1 (upN de1 k 0) sv me mo dg) H := hP
        have hD : va_D A (cwX ad di db st mk n tk ps so (mj_deep tk te k) te sc bd1 (upN de1 k 0) sv me mo dg) := hD
        refine lv_aload_n hx hb dX0_bindAll_19 rfl (lv_at hl 0 rfl) ?_
        refine gX0 hx hb hts hown hK hP 0 rfl 9 (by decide) q46 rfl dX0_bindAll_20 ?_
        refine lv_iload_n hx hb dX0_bindAll_23 rfl (lv_at hl 2 rfl) ?_
        refine lv_iconst (v := nP 0) hx hb dX0_bindAll_24 (by decide) ?_
        refine nw_bast hx hb hK hP hD hS 6 1 rfl rfl (by omega) (by decide) (by omega) dX0_bindAll_25 (fun H locs hP hD hS => ?_)
        have hP : va_P D vwCl (cwX ad di db st mk n tk ps so (mj_deep tk te k) te sc (upN bd1 k 0) (upN de1 k 0) sv me mo dg) H := hP
        have hD : va_D A (cwX ad di db st mk n tk ps so (mj_deep tk te k) te sc (upN bd1 k 0) (upN de1 k 0) sv me mo dg) := hD
        refine lv_iconst (v := nI 0) hx hb dX0_bindAll_26 (by decide) ?_
        refine lv_istore_n (lv' := [(3, .int (nI 0)), (0, .ref (ad 0)), (1, .int (nI (mj_nb tk k))), (2, .int (nI k))]) hx hb dX0_bindAll_27 rfl hl (by decide) rfl (fun ls hl => ?_)
        have LI : ∀ (d2 b : Nat) , k < b + d2 → b ≤ k → ∀ (H : Heap) (locs : List Loc), va_P D vwCl (cwX ad di db st mk n tk ps so (mj_deep tk te k) te sc (upN bd1 k 0) (upN de1 k (mj_dp tk te k b)) sv me mo dg) H → va_D A (cwX ad di db st mk n tk ps so (mj_deep tk te k) te sc (upN bd1 k 0) (upN de1 k (mj_dp tk te k b)) sv me mo dg) → va_S A s.heap H locs → ∀ ls : Array Slot, lv_has ls 4 [(0, .ref (ad 0)), (1, .int (nI (mj_nb tk k))), (2, .int (nI k)), (3, .int (nI b))] → W p l e ({ frames := 1, cells := 0, slots := 0, locals := 24 }) s m args below meth c H locs 0 0 Q (F0 m 28 ls []) := by
          intro d2
          induction d2 with
          | zero =>
            intro b  h1_ h2_
            exfalso; omega
          | succ d2 ihLI =>
            intro b  h1_ h2_  H locs hP hD hS ls hl
            have hdl := mj_dp_le tk te k b
            refine lv_iload_n hx hb dX0_bindAll_28 rfl (lv_at hl 3 rfl) ?_
            refine lv_iload_n hx hb dX0_bindAll_29 rfl (lv_at hl 2 rfl) ?_
            refine nv_icmp_ge (tgt := 73) hx hb (by omega) (by omega) dX0_bindAll_30 (by decide) (fun c30 => ?_) (fun c30 => ?_)
            · have hbk : b = k := by omega
              rw [hbk, mj_dp_all] at hP hD
              refine lv_aload_n hx hb dX0_bindAll_73 rfl (lv_at hl 0 rfl) ?_
              refine gX0 hx hb hts hown hK hP 0 rfl 3 (by decide) q40 rfl dX0_bindAll_74 ?_
              refine lv_iload_n hx hb dX0_bindAll_77 rfl (lv_at hl 2 rfl) ?_
              refine nv_bald hx hb hK hP 3 1 rfl rfl (by omega) (by decide) dX0_bindAll_78 ?_
              have hld78 := htk k
              refine lv_istore_n (lv' := [(3, .int (nI (tk k))), (0, .ref (ad 0)), (1, .int (nI (mj_nb tk k))), (2, .int (nI k))]) hx hb dX0_bindAll_79 rfl hl (by decide) rfl (fun ls hl => ?_)
              refine lv_aload_n hx hb dX0_bindAll_80 rfl (lv_at hl 1 rfl) ?_
              refine lv_iload_n hx hb dX0_bindAll_81 rfl (lv_at hl 0 rfl) ?_
              refine pcall_i (As := [.int (nI (tk k))]) (rest := []) (ci := 0) (q0 := 0) ⟨hx, hb, hml, hown, hts⟩ (metX0_binds l (ad 0) (tk k) (by omega)) (cwV 1 hts (lw_V q129 q131 qs5 q27 q132) rfl rfl rfl (by decide +kernel) ⟨Nat.le_of_ble_eq_true rfl, Nat.le_of_ble_eq_true rfl⟩) rfl rfl hK hP rfl hl.1 rfl (Nat.le_of_ble_eq_true rfl) dX0_bindAll_82 ⟨Nat.zero_le _, Nat.zero_le _⟩ (fun r hr => ?_)
              subst hr
              have hbl := bi_le (tk k)
              refine nv_if_eq (tgt := 118) hx hb (by omega) dX0_bindAll_85 (by decide) (fun c85 => ?_) (fun c85 => ?_)
              · have hnb := bi_zero c85
                rw [deep_n (E := te) hnb] at hP hD
                rw [nb_0 hnb] at hl
                refine lv_iload_n hx hb dX0_bindAll_118 rfl (lv_at hl 0 rfl) ?_
                refine lv_bipush (v := nI 16) hx hb dX0_bindAll_119 (by decide) ?_
                refine nv_icmp_lt (tgt := 138) hx hb (by omega) (by omega) dX0_bindAll_121 (by decide) (fun c121 => ?_) (fun c121 => ?_)
                · refine nv_iinc (k := 3) (lv' := [(2, .int (nI (k + 1))), (3, .int (nI (tk k))), (0, .ref (ad 0)), (1, .int (nI (mj_nb tk (k + 1))))]) (v := (nI (k + 1))) hx hb dX0_bindAll_138 hl rfl (nI_inc _) (by decide) rfl (fun ls hl => ?_)
                  refine lv_goto (tgt := 4) hx hb dX0_bindAll_141 (by decide) ?_
                  exact ihL (k + 1) (upN de1 k (mj_dep tk te k)) (upN bd1 k 0) (by omega) (by omega) (dA_step I1) (bA_other I2 (by omega)) (upN_lt I3 (by omega)) (upN_lt I4 (by omega)) _ _ hP hD hS ls (lv_sub hl [2, 3, 0] rfl)
                · refine lv_aload_n hx hb dX0_bindAll_124 rfl (lv_at hl 1 rfl) ?_
                  refine lv_iload_n hx hb dX0_bindAll_125 rfl (lv_at hl 3 rfl) ?_
                  refine lv_iload_n hx hb dX0_bindAll_126 rfl (lv_at hl 0 rfl) ?_
                  refine lv_bipush (v := nI 16) hx hb dX0_bindAll_127 (by decide) ?_
                  refine nv_isub hx hb (by omega) dX0_bindAll_129 ?_
                  refine xcall_i (As := [.int (nI k), .int (nI ((tk k) - 16))]) (rest := []) (ci := 0) ⟨hx, hb, hml, hown, hts⟩ (metX0_findBinder l D ad di db st mk n tk ps so (mj_deep tk te (k + 1)) te sc bd1 (upN de1 k (mj_dep tk te k)) sv me mo dg k (by omega) (by omega) htk hte) (cwV 2 hts (lw_V q133 q135 qs6 q27 q136) rfl rfl rfl (by decide +kernel) ⟨Nat.le_of_ble_eq_true rfl, Nat.le_of_ble_eq_true rfl⟩) rfl rfl hK hP hD hS hA rfl hl.1 rfl (Nat.le_of_ble_eq_true rfl) dX0_bindAll_130 ⟨Nat.zero_le _, Nat.zero_le _⟩ (fun r u H locs hw hP hD hS => ?_)
                  obtain ⟨v, hv, rfl, hF⟩ := hw
                  rcases hF with ⟨rfl, hv0, hB⟩ | ⟨rfl, rfl, hB⟩
                  · refine nv_if_ne (tgt := 138) hx hb (by omega) dX0_bindAll_133 (by decide) (fun c133 => ?_) (fun q => absurd q (by omega))
                    refine nv_iinc (k := 3) (lv' := [(2, .int (nI (k + 1))), (3, .int (nI (tk k))), (0, .ref (ad 0)), (1, .int (nI (mj_nb tk (k + 1))))]) (v := (nI (k + 1))) hx hb dX0_bindAll_138 hl rfl (nI_inc _) (by decide) rfl (fun ls hl => ?_)
                    refine lv_goto (tgt := 4) hx hb dX0_bindAll_141 (by decide) ?_
                    exact ihL (k + 1) (upN de1 k (mj_dep tk te k)) (upN bd1 k v) (by omega) (by omega) (dA_step I1) (bA_name I2 hv0 hB) (upN_lt I3 (by omega)) (upN_lt I4 (by omega)) _ _ hP hD hS ls (lv_sub hl [2, 3, 0] rfl)
                  · refine nv_if_ne (tgt := 138) hx hb (by omega) dX0_bindAll_133 (by decide) (fun q => absurd q (by omega)) (fun c133 => ?_)
                    refine lv_iconst (v := nI 0) hx hb dX0_bindAll_136 (by decide) ?_
                    exact hret _ _ _ _ _ (cwX ad di db st mk n tk ps so (mj_deep tk te (k + 1)) te sc (upN bd1 k 0) (upN de1 k (mj_dep tk te k)) sv me mo dg) rfl dX0_bindAll_137 (⟨_, _, _, rfl, upN_lt I4 (by omega), upN_lt I3 (by omega), Or.inr ⟨rfl, no_binder hE (show k < n by omega) (by omega) hB⟩⟩) hP hD hS
              · have hbb := bi_pos c85
                refine nv_iinc (k := 2) (lv' := [(1, .int (nI ((mj_nb tk k) + 1))), (3, .int (nI (tk k))), (0, .ref (ad 0)), (2, .int (nI k))]) (v := (nI ((mj_nb tk k) + 1))) hx hb dX0_bindAll_88 hl rfl (nI_inc _) (by decide) rfl (fun ls hl => ?_)
                refine lv_aload_n hx hb dX0_bindAll_91 rfl (lv_at hl 2 rfl) ?_
                refine gX0 hx hb hts hown hK hP 0 rfl 10 (by decide) q47 rfl dX0_bindAll_92 ?_
                refine lv_iload_n hx hb dX0_bindAll_95 rfl (lv_at hl 3 rfl) ?_
                refine nv_bald hx hb hK hP 7 1 rfl rfl (by omega) (by decide) dX0_bindAll_96 ?_
                rw [upN_s]
                refine lv_iconst (v := nI 1) hx hb dX0_bindAll_97 (by decide) ?_
                refine nv_iadd hx hb dX0_bindAll_98 ?_
                refine lv_aload_n hx hb dX0_bindAll_99 rfl (lv_at hl 2 rfl) ?_
                refine gX0 hx hb hts hown hK hP 0 rfl 6 (by decide) q43 rfl dX0_bindAll_100 ?_
                refine nv_icmp_le (tgt := 118) hx hb (by omega) (by omega) dX0_bindAll_103 (by decide) (fun c103 => ?_) (fun c103 => ?_)
                · rw [deep_b0 hbb c103] at hP hD
                  rw [nb_1 hbb] at hl
                  refine lv_iload_n hx hb dX0_bindAll_118 rfl (lv_at hl 1 rfl) ?_
                  refine lv_bipush (v := nI 16) hx hb dX0_bindAll_119 (by decide) ?_
                  refine nv_icmp_lt (tgt := 138) hx hb (by omega) (by omega) dX0_bindAll_121 (by decide) (fun c121 => ?_) (fun c121 => ?_)
                  · refine nv_iinc (k := 3) (lv' := [(2, .int (nI (k + 1))), (1, .int (nI (mj_nb tk (k + 1)))), (3, .int (nI (tk k))), (0, .ref (ad 0))]) (v := (nI (k + 1))) hx hb dX0_bindAll_138 hl rfl (nI_inc _) (by decide) rfl (fun ls hl => ?_)
                    refine lv_goto (tgt := 4) hx hb dX0_bindAll_141 (by decide) ?_
                    exact ihL (k + 1) (upN de1 k (mj_dep tk te k)) (upN bd1 k 0) (by omega) (by omega) (dA_step I1) (bA_other I2 (by omega)) (upN_lt I3 (by omega)) (upN_lt I4 (by omega)) _ _ hP hD hS ls (lv_sub hl [3, 1, 0] rfl)
                  · refine lv_aload_n hx hb dX0_bindAll_124 rfl (lv_at hl 2 rfl) ?_
                    refine lv_iload_n hx hb dX0_bindAll_125 rfl (lv_at hl 3 rfl) ?_
                    refine lv_iload_n hx hb dX0_bindAll_126 rfl (lv_at hl 1 rfl) ?_
                    refine lv_bipush (v := nI 16) hx hb dX0_bindAll_127 (by decide) ?_
                    refine nv_isub hx hb (by omega) dX0_bindAll_129 ?_
                    refine xcall_i (As := [.int (nI k), .int (nI ((tk k) - 16))]) (rest := []) (ci := 0) ⟨hx, hb, hml, hown, hts⟩ (metX0_findBinder l D ad di db st mk n tk ps so (mj_deep tk te (k + 1)) te sc bd1 (upN de1 k (mj_dep tk te k)) sv me mo dg k (by omega) (by omega) htk hte) (cwV 2 hts (lw_V q133 q135 qs6 q27 q136) rfl rfl rfl (by decide +kernel) ⟨Nat.le_of_ble_eq_true rfl, Nat.le_of_ble_eq_true rfl⟩) rfl rfl hK hP hD hS hA rfl hl.1 rfl (Nat.le_of_ble_eq_true rfl) dX0_bindAll_130 ⟨Nat.zero_le _, Nat.zero_le _⟩ (fun r u H locs hw hP hD hS => ?_)
                    obtain ⟨v, hv, rfl, hF⟩ := hw
                    rcases hF with ⟨rfl, hv0, hB⟩ | ⟨rfl, rfl, hB⟩
                    · refine nv_if_ne (tgt := 138) hx hb (by omega) dX0_bindAll_133 (by decide) (fun c133 => ?_) (fun q => absurd q (by omega))
                      refine nv_iinc (k := 3) (lv' := [(2, .int (nI (k + 1))), (1, .int (nI (mj_nb tk (k + 1)))), (3, .int (nI (tk k))), (0, .ref (ad 0))]) (v := (nI (k + 1))) hx hb dX0_bindAll_138 hl rfl (nI_inc _) (by decide) rfl (fun ls hl => ?_)
                      refine lv_goto (tgt := 4) hx hb dX0_bindAll_141 (by decide) ?_
                      exact ihL (k + 1) (upN de1 k (mj_dep tk te k)) (upN bd1 k v) (by omega) (by omega) (dA_step I1) (bA_name I2 hv0 hB) (upN_lt I3 (by omega)) (upN_lt I4 (by omega)) _ _ hP hD hS ls (lv_sub hl [3, 1, 0] rfl)
                    · refine nv_if_ne (tgt := 138) hx hb (by omega) dX0_bindAll_133 (by decide) (fun q => absurd q (by omega)) (fun c133 => ?_)
                      refine lv_iconst (v := nI 0) hx hb dX0_bindAll_136 (by decide) ?_
                      exact hret _ _ _ _ _ (cwX ad di db st mk n tk ps so (mj_deep tk te (k + 1)) te sc (upN bd1 k 0) (upN de1 k (mj_dep tk te k)) sv me mo dg) rfl dX0_bindAll_137 (⟨_, _, _, rfl, upN_lt I4 (by omega), upN_lt I3 (by omega), Or.inr ⟨rfl, no_binder hE (show k < n by omega) (by omega) hB⟩⟩) hP hD hS
                · refine lv_aload_n hx hb dX0_bindAll_106 rfl (lv_at hl 2 rfl) ?_
                  refine lv_aload_n hx hb dX0_bindAll_107 rfl (lv_at hl 2 rfl) ?_
                  refine gX0 hx hb hts hown hK hP 0 rfl 10 (by decide) q47 rfl dX0_bindAll_108 ?_
                  refine lv_iload_n hx hb dX0_bindAll_111 rfl (lv_at hl 3 rfl) ?_
                  refine nv_bald hx hb hK hP 7 1 rfl rfl (by omega) (by decide) dX0_bindAll_112 ?_
                  rw [upN_s]
                  refine lv_iconst (v := nI 1) hx hb dX0_bindAll_113 (by decide) ?_
                  refine nv_iadd hx hb dX0_bindAll_114 ?_
                  refine pX0 hx hb hts hown hK hP hD hS 0 rfl 6 (by decide) q43 rfl rfl rfl (Nat.le_of_ble_eq_true rfl) dX0_bindAll_115 (fun H locs hP hD hS => ?_)
                  have hP : va_P D vwCl (cwX ad di db st mk n tk ps so ((mj_dep tk te k) + 1) te sc (upN bd1 k 0) (upN de1 k (mj_dep tk te k)) sv me mo dg) H := hP
                  have hD : va_D A (cwX ad di db st mk n tk ps so ((mj_dep tk te k) + 1) te sc (upN bd1 k 0) (upN de1 k (mj_dep tk te k)) sv me mo dg) := hD
                  rw [deep_b1 hbb c103] at hP hD
                  rw [nb_1 hbb] at hl
                  refine lv_iload_n hx hb dX0_bindAll_118 rfl (lv_at hl 1 rfl) ?_
                  refine lv_bipush (v := nI 16) hx hb dX0_bindAll_119 (by decide) ?_
                  refine nv_icmp_lt (tgt := 138) hx hb (by omega) (by omega) dX0_bindAll_121 (by decide) (fun c121 => ?_) (fun c121 => ?_)
                  · refine nv_iinc (k := 3) (lv' := [(2, .int (nI (k + 1))), (1, .int (nI (mj_nb tk (k + 1)))), (3, .int (nI (tk k))), (0, .ref (ad 0))]) (v := (nI (k + 1))) hx hb dX0_bindAll_138 hl rfl (nI_inc _) (by decide) rfl (fun ls hl => ?_)
                    refine lv_goto (tgt := 4) hx hb dX0_bindAll_141 (by decide) ?_
                    exact ihL (k + 1) (upN de1 k (mj_dep tk te k)) (upN bd1 k 0) (by omega) (by omega) (dA_step I1) (bA_other I2 (by omega)) (upN_lt I3 (by omega)) (upN_lt I4 (by omega)) _ _ hP hD hS ls (lv_sub hl [3, 1, 0] rfl)
                  · refine lv_aload_n hx hb dX0_bindAll_124 rfl (lv_at hl 2 rfl) ?_
                    refine lv_iload_n hx hb dX0_bindAll_125 rfl (lv_at hl 3 rfl) ?_
                    refine lv_iload_n hx hb dX0_bindAll_126 rfl (lv_at hl 1 rfl) ?_
                    refine lv_bipush (v := nI 16) hx hb dX0_bindAll_127 (by decide) ?_
                    refine nv_isub hx hb (by omega) dX0_bindAll_129 ?_
                    refine xcall_i (As := [.int (nI k), .int (nI ((tk k) - 16))]) (rest := []) (ci := 0) ⟨hx, hb, hml, hown, hts⟩ (metX0_findBinder l D ad di db st mk n tk ps so (mj_deep tk te (k + 1)) te sc bd1 (upN de1 k (mj_dep tk te k)) sv me mo dg k (by omega) (by omega) htk hte) (cwV 2 hts (lw_V q133 q135 qs6 q27 q136) rfl rfl rfl (by decide +kernel) ⟨Nat.le_of_ble_eq_true rfl, Nat.le_of_ble_eq_true rfl⟩) rfl rfl hK hP hD hS hA rfl hl.1 rfl (Nat.le_of_ble_eq_true rfl) dX0_bindAll_130 ⟨Nat.zero_le _, Nat.zero_le _⟩ (fun r u H locs hw hP hD hS => ?_)
                    obtain ⟨v, hv, rfl, hF⟩ := hw
                    rcases hF with ⟨rfl, hv0, hB⟩ | ⟨rfl, rfl, hB⟩
                    · refine nv_if_ne (tgt := 138) hx hb (by omega) dX0_bindAll_133 (by decide) (fun c133 => ?_) (fun q => absurd q (by omega))
                      refine nv_iinc (k := 3) (lv' := [(2, .int (nI (k + 1))), (1, .int (nI (mj_nb tk (k + 1)))), (3, .int (nI (tk k))), (0, .ref (ad 0))]) (v := (nI (k + 1))) hx hb dX0_bindAll_138 hl rfl (nI_inc _) (by decide) rfl (fun ls hl => ?_)
                      refine lv_goto (tgt := 4) hx hb dX0_bindAll_141 (by decide) ?_
                      exact ihL (k + 1) (upN de1 k (mj_dep tk te k)) (upN bd1 k v) (by omega) (by omega) (dA_step I1) (bA_name I2 hv0 hB) (upN_lt I3 (by omega)) (upN_lt I4 (by omega)) _ _ hP hD hS ls (lv_sub hl [3, 1, 0] rfl)
                    · refine nv_if_ne (tgt := 138) hx hb (by omega) dX0_bindAll_133 (by decide) (fun q => absurd q (by omega)) (fun c133 => ?_)
                      refine lv_iconst (v := nI 0) hx hb dX0_bindAll_136 (by decide) ?_
                      exact hret _ _ _ _ _ (cwX ad di db st mk n tk ps so (mj_deep tk te (k + 1)) te sc (upN bd1 k 0) (upN de1 k (mj_dep tk te k)) sv me mo dg) rfl dX0_bindAll_137 (⟨_, _, _, rfl, upN_lt I4 (by omega), upN_lt I3 (by omega), Or.inr ⟨rfl, no_binder hE (show k < n by omega) (by omega) hB⟩⟩) hP hD hS
            · refine lv_aload_n hx hb dX0_bindAll_33 rfl (lv_at hl 0 rfl) ?_
              refine lv_aload_n hx hb dX0_bindAll_34 rfl (lv_at hl 0 rfl) ?_
              refine gX0 hx hb hts hown hK hP 0 rfl 3 (by decide) q40 rfl dX0_bindAll_35 ?_
              refine lv_iload_n hx hb dX0_bindAll_38 rfl (lv_at hl 3 rfl) ?_
              refine nv_bald hx hb hK hP 3 1 rfl rfl (by omega) (by decide) dX0_bindAll_39 ?_
              have hld39 := htk b
              refine pcall_i (As := [.int (nI (tk b))]) (rest := []) (ci := 0) (q0 := 0) ⟨hx, hb, hml, hown, hts⟩ (metX0_binds l (ad 0) (tk b) (by omega)) (cwV 1 hts (lw_V q129 q131 qs5 q27 q132) rfl rfl rfl (by decide +kernel) ⟨Nat.le_of_ble_eq_true rfl, Nat.le_of_ble_eq_true rfl⟩) rfl rfl hK hP rfl hl.1 rfl (Nat.le_of_ble_eq_true rfl) dX0_bindAll_40 ⟨Nat.zero_le _, Nat.zero_le _⟩ (fun r hr => ?_)
              subst hr
              have hbl := bi_le (tk b)
              refine nv_if_eq (tgt := 67) hx hb (by omega) dX0_bindAll_43 (by decide) (fun c43 => ?_) (fun c43 => ?_)
              · rw [dp_0 (b := b) (k := k) (by first | exact Or.inl (bi_zero c43) | exact Or.inr c53)] at hP hD
                refine nv_iinc (k := 3) (lv' := [(3, .int (nI (b + 1))), (0, .ref (ad 0)), (1, .int (nI (mj_nb tk k))), (2, .int (nI k))]) (v := (nI (b + 1))) hx hb dX0_bindAll_67 hl rfl (nI_inc _) (by decide) rfl (fun ls hl => ?_)
                refine lv_goto (tgt := 28) hx hb dX0_bindAll_70 (by decide) ?_
                exact ihLI (b + 1) (by omega) (by omega) _ _ hP hD hS ls (lv_sub hl [1, 2, 3, 0] rfl)
              · have hbb := bi_pos c43
                refine lv_aload_n hx hb dX0_bindAll_46 rfl (lv_at hl 0 rfl) ?_
                refine gX0 hx hb hts hown hK hP 0 rfl 7 (by decide) q44 rfl dX0_bindAll_47 ?_
                refine lv_iload_n hx hb dX0_bindAll_50 rfl (lv_at hl 3 rfl) ?_
                refine nv_bald hx hb hK hP 4 1 rfl rfl (by omega) (by decide) dX0_bindAll_51 ?_
                have hld51 := hte b
                refine lv_iload_n hx hb dX0_bindAll_52 rfl (lv_at hl 2 rfl) ?_
                refine nv_icmp_le (tgt := 67) hx hb (by omega) (by omega) dX0_bindAll_53 (by decide) (fun c53 => ?_) (fun c53 => ?_)
                · rw [dp_0 (b := b) (k := k) (by first | exact Or.inl (bi_zero c43) | exact Or.inr c53)] at hP hD
                  refine nv_iinc (k := 3) (lv' := [(3, .int (nI (b + 1))), (0, .ref (ad 0)), (1, .int (nI (mj_nb tk k))), (2, .int (nI k))]) (v := (nI (b + 1))) hx hb dX0_bindAll_67 hl rfl (nI_inc _) (by decide) rfl (fun ls hl => ?_)
                  refine lv_goto (tgt := 28) hx hb dX0_bindAll_70 (by decide) ?_
                  exact ihLI (b + 1) (by omega) (by omega) _ _ hP hD hS ls (lv_sub hl [1, 2, 3, 0] rfl)
                · refine lv_aload_n hx hb dX0_bindAll_56 rfl (lv_at hl 0 rfl) ?_
                  refine gX0 hx hb hts hown hK hP 0 rfl 10 (by decide) q47 rfl dX0_bindAll_57 ?_
                  refine lv_iload_n hx hb dX0_bindAll_60 rfl (lv_at hl 2 rfl) ?_
                  refine lv_dup2_11 hx hb dX0_bindAll_61 rfl rfl ?_
                  refine nv_bald hx hb hK hP 7 1 rfl rfl (by omega) (by decide) dX0_bindAll_62 ?_
                  rw [upN_s]
                  refine lv_iconst (v := nI 1) hx hb dX0_bindAll_63 (by decide) ?_
                  refine nv_iadd hx hb dX0_bindAll_64 ?_
                  refine nv_i2b hx hb (by omega) dX0_bindAll_65 ?_
                  refine nv_bast hx hb hK hP hD hS 7 1 rfl rfl (by omega) (by decide) (by omega) dX0_bindAll_66 (fun H locs hP hD hS => ?_)
                  have hP : va_P D vwCl (cwX ad di db st mk n tk ps so (mj_deep tk te k) te sc (upN bd1 k 0) (upN (upN de1 k (mj_dp tk te k b)) k ((mj_dp tk te k b) + 1)) sv me mo dg) H := hP
                  have hD : va_D A (cwX ad di db st mk n tk ps so (mj_deep tk te k) te sc (upN bd1 k 0) (upN (upN de1 k (mj_dp tk te k b)) k ((mj_dp tk te k b) + 1)) sv me mo dg) := hD
                  rw [upN_upN, dp_1 hbb c53] at hP hD
                  refine nv_iinc (k := 3) (lv' := [(3, .int (nI (b + 1))), (0, .ref (ad 0)), (1, .int (nI (mj_nb tk k))), (2, .int (nI k))]) (v := (nI (b + 1))) hx hb dX0_bindAll_67 hl rfl (nI_inc _) (by decide) rfl (fun ls hl => ?_)
                  refine lv_goto (tgt := 28) hx hb dX0_bindAll_70 (by decide) ?_
                  exact ihLI (b + 1) (by omega) (by omega) _ _ hP hD hS ls (lv_sub hl [1, 2, 3, 0] rfl)
        exact LI (k + 1) 0 (by omega) (by omega) _ _ hP hD hS ls (lv_sub hl [1, 2, 3, 0] rfl)
  exact L (n + 1) 0 de bd (by omega) (by omega) (fun j h => absurd h (Nat.not_lt_zero j)) (fun j h => absurd h (Nat.not_lt_zero j)) hde hbd _ _ hP hD hS ls (lv_sub hl [2, 1, 0] rfl)
set_option maxHeartbeats 4000000 in
set_option maxRecDepth 100000 in
/-- parse -/
theorem metX0_parse (l : Launch) (D : va_G) (ad : Nat → Nat) (di db : ClassId) (st mk : Nat → Nat) (n : Nat) (tk : Nat → Nat) (ps so dp : Nat) (te sc bd de : Nat → Nat) (sv : Nat) (me mo dg : Nat → Nat)  (hn : n ≤ 12) (htk : ∀ j, tk j ≤ 18) (hBX : BX te bd de) (hc : ps = 0 ∨ (ps = 1 ∧ PX tk n so dp te sc bd de)) : xMv l yX0_parse cX0_parse 5 ({ frames := 2, cells := 0, slots := 0, locals := 47 }) D (tyX di db) (cwX ad di db st mk n tk ps so dp te sc bd de sv me mo dg) [.ref (ad 0)] (fun u => ∃ so1 dp1 te1 sc1 bd1 de1, u = cwX ad di db st mk n tk 1 so1 dp1 te1 sc1 bd1 de1 sv me mo dg ∧ BX te1 bd1 de1 ∧ PX tk n so1 dp1 te1 sc1 bd1 de1) := by
  refine xMv_intro (by decide) (Nat.le_of_ble_eq_true rfl) ?_
  intro p e s m args below meth c A Q hx hb hml hown hts hA hK hP hD hS hret ls hl
  have hl : lv_has ls 5 [(0, .ref (ad 0))] := hl
  rcases hc with rfl | ⟨rfl, hPX⟩
  · refine lv_aload_n hx hb dX0_parse_0 rfl (lv_at hl 0 rfl) ?_
    refine gX0 hx hb hts hown hK hP 0 rfl 4 (by decide) q41 rfl dX0_parse_1 ?_
    refine nv_if_eq (tgt := 8) hx hb (by omega) dX0_parse_4 (by decide) (fun c4 => ?_) (fun q => absurd q (by omega))
    refine lv_aload_n hx hb dX0_parse_8 rfl (lv_at hl 0 rfl) ?_
    refine lv_iconst (v := nI 1) hx hb dX0_parse_9 (by decide) ?_
    refine pX0 hx hb hts hown hK hP hD hS 0 rfl 4 (by decide) q41 rfl rfl rfl (Nat.le_of_ble_eq_true rfl) dX0_parse_10 (fun H locs hP hD hS => ?_)
    have hP : va_P D vwCl (cwX ad di db st mk n tk 1 so dp te sc bd de sv me mo dg) H := hP
    have hD : va_D A (cwX ad di db st mk n tk 1 so dp te sc bd de sv me mo dg) := hD
    refine lv_aload_n hx hb dX0_parse_13 rfl (lv_at hl 0 rfl) ?_
    refine lv_iconst (v := nI 0) hx hb dX0_parse_14 (by decide) ?_
    refine pX0 hx hb hts hown hK hP hD hS 0 rfl 5 (by decide) q42 rfl rfl rfl (Nat.le_of_ble_eq_true rfl) dX0_parse_15 (fun H locs hP hD hS => ?_)
    have hP : va_P D vwCl (cwX ad di db st mk n tk 1 0 dp te sc bd de sv me mo dg) H := hP
    have hD : va_D A (cwX ad di db st mk n tk 1 0 dp te sc bd de sv me mo dg) := hD
    refine lv_aload_n hx hb dX0_parse_18 rfl (lv_at hl 0 rfl) ?_
    refine lv_iconst (v := nI 0) hx hb dX0_parse_19 (by decide) ?_
    refine pX0 hx hb hts hown hK hP hD hS 0 rfl 6 (by decide) q43 rfl rfl rfl (Nat.le_of_ble_eq_true rfl) dX0_parse_20 (fun H locs hP hD hS => ?_)
    have hP : va_P D vwCl (cwX ad di db st mk n tk 1 0 0 te sc bd de sv me mo dg) H := hP
    have hD : va_D A (cwX ad di db st mk n tk 1 0 0 te sc bd de sv me mo dg) := hD
    refine lv_aload_n hx hb dX0_parse_23 rfl (lv_at hl 0 rfl) ?_
    refine gX0 hx hb hts hown hK hP 0 rfl 2 (by decide) q39 rfl dX0_parse_24 ?_
    refine lv_iconst (v := nI 1) hx hb dX0_parse_27 (by decide) ?_
    refine nv_isub1 hx hb dX0_parse_28 ?_
    refine lv_istore_n (lv' := [(1, .int (nP n)), (0, .ref (ad 0))]) hx hb dX0_parse_29 rfl hl (by decide) rfl (fun ls hl => ?_)
    have L : ∀ (j : Nat) (te1 sc1 : Nat → Nat), j ≤ n → (∀ i, j ≤ i → i < n → mj_EndAt tk n te1 i) → (∀ i, j ≤ i → i < n → mj_ar (tk i) = 2 → sc1 i = te1 (i + 1)) → (∀ i, te1 i < 128) → ∀ (H : Heap) (locs : List Loc), va_P D vwCl (cwX ad di db st mk n tk 1 0 0 te1 sc1 bd de sv me mo dg) H → va_D A (cwX ad di db st mk n tk 1 0 0 te1 sc1 bd de sv me mo dg) → va_S A s.heap H locs → ∀ ls : Array Slot, lv_has ls 5 [(0, .ref (ad 0)), (1, .int (nP j))] → W p l e ({ frames := 2, cells := 0, slots := 0, locals := 47 }) s m args below meth c H locs 0 0 Q (F0 m 30 ls []) := by
      intro j
      induction j with
      | zero =>
        intro te1 sc1 hj I1 I2 I3 H locs hP hD hS ls hl
        have hE : mj_EndOK tk n te1 := fun i hi => I1 i (Nat.zero_le i) hi
        refine lv_iload_n hx hb dX0_parse_30 rfl (lv_at hl 1 rfl) ?_
        refine nv_if_ltP (tgt := 102) hx hb dX0_parse_31 (by decide) ?_
        refine lv_aload_n hx hb dX0_parse_102 rfl (lv_at hl 0 rfl) ?_
        refine gX0 hx hb hts hown hK hP 0 rfl 2 (by decide) q39 rfl dX0_parse_103 ?_
        refine nv_if_eq (tgt := 122) hx hb (by omega) dX0_parse_106 (by decide) (fun c106 => ?_) (fun c106 => ?_)
        · exact hret _ _ _ _ (cwX ad di db st mk n tk 1 0 0 te1 sc1 bd de sv me mo dg) dX0_parse_122 (⟨0, 0, te1, sc1, bd, de, rfl, ⟨I3, hBX.2.1, hBX.2.2⟩, Or.inr ⟨rfl, by rw [c106]; exact no_empty⟩⟩) hP hD hS
        · refine lv_aload_n hx hb dX0_parse_109 rfl (lv_at hl 0 rfl) ?_
          refine gX0 hx hb hts hown hK hP 0 rfl 7 (by decide) q44 rfl dX0_parse_110 ?_
          refine lv_iconst (v := nI 0) hx hb dX0_parse_113 (by decide) ?_
          refine nv_bald hx hb hK hP 4 1 rfl rfl (by omega) (by decide) dX0_parse_114 ?_
          have hld114 := I3 0
          refine lv_aload_n hx hb dX0_parse_115 rfl (lv_at hl 0 rfl) ?_
          refine gX0 hx hb hts hown hK hP 0 rfl 2 (by decide) q39 rfl dX0_parse_116 ?_
          refine nv_icmp_eq (tgt := 123) hx hb (by omega) (by omega) dX0_parse_119 (by decide) (fun c119 => ?_) (fun c119 => ?_)
          · refine lv_aload_n hx hb dX0_parse_123 rfl (lv_at hl 0 rfl) ?_
            refine lv_aload_n hx hb dX0_parse_124 rfl (lv_at hl 0 rfl) ?_
            refine xcall_i (As := []) (rest := [.ref (ad 0)]) (ci := 0) ⟨hx, hb, hml, hown, hts⟩ (metX0_bindAll l D ad di db st mk n tk 1 0 0 te1 sc1 bd de sv me mo dg hn htk I3 hBX.2.1 hBX.2.2 hE) (cwV 0 hts (lw_V q125 q127 qs4 q27 q128) rfl rfl rfl (by decide +kernel) ⟨Nat.le_of_ble_eq_true rfl, Nat.le_of_ble_eq_true rfl⟩) rfl rfl hK hP hD hS hA rfl hl.1 rfl (Nat.le_of_ble_eq_true rfl) dX0_parse_125 ⟨Nat.zero_le _, Nat.zero_le _⟩ (fun r u H locs hw hP hD hS => ?_)
            obtain ⟨dp1, bd1, de1, rfl, hb1, hd1, hF⟩ := hw
            rcases hF with ⟨rfl, f1, f2, f3, f4⟩ | ⟨rfl, hno⟩
            · refine pX0 hx hb hts hown hK hP hD hS 0 rfl 5 (by decide) q42 rfl rfl rfl (Nat.le_of_ble_eq_true rfl) dX0_parse_128 (fun H locs hP hD hS => ?_)
              have hP : va_P D vwCl (cwX ad di db st mk n tk 1 1 dp1 te1 sc1 bd1 de1 sv me mo dg) H := hP
              have hD : va_D A (cwX ad di db st mk n tk 1 1 dp1 te1 sc1 bd1 de1 sv me mo dg) := hD
              exact hret _ _ _ _ (cwX ad di db st mk n tk 1 1 dp1 te1 sc1 bd1 de1 sv me mo dg) dX0_parse_131 (⟨1, dp1, te1, sc1, bd1, de1, rfl, ⟨I3, hb1, hd1⟩, Or.inl ⟨rfl, ⟨by omega, hE, by omega, fun k hk h => (f2 k hk h).2, f1⟩, fun k hk h => (f2 k hk h).1, fun k hk => I2 k (Nat.zero_le k) hk, f3, f4⟩⟩) hP hD hS
            · refine pX0 hx hb hts hown hK hP hD hS 0 rfl 5 (by decide) q42 rfl rfl rfl (Nat.le_of_ble_eq_true rfl) dX0_parse_128 (fun H locs hP hD hS => ?_)
              have hP : va_P D vwCl (cwX ad di db st mk n tk 1 0 dp1 te1 sc1 bd1 de1 sv me mo dg) H := hP
              have hD : va_D A (cwX ad di db st mk n tk 1 0 dp1 te1 sc1 bd1 de1 sv me mo dg) := hD
              exact hret _ _ _ _ (cwX ad di db st mk n tk 1 0 dp1 te1 sc1 bd1 de1 sv me mo dg) dX0_parse_131 (⟨0, dp1, te1, sc1, bd1, de1, rfl, ⟨I3, hb1, hd1⟩, Or.inr ⟨rfl, hno⟩⟩) hP hD hS
          · exact hret _ _ _ _ (cwX ad di db st mk n tk 1 0 0 te1 sc1 bd de sv me mo dg) dX0_parse_122 (⟨0, 0, te1, sc1, bd, de, rfl, ⟨I3, hBX.2.1, hBX.2.2⟩, Or.inr ⟨rfl, no_whole hE c119⟩⟩) hP hD hS
      | succ j ih =>
        intro te1 sc1 hj I1 I2 I3 H locs hP hD hS ls hl
        rw [nP_succ] at hl
        have h18j := htk j
        rcases (show mj_ar (tk j) = 0 ∨ mj_ar (tk j) = 1 ∨ mj_ar (tk j) = 2 by have := mj_ar_le (tk j); omega) with hwa | hwa | hwa
        · refine lv_iload_n hx hb dX0_parse_30 rfl (lv_at hl 1 rfl) ?_
          refine nv_if_lt (tgt := 102) hx hb (by omega) dX0_parse_31 (by decide) ?_
          refine lv_aload_n hx hb dX0_parse_34 rfl (lv_at hl 0 rfl) ?_
          refine lv_aload_n hx hb dX0_parse_35 rfl (lv_at hl 0 rfl) ?_
          refine gX0 hx hb hts hown hK hP 0 rfl 3 (by decide) q40 rfl dX0_parse_36 ?_
          refine lv_iload_n hx hb dX0_parse_39 rfl (lv_at hl 1 rfl) ?_
          refine nv_bald hx hb hK hP 3 1 rfl rfl (by omega) (by decide) dX0_parse_40 ?_
          refine pcall_i (As := [.int (nI (tk j))]) (rest := []) (ci := 0) (q0 := 0) ⟨hx, hb, hml, hown, hts⟩ (metX0_termsBehind l (ad 0) (tk j) (by omega)) (cwV 1 hts (lw_V q121 q123 qs3 q27 q124) rfl rfl rfl (by decide +kernel) ⟨Nat.le_of_ble_eq_true rfl, Nat.le_of_ble_eq_true rfl⟩) rfl rfl hK hP rfl hl.1 rfl (Nat.le_of_ble_eq_true rfl) dX0_parse_41 ⟨Nat.zero_le _, Nat.zero_le _⟩ (fun r hr => ?_)
          rw [hwa] at hr
          subst hr
          refine lv_istore_n (lv' := [(2, .int (nI 0)), (0, .ref (ad 0)), (1, .int (nI j))]) hx hb dX0_parse_44 rfl hl (by decide) rfl (fun ls hl => ?_)
          refine lv_iload_n hx hb dX0_parse_45 rfl (lv_at hl 2 rfl) ?_
          refine lv_iconst (v := nI 1) hx hb dX0_parse_46 (by decide) ?_
          refine nv_iadd hx hb dX0_parse_47 ?_
          refine lv_istore_n (lv' := [(3, .int (nI (j + 1))), (2, .int (nI 0)), (0, .ref (ad 0)), (1, .int (nI j))]) hx hb dX0_parse_48 rfl hl (by decide) rfl (fun ls hl => ?_)
          refine lv_iconst (v := nI 0) hx hb dX0_parse_49 (by decide) ?_
          refine lv_istore (lv' := [(4, .int (nI 0)), (3, .int (nI (j + 1))), (2, .int (nI 0)), (0, .ref (ad 0)), (1, .int (nI j))]) hx hb dX0_parse_50 hl (by decide) rfl (fun ls hl => ?_)
          refine lv_iload hx hb dX0_parse_52 (lv_at hl 0 rfl) ?_
          refine lv_iload_n hx hb dX0_parse_54 rfl (lv_at hl 2 rfl) ?_
          refine nv_icmp_ge (tgt := 88) hx hb (by omega) (by omega) dX0_parse_55 (by decide) (fun c55 => ?_) (fun q => absurd q (by omega))
          refine lv_aload_n hx hb dX0_parse_88 rfl (lv_at hl 3 rfl) ?_
          refine gX0 hx hb hts hown hK hP 0 rfl 7 (by decide) q44 rfl dX0_parse_89 ?_
          refine lv_iload_n hx hb dX0_parse_92 rfl (lv_at hl 4 rfl) ?_
          refine lv_iload_n hx hb dX0_parse_93 rfl (lv_at hl 1 rfl) ?_
          refine nv_i2b hx hb (by omega) dX0_parse_94 ?_
          refine nv_bast hx hb hK hP hD hS 4 1 rfl rfl (by omega) (by decide) (by omega) dX0_parse_95 (fun H locs hP hD hS => ?_)
          have hP : va_P D vwCl (cwX ad di db st mk n tk 1 0 0 (upN te1 j (j + 1)) sc1 bd de sv me mo dg) H := hP
          have hD : va_D A (cwX ad di db st mk n tk 1 0 0 (upN te1 j (j + 1)) sc1 bd de sv me mo dg) := hD
          refine nv_iinc (k := 4) (lv' := [(1, .int (nP j)), (4, .int (nI 0)), (3, .int (nI (j + 1))), (2, .int (nI 0)), (0, .ref (ad 0))]) (v := (nP j)) hx hb dX0_parse_96 hl rfl (nI_dec _) (by decide) rfl (fun ls hl => ?_)
          refine lv_goto (tgt := 30) hx hb dX0_parse_99 (by decide) ?_
          exact ih (upN te1 j (j + 1)) (sc1) (by omega) (end_step (by omega) I1 ⟨fun _ => rfl, fun h => by omega, fun h => by omega⟩) (sc_keep (by omega) I1 I2 (by omega)) (upN_lt I3 (by omega)) _ _ hP hD hS ls (lv_sub hl [4, 0] rfl)
        · refine lv_iload_n hx hb dX0_parse_30 rfl (lv_at hl 1 rfl) ?_
          refine nv_if_lt (tgt := 102) hx hb (by omega) dX0_parse_31 (by decide) ?_
          refine lv_aload_n hx hb dX0_parse_34 rfl (lv_at hl 0 rfl) ?_
          refine lv_aload_n hx hb dX0_parse_35 rfl (lv_at hl 0 rfl) ?_
          refine gX0 hx hb hts hown hK hP 0 rfl 3 (by decide) q40 rfl dX0_parse_36 ?_
          refine lv_iload_n hx hb dX0_parse_39 rfl (lv_at hl 1 rfl) ?_
          refine nv_bald hx hb hK hP 3 1 rfl rfl (by omega) (by decide) dX0_parse_40 ?_
          refine pcall_i (As := [.int (nI (tk j))]) (rest := []) (ci := 0) (q0 := 0) ⟨hx, hb, hml, hown, hts⟩ (metX0_termsBehind l (ad 0) (tk j) (by omega)) (cwV 1 hts (lw_V q121 q123 qs3 q27 q124) rfl rfl rfl (by decide +kernel) ⟨Nat.le_of_ble_eq_true rfl, Nat.le_of_ble_eq_true rfl⟩) rfl rfl hK hP rfl hl.1 rfl (Nat.le_of_ble_eq_true rfl) dX0_parse_41 ⟨Nat.zero_le _, Nat.zero_le _⟩ (fun r hr => ?_)
          rw [hwa] at hr
          subst hr
          refine lv_istore_n (lv' := [(2, .int (nI 1)), (0, .ref (ad 0)), (1, .int (nI j))]) hx hb dX0_parse_44 rfl hl (by decide) rfl (fun ls hl => ?_)
          refine lv_iload_n hx hb dX0_parse_45 rfl (lv_at hl 2 rfl) ?_
          refine lv_iconst (v := nI 1) hx hb dX0_parse_46 (by decide) ?_
          refine nv_iadd hx hb dX0_parse_47 ?_
          refine lv_istore_n (lv' := [(3, .int (nI (j + 1))), (2, .int (nI 1)), (0, .ref (ad 0)), (1, .int (nI j))]) hx hb dX0_parse_48 rfl hl (by decide) rfl (fun ls hl => ?_)
          refine lv_iconst (v := nI 0) hx hb dX0_parse_49 (by decide) ?_
          refine lv_istore (lv' := [(4, .int (nI 0)), (3, .int (nI (j + 1))), (2, .int (nI 1)), (0, .ref (ad 0)), (1, .int (nI j))]) hx hb dX0_parse_50 hl (by decide) rfl (fun ls hl => ?_)
          refine lv_iload hx hb dX0_parse_52 (lv_at hl 0 rfl) ?_
          refine lv_iload_n hx hb dX0_parse_54 rfl (lv_at hl 2 rfl) ?_
          refine nv_icmp_ge (tgt := 88) hx hb (by omega) (by omega) dX0_parse_55 (by decide) (fun q => absurd q (by omega)) (fun c55 => ?_)
          refine lv_iload_n hx hb dX0_parse_58 rfl (lv_at hl 1 rfl) ?_
          refine lv_aload_n hx hb dX0_parse_59 rfl (lv_at hl 3 rfl) ?_
          refine gX0 hx hb hts hown hK hP 0 rfl 2 (by decide) q39 rfl dX0_parse_60 ?_
          refine nv_icmp_lt (tgt := 67) hx hb (by omega) (by omega) dX0_parse_63 (by decide) (fun c63 => ?_) (fun c63 => ?_)
          · refine lv_aload_n hx hb dX0_parse_67 rfl (lv_at hl 3 rfl) ?_
            refine gX0 hx hb hts hown hK hP 0 rfl 8 (by decide) q45 rfl dX0_parse_68 ?_
            refine lv_iload_n hx hb dX0_parse_71 rfl (lv_at hl 4 rfl) ?_
            refine lv_iload_n hx hb dX0_parse_72 rfl (lv_at hl 1 rfl) ?_
            refine nv_i2b hx hb (by omega) dX0_parse_73 ?_
            refine nv_bast hx hb hK hP hD hS 5 1 rfl rfl (by omega) (by decide) (by omega) dX0_parse_74 (fun H locs hP hD hS => ?_)
            have hP : va_P D vwCl (cwX ad di db st mk n tk 1 0 0 te1 (upN sc1 j (j + 1)) bd de sv me mo dg) H := hP
            have hD : va_D A (cwX ad di db st mk n tk 1 0 0 te1 (upN sc1 j (j + 1)) bd de sv me mo dg) := hD
            refine lv_aload_n hx hb dX0_parse_75 rfl (lv_at hl 3 rfl) ?_
            refine gX0 hx hb hts hown hK hP 0 rfl 7 (by decide) q44 rfl dX0_parse_76 ?_
            refine lv_iload_n hx hb dX0_parse_79 rfl (lv_at hl 1 rfl) ?_
            refine nv_bald hx hb hK hP 4 1 rfl rfl (by omega) (by decide) dX0_parse_80 ?_
            have hld80 := I3 (j + 1)
            refine lv_istore_n (lv' := [(3, .int (nI (te1 (j + 1)))), (4, .int (nI 0)), (2, .int (nI 1)), (0, .ref (ad 0)), (1, .int (nI j))]) hx hb dX0_parse_81 rfl hl (by decide) rfl (fun ls hl => ?_)
            refine nv_iinc (k := 1) (lv' := [(4, .int (nI 1)), (3, .int (nI (te1 (j + 1)))), (2, .int (nI 1)), (0, .ref (ad 0)), (1, .int (nI j))]) (v := (nI 1)) hx hb dX0_parse_82 hl rfl (nI_inc _) (by decide) rfl (fun ls hl => ?_)
            refine lv_goto (tgt := 52) hx hb dX0_parse_85 (by decide) ?_
            refine lv_iload hx hb dX0_parse_52 (lv_at hl 0 rfl) ?_
            refine lv_iload_n hx hb dX0_parse_54 rfl (lv_at hl 2 rfl) ?_
            refine nv_icmp_ge (tgt := 88) hx hb (by omega) (by omega) dX0_parse_55 (by decide) (fun c55 => ?_) (fun q => absurd q (by omega))
            refine lv_aload_n hx hb dX0_parse_88 rfl (lv_at hl 3 rfl) ?_
            refine gX0 hx hb hts hown hK hP 0 rfl 7 (by decide) q44 rfl dX0_parse_89 ?_
            refine lv_iload_n hx hb dX0_parse_92 rfl (lv_at hl 4 rfl) ?_
            refine lv_iload_n hx hb dX0_parse_93 rfl (lv_at hl 1 rfl) ?_
            refine nv_i2b hx hb (by omega) dX0_parse_94 ?_
            refine nv_bast hx hb hK hP hD hS 4 1 rfl rfl (by omega) (by decide) (by omega) dX0_parse_95 (fun H locs hP hD hS => ?_)
            have hP : va_P D vwCl (cwX ad di db st mk n tk 1 0 0 (upN te1 j (te1 (j + 1))) (upN sc1 j (j + 1)) bd de sv me mo dg) H := hP
            have hD : va_D A (cwX ad di db st mk n tk 1 0 0 (upN te1 j (te1 (j + 1))) (upN sc1 j (j + 1)) bd de sv me mo dg) := hD
            refine nv_iinc (k := 4) (lv' := [(1, .int (nP j)), (4, .int (nI 1)), (3, .int (nI (te1 (j + 1)))), (2, .int (nI 1)), (0, .ref (ad 0))]) (v := (nP j)) hx hb dX0_parse_96 hl rfl (nI_dec _) (by decide) rfl (fun ls hl => ?_)
            refine lv_goto (tgt := 30) hx hb dX0_parse_99 (by decide) ?_
            exact ih (upN te1 j (te1 (j + 1))) (upN sc1 j (j + 1)) (by omega) (end_step (by omega) I1 ⟨fun h => by omega, fun _ => ⟨by omega, rfl⟩, fun h => by omega⟩) (sc_keep1 (by omega) I1 I2 (by omega)) (upN_lt I3 (by omega)) _ _ hP hD hS ls (lv_sub hl [4, 0] rfl)
          · exact hret _ _ _ _ (cwX ad di db st mk n tk 1 0 0 te1 sc1 bd de sv me mo dg) dX0_parse_66 (⟨0, 0, te1, sc1, bd, de, rfl, ⟨I3, hBX.2.1, hBX.2.2⟩, Or.inr ⟨rfl, no_end1 (show j < n by omega) (by omega) c63⟩⟩) hP hD hS
        · refine lv_iload_n hx hb dX0_parse_30 rfl (lv_at hl 1 rfl) ?_
          refine nv_if_lt (tgt := 102) hx hb (by omega) dX0_parse_31 (by decide) ?_
          refine lv_aload_n hx hb dX0_parse_34 rfl (lv_at hl 0 rfl) ?_
          refine lv_aload_n hx hb dX0_parse_35 rfl (lv_at hl 0 rfl) ?_
          refine gX0 hx hb hts hown hK hP 0 rfl 3 (by decide) q40 rfl dX0_parse_36 ?_
          refine lv_iload_n hx hb dX0_parse_39 rfl (lv_at hl 1 rfl) ?_
          refine nv_bald hx hb hK hP 3 1 rfl rfl (by omega) (by decide) dX0_parse_40 ?_
          refine pcall_i (As := [.int (nI (tk j))]) (rest := []) (ci := 0) (q0 := 0) ⟨hx, hb, hml, hown, hts⟩ (metX0_termsBehind l (ad 0) (tk j) (by omega)) (cwV 1 hts (lw_V q121 q123 qs3 q27 q124) rfl rfl rfl (by decide +kernel) ⟨Nat.le_of_ble_eq_true rfl, Nat.le_of_ble_eq_true rfl⟩) rfl rfl hK hP rfl hl.1 rfl (Nat.le_of_ble_eq_true rfl) dX0_parse_41 ⟨Nat.zero_le _, Nat.zero_le _⟩ (fun r hr => ?_)
          rw [hwa] at hr
          subst hr
          refine lv_istore_n (lv' := [(2, .int (nI 2)), (0, .ref (ad 0)), (1, .int (nI j))]) hx hb dX0_parse_44 rfl hl (by decide) rfl (fun ls hl => ?_)
          refine lv_iload_n hx hb dX0_parse_45 rfl (lv_at hl 2 rfl) ?_
          refine lv_iconst (v := nI 1) hx hb dX0_parse_46 (by decide) ?_
          refine nv_iadd hx hb dX0_parse_47 ?_
          refine lv_istore_n (lv' := [(3, .int (nI (j + 1))), (2, .int (nI 2)), (0, .ref (ad 0)), (1, .int (nI j))]) hx hb dX0_parse_48 rfl hl (by decide) rfl (fun ls hl => ?_)
          refine lv_iconst (v := nI 0) hx hb dX0_parse_49 (by decide) ?_
          refine lv_istore (lv' := [(4, .int (nI 0)), (3, .int (nI (j + 1))), (2, .int (nI 2)), (0, .ref (ad 0)), (1, .int (nI j))]) hx hb dX0_parse_50 hl (by decide) rfl (fun ls hl => ?_)
          refine lv_iload hx hb dX0_parse_52 (lv_at hl 0 rfl) ?_
          refine lv_iload_n hx hb dX0_parse_54 rfl (lv_at hl 2 rfl) ?_
          refine nv_icmp_ge (tgt := 88) hx hb (by omega) (by omega) dX0_parse_55 (by decide) (fun q => absurd q (by omega)) (fun c55 => ?_)
          refine lv_iload_n hx hb dX0_parse_58 rfl (lv_at hl 1 rfl) ?_
          refine lv_aload_n hx hb dX0_parse_59 rfl (lv_at hl 3 rfl) ?_
          refine gX0 hx hb hts hown hK hP 0 rfl 2 (by decide) q39 rfl dX0_parse_60 ?_
          refine nv_icmp_lt (tgt := 67) hx hb (by omega) (by omega) dX0_parse_63 (by decide) (fun c63 => ?_) (fun c63 => ?_)
          · refine lv_aload_n hx hb dX0_parse_67 rfl (lv_at hl 3 rfl) ?_
            refine gX0 hx hb hts hown hK hP 0 rfl 8 (by decide) q45 rfl dX0_parse_68 ?_
            refine lv_iload_n hx hb dX0_parse_71 rfl (lv_at hl 4 rfl) ?_
            refine lv_iload_n hx hb dX0_parse_72 rfl (lv_at hl 1 rfl) ?_
            refine nv_i2b hx hb (by omega) dX0_parse_73 ?_
            refine nv_bast hx hb hK hP hD hS 5 1 rfl rfl (by omega) (by decide) (by omega) dX0_parse_74 (fun H locs hP hD hS => ?_)
            have hP : va_P D vwCl (cwX ad di db st mk n tk 1 0 0 te1 (upN sc1 j (j + 1)) bd de sv me mo dg) H := hP
            have hD : va_D A (cwX ad di db st mk n tk 1 0 0 te1 (upN sc1 j (j + 1)) bd de sv me mo dg) := hD
            refine lv_aload_n hx hb dX0_parse_75 rfl (lv_at hl 3 rfl) ?_
            refine gX0 hx hb hts hown hK hP 0 rfl 7 (by decide) q44 rfl dX0_parse_76 ?_
            refine lv_iload_n hx hb dX0_parse_79 rfl (lv_at hl 1 rfl) ?_
            refine nv_bald hx hb hK hP 4 1 rfl rfl (by omega) (by decide) dX0_parse_80 ?_
            have hld80 := I3 (j + 1)
            refine lv_istore_n (lv' := [(3, .int (nI (te1 (j + 1)))), (4, .int (nI 0)), (2, .int (nI 2)), (0, .ref (ad 0)), (1, .int (nI j))]) hx hb dX0_parse_81 rfl hl (by decide) rfl (fun ls hl => ?_)
            refine nv_iinc (k := 1) (lv' := [(4, .int (nI 1)), (3, .int (nI (te1 (j + 1)))), (2, .int (nI 2)), (0, .ref (ad 0)), (1, .int (nI j))]) (v := (nI 1)) hx hb dX0_parse_82 hl rfl (nI_inc _) (by decide) rfl (fun ls hl => ?_)
            refine lv_goto (tgt := 52) hx hb dX0_parse_85 (by decide) ?_
            refine lv_iload hx hb dX0_parse_52 (lv_at hl 0 rfl) ?_
            refine lv_iload_n hx hb dX0_parse_54 rfl (lv_at hl 2 rfl) ?_
            refine nv_icmp_ge (tgt := 88) hx hb (by omega) (by omega) dX0_parse_55 (by decide) (fun q => absurd q (by omega)) (fun c55 => ?_)
            refine lv_iload_n hx hb dX0_parse_58 rfl (lv_at hl 1 rfl) ?_
            refine lv_aload_n hx hb dX0_parse_59 rfl (lv_at hl 3 rfl) ?_
            refine gX0 hx hb hts hown hK hP 0 rfl 2 (by decide) q39 rfl dX0_parse_60 ?_
            refine nv_icmp_lt (tgt := 67) hx hb (by omega) (by omega) dX0_parse_63 (by decide) (fun c63 => ?_) (fun c63 => ?_)
            · refine lv_aload_n hx hb dX0_parse_67 rfl (lv_at hl 3 rfl) ?_
              refine gX0 hx hb hts hown hK hP 0 rfl 8 (by decide) q45 rfl dX0_parse_68 ?_
              refine lv_iload_n hx hb dX0_parse_71 rfl (lv_at hl 4 rfl) ?_
              refine lv_iload_n hx hb dX0_parse_72 rfl (lv_at hl 1 rfl) ?_
              refine nv_i2b hx hb (by omega) dX0_parse_73 ?_
              refine nv_bast hx hb hK hP hD hS 5 1 rfl rfl (by omega) (by decide) (by omega) dX0_parse_74 (fun H locs hP hD hS => ?_)
              have hP : va_P D vwCl (cwX ad di db st mk n tk 1 0 0 te1 (upN (upN sc1 j (j + 1)) j (te1 (j + 1))) bd de sv me mo dg) H := hP
              have hD : va_D A (cwX ad di db st mk n tk 1 0 0 te1 (upN (upN sc1 j (j + 1)) j (te1 (j + 1))) bd de sv me mo dg) := hD
              refine lv_aload_n hx hb dX0_parse_75 rfl (lv_at hl 3 rfl) ?_
              refine gX0 hx hb hts hown hK hP 0 rfl 7 (by decide) q44 rfl dX0_parse_76 ?_
              refine lv_iload_n hx hb dX0_parse_79 rfl (lv_at hl 1 rfl) ?_
              refine nv_bald hx hb hK hP 4 1 rfl rfl (by omega) (by decide) dX0_parse_80 ?_
              have hld80 := I3 (te1 (j + 1))
              refine lv_istore_n (lv' := [(3, .int (nI (te1 (te1 (j + 1))))), (4, .int (nI 1)), (2, .int (nI 2)), (0, .ref (ad 0)), (1, .int (nI j))]) hx hb dX0_parse_81 rfl hl (by decide) rfl (fun ls hl => ?_)
              refine nv_iinc (k := 1) (lv' := [(4, .int (nI 2)), (3, .int (nI (te1 (te1 (j + 1))))), (2, .int (nI 2)), (0, .ref (ad 0)), (1, .int (nI j))]) (v := (nI 2)) hx hb dX0_parse_82 hl rfl (nI_inc _) (by decide) rfl (fun ls hl => ?_)
              refine lv_goto (tgt := 52) hx hb dX0_parse_85 (by decide) ?_
              refine lv_iload hx hb dX0_parse_52 (lv_at hl 0 rfl) ?_
              refine lv_iload_n hx hb dX0_parse_54 rfl (lv_at hl 2 rfl) ?_
              refine nv_icmp_ge (tgt := 88) hx hb (by omega) (by omega) dX0_parse_55 (by decide) (fun c55 => ?_) (fun q => absurd q (by omega))
              rw [upN_upN] at hP hD
              refine lv_aload_n hx hb dX0_parse_88 rfl (lv_at hl 3 rfl) ?_
              refine gX0 hx hb hts hown hK hP 0 rfl 7 (by decide) q44 rfl dX0_parse_89 ?_
              refine lv_iload_n hx hb dX0_parse_92 rfl (lv_at hl 4 rfl) ?_
              refine lv_iload_n hx hb dX0_parse_93 rfl (lv_at hl 1 rfl) ?_
              refine nv_i2b hx hb (by omega) dX0_parse_94 ?_
              refine nv_bast hx hb hK hP hD hS 4 1 rfl rfl (by omega) (by decide) (by omega) dX0_parse_95 (fun H locs hP hD hS => ?_)
              have hP : va_P D vwCl (cwX ad di db st mk n tk 1 0 0 (upN te1 j (te1 (te1 (j + 1)))) (upN sc1 j (te1 (j + 1))) bd de sv me mo dg) H := hP
              have hD : va_D A (cwX ad di db st mk n tk 1 0 0 (upN te1 j (te1 (te1 (j + 1)))) (upN sc1 j (te1 (j + 1))) bd de sv me mo dg) := hD
              refine nv_iinc (k := 4) (lv' := [(1, .int (nP j)), (4, .int (nI 2)), (3, .int (nI (te1 (te1 (j + 1))))), (2, .int (nI 2)), (0, .ref (ad 0))]) (v := (nP j)) hx hb dX0_parse_96 hl rfl (nI_dec _) (by decide) rfl (fun ls hl => ?_)
              refine lv_goto (tgt := 30) hx hb dX0_parse_99 (by decide) ?_
              exact ih (upN te1 j (te1 (te1 (j + 1)))) (upN sc1 j (te1 (j + 1))) (by omega) (end_step (by omega) I1 ⟨fun h => by omega, fun h => by omega, fun _ => ⟨by omega, by omega, rfl⟩⟩) (sc_set (by omega) I1 I2) (upN_lt I3 (by omega)) _ _ hP hD hS ls (lv_sub hl [4, 0] rfl)
            · exact hret _ _ _ _ (cwX ad di db st mk n tk 1 0 0 te1 (upN sc1 j (j + 1)) bd de sv me mo dg) dX0_parse_66 (⟨0, 0, te1, (upN sc1 j (j + 1)), bd, de, rfl, ⟨I3, hBX.2.1, hBX.2.2⟩, Or.inr ⟨rfl, no_end2 (show j < n by omega) I1 hwa c63⟩⟩) hP hD hS
          · exact hret _ _ _ _ (cwX ad di db st mk n tk 1 0 0 te1 sc1 bd de sv me mo dg) dX0_parse_66 (⟨0, 0, te1, sc1, bd, de, rfl, ⟨I3, hBX.2.1, hBX.2.2⟩, Or.inr ⟨rfl, no_end1 (show j < n by omega) (by omega) c63⟩⟩) hP hD hS
    exact L n te sc (Nat.le_refl n) (fun i h1 h2 => by omega) (fun i h1 h2 => by omega) hBX.1 _ _ hP hD hS ls (lv_sub hl [1, 0] rfl)
  · refine lv_aload_n hx hb dX0_parse_0 rfl (lv_at hl 0 rfl) ?_
    refine gX0 hx hb hts hown hK hP 0 rfl 4 (by decide) q41 rfl dX0_parse_1 ?_
    refine nv_if_eq (tgt := 8) hx hb (by omega) dX0_parse_4 (by decide) (fun q => absurd q (by omega)) (fun c4 => ?_)
    exact hret _ _ _ _ (cwX ad di db st mk n tk 1 so dp te sc bd de sv me mo dg) dX0_parse_7 (⟨so, dp, te, sc, bd, de, rfl, hBX, hPX⟩) hP hD hS
end
section
/-! PLAIN LAW, 6: digits in the array, bits, steps over the states -/
/-- four digits laid into the array -/
def dgs (dg : Nat → Nat) (x0 x1 x2 x3 : Nat) : Nat → Nat := fun j => if j = 0 then x0 else if j = 1 then x1 else if j = 2 then x2 else if j = 3 then x3 else dg j
theorem dgs_g0 (dg : Nat → Nat) (x0 x1 x2 x3 : Nat) : dgs dg x0 x1 x2 x3 0 = x0 := rfl
theorem dgs_g1 (dg : Nat → Nat) (x0 x1 x2 x3 : Nat) : dgs dg x0 x1 x2 x3 1 = x1 := rfl
theorem dgs_g2 (dg : Nat → Nat) (x0 x1 x2 x3 : Nat) : dgs dg x0 x1 x2 x3 2 = x2 := rfl
theorem dgs_g3 (dg : Nat → Nat) (x0 x1 x2 x3 : Nat) : dgs dg x0 x1 x2 x3 3 = x3 := rfl
theorem dgs_u0 (dg : Nat → Nat) (x0 x1 x2 x3 v : Nat) : upN (dgs dg x0 x1 x2 x3) 0 v = dgs dg v x1 x2 x3 := by
  funext j; unfold upN dgs; by_cases h : j = 0 <;> simp [h]
theorem dgs_u1 (dg : Nat → Nat) (x0 x1 x2 x3 v : Nat) : upN (dgs dg x0 x1 x2 x3) 1 v = dgs dg x0 v x2 x3 := by
  funext j; unfold upN dgs; by_cases h : j = 1 <;> simp [h]
theorem dgs_u2 (dg : Nat → Nat) (x0 x1 x2 x3 v : Nat) : upN (dgs dg x0 x1 x2 x3) 2 v = dgs dg x0 x1 v x3 := by
  funext j; unfold upN dgs; by_cases h : j = 2 <;> simp [h]
theorem dgs_u3 (dg : Nat → Nat) (x0 x1 x2 x3 v : Nat) : upN (dgs dg x0 x1 x2 x3) 3 v = dgs dg x0 x1 x2 v := by
  funext j; unfold upN dgs; by_cases h : j = 3 <;> simp [h]
theorem dgs_pack (dg : Nat → Nat) (x0 x1 x2 x3 : Nat) : mj_pack (dgs dg x0 x1 x2 x3) = ((25 * x0 + x1) * 25 + x2) * 25 + x3 := rfl
theorem dgs_ok {cap : Nat → Nat} (dg : Nat → Nat) {x0 x1 x2 x3 : Nat} (h0 : x0 ≤ cap 0) (h1 : x1 ≤ cap 1) (h2 : x2 ≤ cap 2) (h3 : x3 ≤ cap 3) : mj_ok cap (dgs dg x0 x1 x2 x3) := by
  intro i hi
  rcases (show i = 0 ∨ i = 1 ∨ i = 2 ∨ i = 3 by omega) with rfl | rfl | rfl | rfl
  · exact h0
  · exact h1
  · exact h2
  · exact h3
/-- the four digits of a number -/
def digs (dg : Nat → Nat) (m : Nat) : Nat → Nat := upN (upN (upN (upN dg 3 (m % 25)) 2 (m / 25 % 25)) 1 (m / 25 / 25 % 25)) 0 (m / 25 / 25 / 25 % 25)
theorem digs_pack {cap a : Nat → Nat} (dg : Nat → Nat) (hc : ∀ i, i < 4 → cap i ≤ 24) (ha : mj_ok cap a) : digs dg (mj_pack a) = dgs dg (a 0) (a 1) (a 2) (a 3) := by
  have h0 := ha 0 (by omega)
  have h1 := ha 1 (by omega)
  have h2 := ha 2 (by omega)
  have h3 := ha 3 (by omega)
  have g0 := hc 0 (by omega)
  have g1 := hc 1 (by omega)
  have g2 := hc 2 (by omega)
  have g3 := hc 3 (by omega)
  have e3 : mj_pack a % 25 = a 3 := by unfold mj_pack; omega
  have e2 : mj_pack a / 25 % 25 = a 2 := by unfold mj_pack; omega
  have e1 : mj_pack a / 25 / 25 % 25 = a 1 := by unfold mj_pack; omega
  have e0 : mj_pack a / 25 / 25 / 25 % 25 = a 0 := by unfold mj_pack; omega
  unfold digs
  rw [e0, e1, e2, e3]
  funext j
  unfold upN dgs
  by_cases j0 : j = 0
  · simp [j0]
  · by_cases j1 : j = 1
    · simp [j1]
    · by_cases j2 : j = 2
      · simp [j2]
      · by_cases j3 : j = 3
        · simp [j3]
        · simp [j0, j1, j2, j3]
theorem valid_le {cap : Nat → Nat} (hc : ∀ i, i < 4 → cap i ≤ 24) {v : Nat} (h : mj_Valid cap v) : v ≤ 1000000 := by
  rcases h with h | ⟨m, h1, h2⟩
  · omega
  · have := mj_pack_lt hc h1; omega
theorem valid_0 (cap : Nat → Nat) : mj_Valid cap 0 := Or.inr ⟨fun _ => 0, fun _ _ => Nat.zero_le _, rfl⟩
theorem valid_L (cap : Nat → Nat) : mj_Valid cap 1000000 := Or.inl rfl
theorem valid_pack {cap : Nat → Nat} {v : Nat} (h : mj_Valid cap v) (hv : v < 1000000) : ∃ m, mj_ok cap m ∧ v = mj_pack m := by
  rcases h with h | h
  · omega
  · exact h
/-! one bit of a set -/
theorem and1_le (a : Nat) : a &&& 1 ≤ 1 := by rw [Nat.and_one_is_mod]; omega
theorem tb_pos {a x : Nat} (h : 0 < a / 2 ^ x &&& 1) : a.testBit x = true := by
  rw [Nat.and_one_is_mod] at h
  rw [Nat.testBit_eq_decide_div_mod_eq, decide_eq_true_eq]
  generalize a / 2 ^ x = z at h
  omega
theorem tb_zero {a x : Nat} (h : a / 2 ^ x &&& 1 = 0) : a.testBit x = false := by
  rw [Nat.and_one_is_mod] at h
  rw [Nat.testBit_eq_decide_div_mod_eq, decide_eq_false_iff_not]
  generalize a / 2 ^ x = z at h
  omega
/-! over the steps -/
def OSs (st me : Nat → Nat) (s k x v : Nat) : Prop := ∀ w, w < 1000000 → (v ≤ w ↔ ∃ y, y < x ∧ (st s).testBit y = true ∧ me (12 * y + k + 1) ≤ w)
def OSa (st me : Nat → Nat) (s k x v : Nat) : Prop := ∀ w, w < 1000000 → (v ≤ w ↔ ∀ y, y < x → (st s).testBit y = true → me (12 * y + k + 1) ≤ w)
section OS
variable {st me : Nat → Nat} {s k x v : Nat}
theorem OSs_0 : OSs st me s k 0 1000000 := fun w hw => ⟨fun h => by omega, fun ⟨y, h, _⟩ => by omega⟩
theorem OSa_0 : OSa st me s k 0 0 := fun w hw => ⟨fun _ y h => by omega, fun _ => Nat.zero_le _⟩
theorem OSs_skip (h : OSs st me s k x v) (hb : (st s).testBit x = false) : OSs st me s k (x + 1) v := by
  intro w hw
  rw [h w hw]
  constructor
  · rintro ⟨y, h1, h2, h3⟩
    exact ⟨y, by omega, h2, h3⟩
  · rintro ⟨y, h1, h2, h3⟩
    by_cases e : y = x
    · subst e; rw [hb] at h2; cases h2
    · exact ⟨y, by omega, h2, h3⟩
theorem OSa_skip (h : OSa st me s k x v) (hb : (st s).testBit x = false) : OSa st me s k (x + 1) v := by
  intro w hw
  rw [h w hw]
  constructor
  · intro q y h1 h2
    by_cases e : y = x
    · subst e; rw [hb] at h2; cases h2
    · exact q y (by omega) h2
  · intro q y h1 h2
    exact q y (by omega) h2
theorem OSs_less (h : OSs st me s k x v) (hb : (st s).testBit x = true) (hl : me (12 * x + k + 1) < v) : OSs st me s k (x + 1) (me (12 * x + k + 1)) := by
  intro w hw
  constructor
  · intro q
    exact ⟨x, by omega, hb, q⟩
  · rintro ⟨y, h1, h2, h3⟩
    by_cases e : y = x
    · subst e; exact h3
    · have := (h w hw).mpr ⟨y, by omega, h2, h3⟩
      omega
theorem OSs_keep (h : OSs st me s k x v) (hb : (st s).testBit x = true) (hl : v ≤ me (12 * x + k + 1)) : OSs st me s k (x + 1) v := by
  intro w hw
  constructor
  · intro q
    obtain ⟨y, h1, h2, h3⟩ := (h w hw).mp q
    exact ⟨y, by omega, h2, h3⟩
  · rintro ⟨y, h1, h2, h3⟩
    by_cases e : y = x
    · subst e; omega
    · exact (h w hw).mpr ⟨y, by omega, h2, h3⟩
theorem OSa_more (h : OSa st me s k x v) (hb : (st s).testBit x = true) (hl : v < me (12 * x + k + 1)) : OSa st me s k (x + 1) (me (12 * x + k + 1)) := by
  intro w hw
  constructor
  · intro q y h1 h2
    by_cases e : y = x
    · subst e; exact q
    · exact (h w hw).mp (by omega) y (by omega) h2
  · intro q
    exact q x (by omega) hb
theorem OSa_keep (h : OSa st me s k x v) (hb : (st s).testBit x = true) (hl : me (12 * x + k + 1) ≤ v) : OSa st me s k (x + 1) v := by
  intro w hw
  constructor
  · intro q y h1 h2
    by_cases e : y = x
    · subst e; omega
    · exact (h w hw).mp q y (by omega) h2
  · intro q
    exact (h w hw).mpr (fun y h1 h2 => q y (by omega) h2)
end OS
/-! what is demanded, token by token -/
theorem node_a {st mk : Nat → Nat} {t : Nat} {p q : Nat → Prop} {s : Nat} (h : t < 3) : mj_node st mk t p q s = ((mk t).testBit s = true) := by unfold mj_node; rw [if_pos h]
theorem node_b {st mk : Nat → Nat} {t : Nat} {p q : Nat → Prop} {s : Nat} (h : 3 ≤ t) (h2 : t < 6) : mj_node st mk t p q s = ((mk (t - 3)).testBit s = false) := by unfold mj_node; rw [if_neg (by omega), if_pos h2]
theorem node_6 {st mk : Nat → Nat} {t : Nat} {p q : Nat → Prop} {s : Nat} (h : t = 6) : mj_node st mk t p q s = (p s ∧ q s) := by unfold mj_node; rw [if_neg (by omega), if_neg (by omega), if_pos h]
theorem node_7 {st mk : Nat → Nat} {t : Nat} {p q : Nat → Prop} {s : Nat} (h : t = 7) : mj_node st mk t p q s = (p s ∨ q s) := by unfold mj_node; rw [if_neg (by omega), if_neg (by omega), if_neg (by omega), if_pos h]
theorem node_8 {st mk : Nat → Nat} {t : Nat} {p q : Nat → Prop} {s : Nat} (h : t = 8) : mj_node st mk t p q s = (∃ x, x < 6 ∧ (st s).testBit x = true ∧ p x) := by unfold mj_node; rw [if_neg (by omega), if_neg (by omega), if_neg (by omega), if_neg (by omega), if_pos h]
theorem node_9 {st mk : Nat → Nat} {t : Nat} {p q : Nat → Prop} {s : Nat} (h : t = 9) : mj_node st mk t p q s = (∀ x, x < 6 → (st s).testBit x = true → p x) := by unfold mj_node; rw [if_neg (by omega), if_neg (by omega), if_neg (by omega), if_neg (by omega), if_neg (by omega)]
/-- measures by state and token -/
def rho (me : Nat → Nat) : Nat → Nat → Nat := fun s k => me (12 * s + k)
def Dem (st mk tk te bd me mo : Nat → Nat) (k s v : Nat) : Prop := mj_Valid mo v ∧ ∀ m, mj_ok mo m → (v ≤ mj_pack m ↔ mj_PG st mk tk te (fun k => bd k - 1) (rho me) k s (mj_pack m))
section DEM
variable {st mk tk te bd me mo : Nat → Nat} {k s v : Nat}
theorem PG_n (h : tk k < 10) (w : Nat) : mj_PG st mk tk te (fun k => bd k - 1) (rho me) k s w = mj_node st mk (tk k) (fun x => me (12 * x + k + 1) ≤ w) (fun x => me (12 * x + te (k + 1)) ≤ w) s := by unfold mj_PG; rw [if_pos h]; rfl
theorem PG_m (h : 10 ≤ tk k) (h2 : tk k < 13) (w : Nat) : mj_PG st mk tk te (fun k => bd k - 1) (rho me) k s w = (me (12 * s + k + 1) < 1000000 ∧ me (12 * s + k + 1) / 25 ^ (3 - mj_dep tk te k) < w / 25 ^ (3 - mj_dep tk te k)) := by unfold mj_PG; rw [if_neg (by omega), if_pos h2]; rfl
theorem PG_g (h : 13 ≤ tk k) (h2 : tk k < 16) (w : Nat) : mj_PG st mk tk te (fun k => bd k - 1) (rho me) k s w = (me (12 * s + k + 1) < 1000000 ∧ me (12 * s + k + 1) / 25 ^ (4 - mj_dep tk te k) ≤ w / 25 ^ (4 - mj_dep tk te k)) := by unfold mj_PG; rw [if_neg (by omega), if_neg (by omega), if_pos h2]; rfl
theorem PG_v (h : 16 ≤ tk k) (w : Nat) : mj_PG st mk tk te (fun k => bd k - 1) (rho me) k s w = (me (12 * s + (bd k - 1)) ≤ w) := by unfold mj_PG; rw [if_neg (by omega), if_neg (by omega), if_neg (by omega)]; rfl
theorem Dem_a1 (h : tk k < 3) (hb : (mk (tk k)).testBit s = true) : Dem st mk tk te bd me mo k s 0 := ⟨valid_0 mo, fun m _ => by rw [PG_n (by omega), node_a h]; exact ⟨fun _ => hb, fun _ => Nat.zero_le _⟩⟩
theorem Dem_a0 (hc : ∀ i, i < 4 → mo i ≤ 24) (h : tk k < 3) (hb : (mk (tk k)).testBit s = false) : Dem st mk tk te bd me mo k s 1000000 := ⟨valid_L mo, fun m hm => by
  have := mj_pack_lt hc hm
  rw [PG_n (by omega), node_a h, hb]; exact ⟨fun q => by omega, fun q => by cases q⟩⟩
theorem Dem_b1 (h : 3 ≤ tk k) (h2 : tk k < 6) (hb : (mk (tk k - 3)).testBit s = false) : Dem st mk tk te bd me mo k s 0 := ⟨valid_0 mo, fun m _ => by rw [PG_n (by omega), node_b h h2]; exact ⟨fun _ => hb, fun _ => Nat.zero_le _⟩⟩
theorem Dem_b0 (hc : ∀ i, i < 4 → mo i ≤ 24) (h : 3 ≤ tk k) (h2 : tk k < 6) (hb : (mk (tk k - 3)).testBit s = true) : Dem st mk tk te bd me mo k s 1000000 := ⟨valid_L mo, fun m hm => by
  have := mj_pack_lt hc hm
  rw [PG_n (by omega), node_b h h2, hb]; exact ⟨fun q => by omega, fun q => by cases q⟩⟩
theorem Dem_and (h : tk k = 6) (hV : mj_Valid mo v) (hv : ∀ w, v ≤ w ↔ me (12 * s + k + 1) ≤ w ∧ me (12 * s + te (k + 1)) ≤ w) : Dem st mk tk te bd me mo k s v := ⟨hV, fun m _ => by rw [PG_n (by omega), node_6 h]; exact hv _⟩
theorem Dem_or (h : tk k = 7) (hV : mj_Valid mo v) (hv : ∀ w, v ≤ w ↔ me (12 * s + k + 1) ≤ w ∨ me (12 * s + te (k + 1)) ≤ w) : Dem st mk tk te bd me mo k s v := ⟨hV, fun m _ => by rw [PG_n (by omega), node_7 h]; exact hv _⟩
theorem Dem_some (hc : ∀ i, i < 4 → mo i ≤ 24) (h : tk k = 8) (hV : mj_Valid mo v) (hv : OSs st me s k 6 v) : Dem st mk tk te bd me mo k s v := ⟨hV, fun m hm => by
  have := mj_pack_lt hc hm
  rw [PG_n (by omega), node_8 h]; exact hv _ (by omega)⟩
theorem Dem_all (hc : ∀ i, i < 4 → mo i ≤ 24) (h : tk k = 9) (hV : mj_Valid mo v) (hv : OSa st me s k 6 v) : Dem st mk tk te bd me mo k s v := ⟨hV, fun m hm => by
  have := mj_pack_lt hc hm
  rw [PG_n (by omega), node_9 h]; exact hv _ (by omega)⟩
theorem Dem_mu (h : 10 ≤ tk k) (h2 : tk k < 13) (hV : mj_Valid mo v) (hv : ∀ m, mj_ok mo m → (v ≤ mj_pack m ↔ me (12 * s + k + 1) < 1000000 ∧ me (12 * s + k + 1) / 25 ^ (3 - mj_dep tk te k) < mj_pack m / 25 ^ (3 - mj_dep tk te k))) : Dem st mk tk te bd me mo k s v := ⟨hV, fun m hm => by rw [PG_m h h2]; exact hv m hm⟩
theorem Dem_nu (h : 13 ≤ tk k) (h2 : tk k < 16) (hV : mj_Valid mo v) (hv : ∀ m, mj_ok mo m → (v ≤ mj_pack m ↔ me (12 * s + k + 1) < 1000000 ∧ me (12 * s + k + 1) / 25 ^ (4 - mj_dep tk te k) ≤ mj_pack m / 25 ^ (4 - mj_dep tk te k))) : Dem st mk tk te bd me mo k s v := ⟨hV, fun m hm => by rw [PG_g h h2]; exact hv m hm⟩
theorem Dem_name (h : 16 ≤ tk k) (hV : mj_Valid mo (me (12 * s + (bd k - 1)))) : Dem st mk tk te bd me mo k s (me (12 * s + (bd k - 1))) := ⟨hV, fun m _ => by rw [PG_v h]⟩
end DEM
end
section
/-! ModalJudge: packed, unpack, before, overSteps, demanded -/
set_option maxHeartbeats 4000000 in
set_option maxRecDepth 100000 in
/-- packed -/
theorem metX0_packed (l : Launch) (D : va_G) (ad : Nat → Nat) (di db : ClassId) (st mk : Nat → Nat) (n : Nat) (tk : Nat → Nat) (ps so dp : Nat) (te sc bd de : Nat → Nat) (sv : Nat) (me mo dg : Nat → Nat)   : xMi l yX0_packed cX0_packed 1 .int ({ frames := 0, cells := 0, slots := 0, locals := 0 }) D (tyX di db) (cwX ad di db st mk n tk ps so dp te sc bd de sv me mo dg) [.ref (ad 0)] (fun r u => r = nI (mj_pack dg) ∧ u = cwX ad di db st mk n tk ps so dp te sc bd de sv me mo dg) := by
  refine xMi_intro (by decide) (Nat.le_of_ble_eq_true rfl) ?_
  intro p e s m args below meth c A Q hx hb hml hown hts hA hK hP hD hS hret ls hl
  have hl : lv_has ls 1 [(0, .ref (ad 0))] := hl
  refine lv_bipush (v := nI 25) hx hb dX0_packed_0 (by decide) ?_
  refine lv_aload_n hx hb dX0_packed_2 rfl (lv_at hl 0 rfl) ?_
  refine gX0 hx hb hts hown hK hP 0 rfl 14 (by decide) q51 rfl dX0_packed_3 ?_
  refine lv_iconst (v := nI 0) hx hb dX0_packed_6 (by decide) ?_
  refine nv_bald hx hb hK hP 10 1 rfl rfl (by omega) (by decide) dX0_packed_7 ?_
  refine nv_imul hx hb dX0_packed_8 ?_
  refine lv_aload_n hx hb dX0_packed_9 rfl (lv_at hl 0 rfl) ?_
  refine gX0 hx hb hts hown hK hP 0 rfl 14 (by decide) q51 rfl dX0_packed_10 ?_
  refine lv_iconst (v := nI 1) hx hb dX0_packed_13 (by decide) ?_
  refine nv_bald hx hb hK hP 10 1 rfl rfl (by omega) (by decide) dX0_packed_14 ?_
  refine nv_iadd hx hb dX0_packed_15 ?_
  refine lv_bipush (v := nI 25) hx hb dX0_packed_16 (by decide) ?_
  refine nv_imul hx hb dX0_packed_18 ?_
  refine lv_aload_n hx hb dX0_packed_19 rfl (lv_at hl 0 rfl) ?_
  refine gX0 hx hb hts hown hK hP 0 rfl 14 (by decide) q51 rfl dX0_packed_20 ?_
  refine lv_iconst (v := nI 2) hx hb dX0_packed_23 (by decide) ?_
  refine nv_bald hx hb hK hP 10 1 rfl rfl (by omega) (by decide) dX0_packed_24 ?_
  refine nv_iadd hx hb dX0_packed_25 ?_
  refine lv_bipush (v := nI 25) hx hb dX0_packed_26 (by decide) ?_
  refine nv_imul hx hb dX0_packed_28 ?_
  refine lv_aload_n hx hb dX0_packed_29 rfl (lv_at hl 0 rfl) ?_
  refine gX0 hx hb hts hown hK hP 0 rfl 14 (by decide) q51 rfl dX0_packed_30 ?_
  refine lv_iconst (v := nI 3) hx hb dX0_packed_33 (by decide) ?_
  refine nv_bald hx hb hK hP 10 1 rfl rfl (by omega) (by decide) dX0_packed_34 ?_
  refine nv_iadd hx hb dX0_packed_35 ?_
  exact hret _ _ _ _ _ (cwX ad di db st mk n tk ps so dp te sc bd de sv me mo dg) rfl dX0_packed_36 (⟨rfl, rfl⟩) hP hD hS
set_option maxHeartbeats 4000000 in
set_option maxRecDepth 100000 in
/-- unpack -/
theorem metX0_unpack (l : Launch) (D : va_G) (ad : Nat → Nat) (di db : ClassId) (st mk : Nat → Nat) (n : Nat) (tk : Nat → Nat) (ps so dp : Nat) (te sc bd de : Nat → Nat) (sv : Nat) (me mo dg : Nat → Nat) (mv : Nat) (hm : mv < 2147483648) : xMv l yX0_unpack cX0_unpack 4 ({ frames := 0, cells := 0, slots := 0, locals := 0 }) D (tyX di db) (cwX ad di db st mk n tk ps so dp te sc bd de sv me mo dg) [.ref (ad 0), .int (nI mv)] (fun u => u = cwX ad di db st mk n tk ps so dp te sc bd de sv me mo (digs dg mv)) := by
  refine xMv_intro (by decide) (Nat.le_of_ble_eq_true rfl) ?_
  intro p e s m args below meth c A Q hx hb hml hown hts hA hK hP hD hS hret ls hl
  have hl : lv_has ls 4 [(0, .ref (ad 0)), (1, .int (nI mv))] := hl
  refine lv_iload_n hx hb dX0_unpack_0 rfl (lv_at hl 1 rfl) ?_
  refine lv_istore_n (lv' := [(2, .int (nI mv)), (0, .ref (ad 0)), (1, .int (nI mv))]) hx hb dX0_unpack_1 rfl hl (by decide) rfl (fun ls hl => ?_)
  refine lv_iconst (v := nI 3) hx hb dX0_unpack_2 (by decide) ?_
  refine lv_istore_n (lv' := [(3, .int (nI 3)), (2, .int (nI mv)), (0, .ref (ad 0)), (1, .int (nI mv))]) hx hb dX0_unpack_3 rfl hl (by decide) rfl (fun ls hl => ?_)
  refine lv_iload_n hx hb dX0_unpack_4 rfl (lv_at hl 0 rfl) ?_
  refine nv_if_lt (tgt := 30) hx hb (by omega) dX0_unpack_5 (by decide) ?_
  refine lv_aload_n hx hb dX0_unpack_8 rfl (lv_at hl 2 rfl) ?_
  refine gX0 hx hb hts hown hK hP 0 rfl 14 (by decide) q51 rfl dX0_unpack_9 ?_
  refine lv_iload_n hx hb dX0_unpack_12 rfl (lv_at hl 0 rfl) ?_
  refine lv_iload_n hx hb dX0_unpack_13 rfl (lv_at hl 1 rfl) ?_
  refine lv_bipush (v := nI 25) hx hb dX0_unpack_14 (by decide) ?_
  refine nv_irem hx hb (by omega) (by omega) (by omega) dX0_unpack_16 ?_
  refine nv_i2b hx hb (by omega) dX0_unpack_17 ?_
  refine nv_bast hx hb hK hP hD hS 10 1 rfl rfl (by omega) (by decide) (by omega) dX0_unpack_18 (fun H locs hP hD hS => ?_)
  have hP : va_P D vwCl (cwX ad di db st mk n tk ps so dp te sc bd de sv me mo (upN dg 3 (mv % 25))) H := hP
  have hD : va_D A (cwX ad di db st mk n tk ps so dp te sc bd de sv me mo (upN dg 3 (mv % 25))) := hD
  refine lv_iload_n hx hb dX0_unpack_19 rfl (lv_at hl 1 rfl) ?_
  refine lv_bipush (v := nI 25) hx hb dX0_unpack_20 (by decide) ?_
  refine nv_idiv hx hb (by omega) (by omega) (by omega) dX0_unpack_22 ?_
  refine lv_istore_n (lv' := [(2, .int (nI (mv / 25))), (3, .int (nI 3)), (0, .ref (ad 0)), (1, .int (nI mv))]) hx hb dX0_unpack_23 rfl hl (by decide) rfl (fun ls hl => ?_)
  refine nv_iinc (k := 1) (lv' := [(3, .int (nP 3)), (2, .int (nI (mv / 25))), (0, .ref (ad 0)), (1, .int (nI mv))]) (v := (nP 3)) hx hb dX0_unpack_24 hl rfl (nI_dec _) (by decide) rfl (fun ls hl => ?_)
  refine lv_goto (tgt := 4) hx hb dX0_unpack_27 (by decide) ?_
  rw [show nP 3 = nI 2 by decide] at hl
  refine lv_iload_n hx hb dX0_unpack_4 rfl (lv_at hl 0 rfl) ?_
  refine nv_if_lt (tgt := 30) hx hb (by omega) dX0_unpack_5 (by decide) ?_
  refine lv_aload_n hx hb dX0_unpack_8 rfl (lv_at hl 2 rfl) ?_
  refine gX0 hx hb hts hown hK hP 0 rfl 14 (by decide) q51 rfl dX0_unpack_9 ?_
  refine lv_iload_n hx hb dX0_unpack_12 rfl (lv_at hl 0 rfl) ?_
  refine lv_iload_n hx hb dX0_unpack_13 rfl (lv_at hl 1 rfl) ?_
  refine lv_bipush (v := nI 25) hx hb dX0_unpack_14 (by decide) ?_
  refine nv_irem hx hb (by omega) (by omega) (by omega) dX0_unpack_16 ?_
  refine nv_i2b hx hb (by omega) dX0_unpack_17 ?_
  refine nv_bast hx hb hK hP hD hS 10 1 rfl rfl (by omega) (by decide) (by omega) dX0_unpack_18 (fun H locs hP hD hS => ?_)
  have hP : va_P D vwCl (cwX ad di db st mk n tk ps so dp te sc bd de sv me mo (upN (upN dg 3 (mv % 25)) 2 ((mv / 25) % 25))) H := hP
  have hD : va_D A (cwX ad di db st mk n tk ps so dp te sc bd de sv me mo (upN (upN dg 3 (mv % 25)) 2 ((mv / 25) % 25))) := hD
  refine lv_iload_n hx hb dX0_unpack_19 rfl (lv_at hl 1 rfl) ?_
  refine lv_bipush (v := nI 25) hx hb dX0_unpack_20 (by decide) ?_
  refine nv_idiv hx hb (by omega) (by omega) (by omega) dX0_unpack_22 ?_
  refine lv_istore_n (lv' := [(2, .int (nI ((mv / 25) / 25))), (3, .int (nI 2)), (0, .ref (ad 0)), (1, .int (nI mv))]) hx hb dX0_unpack_23 rfl hl (by decide) rfl (fun ls hl => ?_)
  refine nv_iinc (k := 1) (lv' := [(3, .int (nP 2)), (2, .int (nI ((mv / 25) / 25))), (0, .ref (ad 0)), (1, .int (nI mv))]) (v := (nP 2)) hx hb dX0_unpack_24 hl rfl (nI_dec _) (by decide) rfl (fun ls hl => ?_)
  refine lv_goto (tgt := 4) hx hb dX0_unpack_27 (by decide) ?_
  rw [show nP 2 = nI 1 by decide] at hl
  refine lv_iload_n hx hb dX0_unpack_4 rfl (lv_at hl 0 rfl) ?_
  refine nv_if_lt (tgt := 30) hx hb (by omega) dX0_unpack_5 (by decide) ?_
  refine lv_aload_n hx hb dX0_unpack_8 rfl (lv_at hl 2 rfl) ?_
  refine gX0 hx hb hts hown hK hP 0 rfl 14 (by decide) q51 rfl dX0_unpack_9 ?_
  refine lv_iload_n hx hb dX0_unpack_12 rfl (lv_at hl 0 rfl) ?_
  refine lv_iload_n hx hb dX0_unpack_13 rfl (lv_at hl 1 rfl) ?_
  refine lv_bipush (v := nI 25) hx hb dX0_unpack_14 (by decide) ?_
  refine nv_irem hx hb (by omega) (by omega) (by omega) dX0_unpack_16 ?_
  refine nv_i2b hx hb (by omega) dX0_unpack_17 ?_
  refine nv_bast hx hb hK hP hD hS 10 1 rfl rfl (by omega) (by decide) (by omega) dX0_unpack_18 (fun H locs hP hD hS => ?_)
  have hP : va_P D vwCl (cwX ad di db st mk n tk ps so dp te sc bd de sv me mo (upN (upN (upN dg 3 (mv % 25)) 2 ((mv / 25) % 25)) 1 (((mv / 25) / 25) % 25))) H := hP
  have hD : va_D A (cwX ad di db st mk n tk ps so dp te sc bd de sv me mo (upN (upN (upN dg 3 (mv % 25)) 2 ((mv / 25) % 25)) 1 (((mv / 25) / 25) % 25))) := hD
  refine lv_iload_n hx hb dX0_unpack_19 rfl (lv_at hl 1 rfl) ?_
  refine lv_bipush (v := nI 25) hx hb dX0_unpack_20 (by decide) ?_
  refine nv_idiv hx hb (by omega) (by omega) (by omega) dX0_unpack_22 ?_
  refine lv_istore_n (lv' := [(2, .int (nI (((mv / 25) / 25) / 25))), (3, .int (nI 1)), (0, .ref (ad 0)), (1, .int (nI mv))]) hx hb dX0_unpack_23 rfl hl (by decide) rfl (fun ls hl => ?_)
  refine nv_iinc (k := 1) (lv' := [(3, .int (nP 1)), (2, .int (nI (((mv / 25) / 25) / 25))), (0, .ref (ad 0)), (1, .int (nI mv))]) (v := (nP 1)) hx hb dX0_unpack_24 hl rfl (nI_dec _) (by decide) rfl (fun ls hl => ?_)
  refine lv_goto (tgt := 4) hx hb dX0_unpack_27 (by decide) ?_
  rw [show nP 1 = nI 0 by decide] at hl
  refine lv_iload_n hx hb dX0_unpack_4 rfl (lv_at hl 0 rfl) ?_
  refine nv_if_lt (tgt := 30) hx hb (by omega) dX0_unpack_5 (by decide) ?_
  refine lv_aload_n hx hb dX0_unpack_8 rfl (lv_at hl 2 rfl) ?_
  refine gX0 hx hb hts hown hK hP 0 rfl 14 (by decide) q51 rfl dX0_unpack_9 ?_
  refine lv_iload_n hx hb dX0_unpack_12 rfl (lv_at hl 0 rfl) ?_
  refine lv_iload_n hx hb dX0_unpack_13 rfl (lv_at hl 1 rfl) ?_
  refine lv_bipush (v := nI 25) hx hb dX0_unpack_14 (by decide) ?_
  refine nv_irem hx hb (by omega) (by omega) (by omega) dX0_unpack_16 ?_
  refine nv_i2b hx hb (by omega) dX0_unpack_17 ?_
  refine nv_bast hx hb hK hP hD hS 10 1 rfl rfl (by omega) (by decide) (by omega) dX0_unpack_18 (fun H locs hP hD hS => ?_)
  have hP : va_P D vwCl (cwX ad di db st mk n tk ps so dp te sc bd de sv me mo (upN (upN (upN (upN dg 3 (mv % 25)) 2 ((mv / 25) % 25)) 1 (((mv / 25) / 25) % 25)) 0 ((((mv / 25) / 25) / 25) % 25))) H := hP
  have hD : va_D A (cwX ad di db st mk n tk ps so dp te sc bd de sv me mo (upN (upN (upN (upN dg 3 (mv % 25)) 2 ((mv / 25) % 25)) 1 (((mv / 25) / 25) % 25)) 0 ((((mv / 25) / 25) / 25) % 25))) := hD
  refine lv_iload_n hx hb dX0_unpack_19 rfl (lv_at hl 1 rfl) ?_
  refine lv_bipush (v := nI 25) hx hb dX0_unpack_20 (by decide) ?_
  refine nv_idiv hx hb (by omega) (by omega) (by omega) dX0_unpack_22 ?_
  refine lv_istore_n (lv' := [(2, .int (nI ((((mv / 25) / 25) / 25) / 25))), (3, .int (nI 0)), (0, .ref (ad 0)), (1, .int (nI mv))]) hx hb dX0_unpack_23 rfl hl (by decide) rfl (fun ls hl => ?_)
  refine nv_iinc (k := 1) (lv' := [(3, .int (nP 0)), (2, .int (nI ((((mv / 25) / 25) / 25) / 25))), (0, .ref (ad 0)), (1, .int (nI mv))]) (v := (nP 0)) hx hb dX0_unpack_24 hl rfl (nI_dec _) (by decide) rfl (fun ls hl => ?_)
  refine lv_goto (tgt := 4) hx hb dX0_unpack_27 (by decide) ?_
  refine lv_iload_n hx hb dX0_unpack_4 rfl (lv_at hl 0 rfl) ?_
  refine nv_if_ltP (tgt := 30) hx hb dX0_unpack_5 (by decide) ?_
  exact hret _ _ _ _ (cwX ad di db st mk n tk ps so dp te sc bd de sv me mo (upN (upN (upN (upN dg 3 (mv % 25)) 2 ((mv / 25) % 25)) 1 (((mv / 25) / 25) % 25)) 0 ((((mv / 25) / 25) / 25) % 25))) dX0_unpack_30 (rfl) hP hD hS
set_option maxHeartbeats 4000000 in
set_option maxRecDepth 100000 in
/-- before -/
theorem metX0_before (l : Launch) (D : va_G) (ad : Nat → Nat) (di db : ClassId) (st mk : Nat → Nat) (n : Nat) (tk : Nat → Nat) (ps so dp : Nat) (te sc bd de : Nat → Nat) (sv : Nat) (me mo dg : Nat → Nat) (k mv d : Nat) (hk : k < 12) (htk : ∀ j, tk j ≤ 18) (hb0 : 10 ≤ tk k ∧ tk k < 16) (hd : de k = d) (hd4 : d < 4) (hmo : ∀ i, i < 4 → mo i ≤ 24) (hV : mj_Valid mo mv) : xMi l yX0_before cX0_before 6 .int ({ frames := 1, cells := 0, slots := 0, locals := 23 }) D (tyX di db) (cwX ad di db st mk n tk ps so dp te sc bd de sv me mo dg) [.ref (ad 0), .int (nI k), .int (nI mv)] (fun r u => ∃ v dg1, r = nI v ∧ u = cwX ad di db st mk n tk ps so dp te sc bd de sv me mo dg1 ∧ mj_Valid mo v ∧ (tk k < 13 → ∀ m, mj_ok mo m → (v ≤ mj_pack m ↔ mv < 1000000 ∧ mv / 25 ^ (3 - d) < mj_pack m / 25 ^ (3 - d))) ∧ (13 ≤ tk k → ∀ m, mj_ok mo m → (v ≤ mj_pack m ↔ mv < 1000000 ∧ mv / 25 ^ (4 - d) ≤ mj_pack m / 25 ^ (4 - d)))) := by
  refine xMi_intro (by decide) (Nat.le_of_ble_eq_true rfl) ?_
  intro p e s m args below meth c A Q hx hb hml hown hts hA hK hP hD hS hret ls hl
  have hl : lv_has ls 6 [(0, .ref (ad 0)), (1, .int (nI k)), (2, .int (nI mv))] := hl
  rcases hV with rfl | ⟨a, ha, rfl⟩
  · refine lv_aload_n hx hb dX0_before_0 rfl (lv_at hl 0 rfl) ?_
    refine gX0 hx hb hts hown hK hP 0 rfl 3 (by decide) q40 rfl dX0_before_1 ?_
    refine lv_iload_n hx hb dX0_before_4 rfl (lv_at hl 1 rfl) ?_
    refine nv_bald hx hb hK hP 3 1 rfl rfl (by omega) (by decide) dX0_before_5 ?_
    have hld5 := htk k
    refine lv_istore_n (lv' := [(3, .int (nI (tk k))), (0, .ref (ad 0)), (1, .int (nI k)), (2, .int (nI 1000000))]) hx hb dX0_before_6 rfl hl (by decide) rfl (fun ls hl => ?_)
    refine lv_iload_n hx hb dX0_before_7 rfl (lv_at hl 3 rfl) ?_
    refine lv_ldc (own := RX0) (v := nI 1000000) hx hb hown (hts _ q153n) dX0_before_8 ?_
    refine nv_icmp_ge (tgt := 21) hx hb (by omega) (by omega) dX0_before_10 (by decide) (fun c10 => ?_) (fun q => absurd q (by omega))
    refine lv_iload_n hx hb dX0_before_21 rfl (lv_at hl 3 rfl) ?_
    exact hret _ _ _ _ _ (cwX ad di db st mk n tk ps so dp te sc bd de sv me mo dg) rfl dX0_before_22 (⟨1000000, dg, rfl, rfl, valid_L mo, fun _ m hm => ⟨fun q => absurd q (by have := mj_pack_lt hmo hm; omega), fun q => absurd q.1 (by omega)⟩, fun _ m hm => ⟨fun q => absurd q (by have := mj_pack_lt hmo hm; omega), fun q => absurd q.1 (by omega)⟩⟩) hP hD hS
  · have hal := mj_pack_lt hmo ha
    have h0 := ha 0 (by omega)
    have g0 := hmo 0 (by omega)
    have h1 := ha 1 (by omega)
    have g1 := hmo 1 (by omega)
    have h2 := ha 2 (by omega)
    have g2 := hmo 2 (by omega)
    have h3 := ha 3 (by omega)
    have g3 := hmo 3 (by omega)
    have hb1 := bi_1 hb0
    rcases (show d = 0 ∨ d = 1 ∨ d = 2 ∨ d = 3 by omega) with rfl | rfl | rfl | rfl
    · refine lv_aload_n hx hb dX0_before_0 rfl (lv_at hl 0 rfl) ?_
      refine gX0 hx hb hts hown hK hP 0 rfl 3 (by decide) q40 rfl dX0_before_1 ?_
      refine lv_iload_n hx hb dX0_before_4 rfl (lv_at hl 1 rfl) ?_
      refine nv_bald hx hb hK hP 3 1 rfl rfl (by omega) (by decide) dX0_before_5 ?_
      have hld5 := htk k
      refine lv_istore_n (lv' := [(3, .int (nI (tk k))), (0, .ref (ad 0)), (1, .int (nI k)), (2, .int (nI (mj_pack a)))]) hx hb dX0_before_6 rfl hl (by decide) rfl (fun ls hl => ?_)
      refine lv_iload_n hx hb dX0_before_7 rfl (lv_at hl 3 rfl) ?_
      refine lv_ldc (own := RX0) (v := nI 1000000) hx hb hown (hts _ q153n) dX0_before_8 ?_
      refine nv_icmp_ge (tgt := 21) hx hb (by omega) (by omega) dX0_before_10 (by decide) (fun q => absurd q (by omega)) (fun c10 => ?_)
      refine lv_aload_n hx hb dX0_before_13 rfl (lv_at hl 1 rfl) ?_
      refine lv_iload_n hx hb dX0_before_14 rfl (lv_at hl 0 rfl) ?_
      refine pcall_i (As := [.int (nI (tk k))]) (rest := []) (ci := 0) (q0 := 0) ⟨hx, hb, hml, hown, hts⟩ (metX0_binds l (ad 0) (tk k) (by omega)) (cwV 1 hts (lw_V q129 q131 qs5 q27 q132) rfl rfl rfl (by decide +kernel) ⟨Nat.le_of_ble_eq_true rfl, Nat.le_of_ble_eq_true rfl⟩) rfl rfl hK hP rfl hl.1 rfl (Nat.le_of_ble_eq_true rfl) dX0_before_15 ⟨Nat.zero_le _, Nat.zero_le _⟩ (fun r hr => ?_)
      subst hr
      have hbl := bi_le (tk k)
      refine nv_if_ne (tgt := 23) hx hb (by omega) dX0_before_18 (by decide) (fun c18 => ?_) (fun q => absurd q (by omega))
      refine lv_aload_n hx hb dX0_before_23 rfl (lv_at hl 1 rfl) ?_
      refine gX0 hx hb hts hown hK hP 0 rfl 10 (by decide) q47 rfl dX0_before_24 ?_
      refine lv_iload_n hx hb dX0_before_27 rfl (lv_at hl 2 rfl) ?_
      refine nv_bald hx hb hK hP 7 1 rfl rfl (by omega) (by decide) dX0_before_28 ?_
      rw [hd]
      refine lv_istore (lv' := [(4, .int (nI 0)), (3, .int (nI (tk k))), (0, .ref (ad 0)), (1, .int (nI k)), (2, .int (nI (mj_pack a)))]) hx hb dX0_before_29 hl (by decide) rfl (fun ls hl => ?_)
      refine lv_aload_n hx hb dX0_before_31 rfl (lv_at hl 2 rfl) ?_
      refine lv_iload_n hx hb dX0_before_32 rfl (lv_at hl 4 rfl) ?_
      refine xcall_v (As := [.int (nI (mj_pack a))]) (rest := []) (ci := 0) ⟨hx, hb, hml, hown, hts⟩ (metX0_unpack l D ad di db st mk n tk ps so dp te sc bd de sv me mo dg (mj_pack a) (by omega)) (cwV 1 hts (lw_V q158 q160 qs11 q27 q161) rfl rfl rfl (by decide +kernel) ⟨Nat.le_of_ble_eq_true rfl, Nat.le_of_ble_eq_true rfl⟩) rfl rfl hK hP hD hS hA rfl hl.1 rfl (Nat.le_of_ble_eq_true rfl) dX0_before_33 ⟨Nat.zero_le _, Nat.zero_le _⟩ (fun u H locs hw hP hD hS => ?_)
      subst hw
      rw [digs_pack dg hmo ha] at hP hD
      refine lv_iload hx hb dX0_before_36 (lv_at hl 0 rfl) ?_
      refine lv_iconst (v := nI 1) hx hb dX0_before_38 (by decide) ?_
      refine nv_iadd hx hb dX0_before_39 ?_
      refine lv_istore (lv' := [(5, .int (nI 1)), (4, .int (nI 0)), (3, .int (nI (tk k))), (0, .ref (ad 0)), (1, .int (nI k)), (2, .int (nI (mj_pack a)))]) hx hb dX0_before_40 hl (by decide) rfl (fun ls hl => ?_)
      refine lv_iload hx hb dX0_before_42 (lv_at hl 0 rfl) ?_
      refine lv_iconst (v := nI 4) hx hb dX0_before_44 (by decide) ?_
      refine nv_icmp_ge (tgt := 62) hx hb (by omega) (by omega) dX0_before_45 (by decide) (fun q => absurd q (by omega)) (fun c45 => ?_)
      refine lv_aload_n hx hb dX0_before_48 rfl (lv_at hl 3 rfl) ?_
      refine gX0 hx hb hts hown hK hP 0 rfl 14 (by decide) q51 rfl dX0_before_49 ?_
      refine lv_iload hx hb dX0_before_52 (lv_at hl 0 rfl) ?_
      refine lv_iconst (v := nI 0) hx hb dX0_before_54 (by decide) ?_
      refine nv_bast hx hb hK hP hD hS 10 1 rfl rfl (by omega) (by decide) (by omega) dX0_before_55 (fun H locs hP hD hS => ?_)
      have hP : va_P D vwCl (cwX ad di db st mk n tk ps so dp te sc bd de sv me mo (upN (dgs dg (a 0) (a 1) (a 2) (a 3)) 1 0)) H := hP
      have hD : va_D A (cwX ad di db st mk n tk ps so dp te sc bd de sv me mo (upN (dgs dg (a 0) (a 1) (a 2) (a 3)) 1 0)) := hD
      rw [dgs_u1] at hP hD
      refine nv_iinc (k := 0) (lv' := [(5, .int (nI 2)), (4, .int (nI 0)), (3, .int (nI (tk k))), (0, .ref (ad 0)), (1, .int (nI k)), (2, .int (nI (mj_pack a)))]) (v := (nI 2)) hx hb dX0_before_56 hl rfl (nI_inc _) (by decide) rfl (fun ls hl => ?_)
      refine lv_goto (tgt := 42) hx hb dX0_before_59 (by decide) ?_
      refine lv_iload hx hb dX0_before_42 (lv_at hl 0 rfl) ?_
      refine lv_iconst (v := nI 4) hx hb dX0_before_44 (by decide) ?_
      refine nv_icmp_ge (tgt := 62) hx hb (by omega) (by omega) dX0_before_45 (by decide) (fun q => absurd q (by omega)) (fun c45 => ?_)
      refine lv_aload_n hx hb dX0_before_48 rfl (lv_at hl 3 rfl) ?_
      refine gX0 hx hb hts hown hK hP 0 rfl 14 (by decide) q51 rfl dX0_before_49 ?_
      refine lv_iload hx hb dX0_before_52 (lv_at hl 0 rfl) ?_
      refine lv_iconst (v := nI 0) hx hb dX0_before_54 (by decide) ?_
      refine nv_bast hx hb hK hP hD hS 10 1 rfl rfl (by omega) (by decide) (by omega) dX0_before_55 (fun H locs hP hD hS => ?_)
      have hP : va_P D vwCl (cwX ad di db st mk n tk ps so dp te sc bd de sv me mo (upN (dgs dg (a 0) 0 (a 2) (a 3)) 2 0)) H := hP
      have hD : va_D A (cwX ad di db st mk n tk ps so dp te sc bd de sv me mo (upN (dgs dg (a 0) 0 (a 2) (a 3)) 2 0)) := hD
      rw [dgs_u2] at hP hD
      refine nv_iinc (k := 0) (lv' := [(5, .int (nI 3)), (4, .int (nI 0)), (3, .int (nI (tk k))), (0, .ref (ad 0)), (1, .int (nI k)), (2, .int (nI (mj_pack a)))]) (v := (nI 3)) hx hb dX0_before_56 hl rfl (nI_inc _) (by decide) rfl (fun ls hl => ?_)
      refine lv_goto (tgt := 42) hx hb dX0_before_59 (by decide) ?_
      refine lv_iload hx hb dX0_before_42 (lv_at hl 0 rfl) ?_
      refine lv_iconst (v := nI 4) hx hb dX0_before_44 (by decide) ?_
      refine nv_icmp_ge (tgt := 62) hx hb (by omega) (by omega) dX0_before_45 (by decide) (fun q => absurd q (by omega)) (fun c45 => ?_)
      refine lv_aload_n hx hb dX0_before_48 rfl (lv_at hl 3 rfl) ?_
      refine gX0 hx hb hts hown hK hP 0 rfl 14 (by decide) q51 rfl dX0_before_49 ?_
      refine lv_iload hx hb dX0_before_52 (lv_at hl 0 rfl) ?_
      refine lv_iconst (v := nI 0) hx hb dX0_before_54 (by decide) ?_
      refine nv_bast hx hb hK hP hD hS 10 1 rfl rfl (by omega) (by decide) (by omega) dX0_before_55 (fun H locs hP hD hS => ?_)
      have hP : va_P D vwCl (cwX ad di db st mk n tk ps so dp te sc bd de sv me mo (upN (dgs dg (a 0) 0 0 (a 3)) 3 0)) H := hP
      have hD : va_D A (cwX ad di db st mk n tk ps so dp te sc bd de sv me mo (upN (dgs dg (a 0) 0 0 (a 3)) 3 0)) := hD
      rw [dgs_u3] at hP hD
      refine nv_iinc (k := 0) (lv' := [(5, .int (nI 4)), (4, .int (nI 0)), (3, .int (nI (tk k))), (0, .ref (ad 0)), (1, .int (nI k)), (2, .int (nI (mj_pack a)))]) (v := (nI 4)) hx hb dX0_before_56 hl rfl (nI_inc _) (by decide) rfl (fun ls hl => ?_)
      refine lv_goto (tgt := 42) hx hb dX0_before_59 (by decide) ?_
      refine lv_iload hx hb dX0_before_42 (lv_at hl 0 rfl) ?_
      refine lv_iconst (v := nI 4) hx hb dX0_before_44 (by decide) ?_
      refine nv_icmp_ge (tgt := 62) hx hb (by omega) (by omega) dX0_before_45 (by decide) (fun c45 => ?_) (fun q => absurd q (by omega))
      refine lv_iload_n hx hb dX0_before_62 rfl (lv_at hl 2 rfl) ?_
      refine lv_bipush (v := nI 13) hx hb dX0_before_63 (by decide) ?_
      refine nv_icmp_lt (tgt := 81) hx hb (by omega) (by omega) dX0_before_65 (by decide) (fun c65 => ?_) (fun c65 => ?_)
      · refine lv_iload hx hb dX0_before_81 (lv_at hl 1 rfl) ?_
        refine lv_istore (lv' := [(5, .int (nI 0)), (4, .int (nI 0)), (3, .int (nI (tk k))), (0, .ref (ad 0)), (1, .int (nI k)), (2, .int (nI (mj_pack a)))]) hx hb dX0_before_83 hl (by decide) rfl (fun ls hl => ?_)
        refine lv_iload hx hb dX0_before_85 (lv_at hl 0 rfl) ?_
        refine nv_if_lt (tgt := 121) hx hb (by omega) dX0_before_87 (by decide) ?_
        refine lv_aload_n hx hb dX0_before_90 rfl (lv_at hl 3 rfl) ?_
        refine gX0 hx hb hts hown hK hP 0 rfl 14 (by decide) q51 rfl dX0_before_91 ?_
        refine lv_iload hx hb dX0_before_94 (lv_at hl 0 rfl) ?_
        refine nv_bald hx hb hK hP 10 1 rfl rfl (by omega) (by decide) dX0_before_96 ?_
        rw [dgs_g0]
        refine lv_aload_n hx hb dX0_before_97 rfl (lv_at hl 3 rfl) ?_
        refine gX0 hx hb hts hown hK hP 0 rfl 13 (by decide) q50 rfl dX0_before_98 ?_
        refine lv_iload hx hb dX0_before_101 (lv_at hl 0 rfl) ?_
        refine nv_bald hx hb hK hP 9 1 rfl rfl (by omega) (by decide) dX0_before_103 ?_
        refine nv_icmp_ne (tgt := 121) hx hb (by omega) (by omega) dX0_before_104 (by decide) (fun c104 => ?_) (fun c104 => ?_)
        · refine lv_iload hx hb dX0_before_121 (lv_at hl 0 rfl) ?_
          refine nv_if_ge (tgt := 129) hx hb (by omega) dX0_before_123 (by decide) ?_
          refine lv_aload_n hx hb dX0_before_129 rfl (lv_at hl 3 rfl) ?_
          refine gX0 hx hb hts hown hK hP 0 rfl 14 (by decide) q51 rfl dX0_before_130 ?_
          refine lv_iload hx hb dX0_before_133 (lv_at hl 0 rfl) ?_
          refine lv_dup2_11 hx hb dX0_before_135 rfl rfl ?_
          refine nv_bald hx hb hK hP 10 1 rfl rfl (by omega) (by decide) dX0_before_136 ?_
          rw [dgs_g0]
          refine lv_iconst (v := nI 1) hx hb dX0_before_137 (by decide) ?_
          refine nv_iadd hx hb dX0_before_138 ?_
          refine nv_i2b hx hb (by omega) dX0_before_139 ?_
          refine nv_bast hx hb hK hP hD hS 10 1 rfl rfl (by omega) (by decide) (by omega) dX0_before_140 (fun H locs hP hD hS => ?_)
          have hP : va_P D vwCl (cwX ad di db st mk n tk ps so dp te sc bd de sv me mo (upN (dgs dg (a 0) 0 0 0) 0 ((a 0) + 1))) H := hP
          have hD : va_D A (cwX ad di db st mk n tk ps so dp te sc bd de sv me mo (upN (dgs dg (a 0) 0 0 0) 0 ((a 0) + 1))) := hD
          rw [dgs_u0] at hP hD
          refine lv_aload_n hx hb dX0_before_141 rfl (lv_at hl 3 rfl) ?_
          refine xcall_i (As := []) (rest := []) (ci := 0) ⟨hx, hb, hml, hown, hts⟩ (metX0_packed l D ad di db st mk n tk ps so dp te sc bd de sv me mo (dgs dg ((a 0) + 1) 0 0 0)) (cwV 0 hts (lw_V q162 q164 qs12 q27 q165) rfl rfl rfl (by decide +kernel) ⟨Nat.le_of_ble_eq_true rfl, Nat.le_of_ble_eq_true rfl⟩) rfl rfl hK hP hD hS hA rfl hl.1 rfl (Nat.le_of_ble_eq_true rfl) dX0_before_142 ⟨Nat.zero_le _, Nat.zero_le _⟩ (fun r u H locs hw hP hD hS => ?_)
          obtain ⟨rfl, rfl⟩ := hw
          exact hret _ _ _ _ _ (cwX ad di db st mk n tk ps so dp te sc bd de sv me mo (dgs dg ((a 0) + 1) 0 0 0)) rfl dX0_before_145 (⟨mj_pack (dgs dg ((a 0) + 1) 0 0 0), _, rfl, rfl, Or.inr ⟨_, dgs_ok dg (by omega) (by omega) (by omega) (by omega), rfl⟩, (fun _ mm hm => by
                have k0 := hm 0 (by omega)
                have k1 := hm 1 (by omega)
                have k2 := hm 2 (by omega)
                have k3 := hm 3 (by omega)
                rw [dgs_pack]; rw [show mj_pack mm = ((25 * mm 0 + mm 1) * 25 + mm 2) * 25 + mm 3 from rfl, show mj_pack a = ((25 * a 0 + a 1) * 25 + a 2) * 25 + a 3 from rfl, show 25 ^ (3 - 0) = 15625 from rfl]
                constructor
                · intro q; exact ⟨by omega, by omega⟩
                · rintro ⟨_, q⟩; omega), fun q => absurd q (by omega)⟩) hP hD hS
        · refine lv_aload_n hx hb dX0_before_107 rfl (lv_at hl 3 rfl) ?_
          refine gX0 hx hb hts hown hK hP 0 rfl 14 (by decide) q51 rfl dX0_before_108 ?_
          refine lv_iload hx hb dX0_before_111 (lv_at hl 0 rfl) ?_
          refine lv_iconst (v := nI 0) hx hb dX0_before_113 (by decide) ?_
          refine nv_bast hx hb hK hP hD hS 10 1 rfl rfl (by omega) (by decide) (by omega) dX0_before_114 (fun H locs hP hD hS => ?_)
          have hP : va_P D vwCl (cwX ad di db st mk n tk ps so dp te sc bd de sv me mo (upN (dgs dg (a 0) 0 0 0) 0 0)) H := hP
          have hD : va_D A (cwX ad di db st mk n tk ps so dp te sc bd de sv me mo (upN (dgs dg (a 0) 0 0 0) 0 0)) := hD
          rw [dgs_u0] at hP hD
          refine nv_iinc (k := 0) (lv' := [(5, .int (nP 0)), (4, .int (nI 0)), (3, .int (nI (tk k))), (0, .ref (ad 0)), (1, .int (nI k)), (2, .int (nI (mj_pack a)))]) (v := (nP 0)) hx hb dX0_before_115 hl rfl (nI_dec _) (by decide) rfl (fun ls hl => ?_)
          refine lv_goto (tgt := 85) hx hb dX0_before_118 (by decide) ?_
          refine lv_iload hx hb dX0_before_85 (lv_at hl 0 rfl) ?_
          refine nv_if_ltP (tgt := 121) hx hb dX0_before_87 (by decide) ?_
          refine lv_iload hx hb dX0_before_121 (lv_at hl 0 rfl) ?_
          refine nv_if_geP (tgt := 129) hx hb dX0_before_123 (by decide) ?_
          refine lv_ldc (own := RX0) (v := nI 1000000) hx hb hown (hts _ q153n) dX0_before_126 ?_
          exact hret _ _ _ _ _ (cwX ad di db st mk n tk ps so dp te sc bd de sv me mo (dgs dg 0 0 0 0)) rfl dX0_before_128 (⟨1000000, _, rfl, rfl, valid_L mo, (fun _ mm hm => by
                have k0 := hm 0 (by omega)
                have k1 := hm 1 (by omega)
                have k2 := hm 2 (by omega)
                have k3 := hm 3 (by omega)
                rw [show mj_pack mm = ((25 * mm 0 + mm 1) * 25 + mm 2) * 25 + mm 3 from rfl, show mj_pack a = ((25 * a 0 + a 1) * 25 + a 2) * 25 + a 3 from rfl, show 25 ^ (3 - 0) = 15625 from rfl]
                constructor
                · intro q; exact ⟨by omega, by omega⟩
                · rintro ⟨_, q⟩; omega), fun q => absurd q (by omega)⟩) hP hD hS
      · refine lv_aload_n hx hb dX0_before_68 rfl (lv_at hl 3 rfl) ?_
        refine gX0 hx hb hts hown hK hP 0 rfl 14 (by decide) q51 rfl dX0_before_69 ?_
        refine lv_iload hx hb dX0_before_72 (lv_at hl 1 rfl) ?_
        refine lv_iconst (v := nI 0) hx hb dX0_before_74 (by decide) ?_
        refine nv_bast hx hb hK hP hD hS 10 1 rfl rfl (by omega) (by decide) (by omega) dX0_before_75 (fun H locs hP hD hS => ?_)
        have hP : va_P D vwCl (cwX ad di db st mk n tk ps so dp te sc bd de sv me mo (upN (dgs dg (a 0) 0 0 0) 0 0)) H := hP
        have hD : va_D A (cwX ad di db st mk n tk ps so dp te sc bd de sv me mo (upN (dgs dg (a 0) 0 0 0) 0 0)) := hD
        rw [dgs_u0] at hP hD
        refine lv_aload_n hx hb dX0_before_76 rfl (lv_at hl 3 rfl) ?_
        refine xcall_i (As := []) (rest := []) (ci := 0) ⟨hx, hb, hml, hown, hts⟩ (metX0_packed l D ad di db st mk n tk ps so dp te sc bd de sv me mo (dgs dg 0 0 0 0)) (cwV 0 hts (lw_V q162 q164 qs12 q27 q165) rfl rfl rfl (by decide +kernel) ⟨Nat.le_of_ble_eq_true rfl, Nat.le_of_ble_eq_true rfl⟩) rfl rfl hK hP hD hS hA rfl hl.1 rfl (Nat.le_of_ble_eq_true rfl) dX0_before_77 ⟨Nat.zero_le _, Nat.zero_le _⟩ (fun r u H locs hw hP hD hS => ?_)
        obtain ⟨rfl, rfl⟩ := hw
        exact hret _ _ _ _ _ (cwX ad di db st mk n tk ps so dp te sc bd de sv me mo (dgs dg 0 0 0 0)) rfl dX0_before_80 (⟨mj_pack (dgs dg 0 0 0 0), _, rfl, rfl, Or.inr ⟨_, dgs_ok dg (by omega) (by omega) (by omega) (by omega), rfl⟩, fun q => absurd q (by omega), (fun _ mm hm => by
              have k0 := hm 0 (by omega)
              have k1 := hm 1 (by omega)
              have k2 := hm 2 (by omega)
              have k3 := hm 3 (by omega)
              rw [dgs_pack]; rw [show mj_pack mm = ((25 * mm 0 + mm 1) * 25 + mm 2) * 25 + mm 3 from rfl, show mj_pack a = ((25 * a 0 + a 1) * 25 + a 2) * 25 + a 3 from rfl, show 25 ^ (4 - 0) = 390625 from rfl]
              constructor
              · intro q; exact ⟨by omega, by omega⟩
              · rintro ⟨_, q⟩; omega)⟩) hP hD hS
    · refine lv_aload_n hx hb dX0_before_0 rfl (lv_at hl 0 rfl) ?_
      refine gX0 hx hb hts hown hK hP 0 rfl 3 (by decide) q40 rfl dX0_before_1 ?_
      refine lv_iload_n hx hb dX0_before_4 rfl (lv_at hl 1 rfl) ?_
      refine nv_bald hx hb hK hP 3 1 rfl rfl (by omega) (by decide) dX0_before_5 ?_
      have hld5 := htk k
      refine lv_istore_n (lv' := [(3, .int (nI (tk k))), (0, .ref (ad 0)), (1, .int (nI k)), (2, .int (nI (mj_pack a)))]) hx hb dX0_before_6 rfl hl (by decide) rfl (fun ls hl => ?_)
      refine lv_iload_n hx hb dX0_before_7 rfl (lv_at hl 3 rfl) ?_
      refine lv_ldc (own := RX0) (v := nI 1000000) hx hb hown (hts _ q153n) dX0_before_8 ?_
      refine nv_icmp_ge (tgt := 21) hx hb (by omega) (by omega) dX0_before_10 (by decide) (fun q => absurd q (by omega)) (fun c10 => ?_)
      refine lv_aload_n hx hb dX0_before_13 rfl (lv_at hl 1 rfl) ?_
      refine lv_iload_n hx hb dX0_before_14 rfl (lv_at hl 0 rfl) ?_
      refine pcall_i (As := [.int (nI (tk k))]) (rest := []) (ci := 0) (q0 := 0) ⟨hx, hb, hml, hown, hts⟩ (metX0_binds l (ad 0) (tk k) (by omega)) (cwV 1 hts (lw_V q129 q131 qs5 q27 q132) rfl rfl rfl (by decide +kernel) ⟨Nat.le_of_ble_eq_true rfl, Nat.le_of_ble_eq_true rfl⟩) rfl rfl hK hP rfl hl.1 rfl (Nat.le_of_ble_eq_true rfl) dX0_before_15 ⟨Nat.zero_le _, Nat.zero_le _⟩ (fun r hr => ?_)
      subst hr
      have hbl := bi_le (tk k)
      refine nv_if_ne (tgt := 23) hx hb (by omega) dX0_before_18 (by decide) (fun c18 => ?_) (fun q => absurd q (by omega))
      refine lv_aload_n hx hb dX0_before_23 rfl (lv_at hl 1 rfl) ?_
      refine gX0 hx hb hts hown hK hP 0 rfl 10 (by decide) q47 rfl dX0_before_24 ?_
      refine lv_iload_n hx hb dX0_before_27 rfl (lv_at hl 2 rfl) ?_
      refine nv_bald hx hb hK hP 7 1 rfl rfl (by omega) (by decide) dX0_before_28 ?_
      rw [hd]
      refine lv_istore (lv' := [(4, .int (nI 1)), (3, .int (nI (tk k))), (0, .ref (ad 0)), (1, .int (nI k)), (2, .int (nI (mj_pack a)))]) hx hb dX0_before_29 hl (by decide) rfl (fun ls hl => ?_)
      refine lv_aload_n hx hb dX0_before_31 rfl (lv_at hl 2 rfl) ?_
      refine lv_iload_n hx hb dX0_before_32 rfl (lv_at hl 4 rfl) ?_
      refine xcall_v (As := [.int (nI (mj_pack a))]) (rest := []) (ci := 0) ⟨hx, hb, hml, hown, hts⟩ (metX0_unpack l D ad di db st mk n tk ps so dp te sc bd de sv me mo dg (mj_pack a) (by omega)) (cwV 1 hts (lw_V q158 q160 qs11 q27 q161) rfl rfl rfl (by decide +kernel) ⟨Nat.le_of_ble_eq_true rfl, Nat.le_of_ble_eq_true rfl⟩) rfl rfl hK hP hD hS hA rfl hl.1 rfl (Nat.le_of_ble_eq_true rfl) dX0_before_33 ⟨Nat.zero_le _, Nat.zero_le _⟩ (fun u H locs hw hP hD hS => ?_)
      subst hw
      rw [digs_pack dg hmo ha] at hP hD
      refine lv_iload hx hb dX0_before_36 (lv_at hl 0 rfl) ?_
      refine lv_iconst (v := nI 1) hx hb dX0_before_38 (by decide) ?_
      refine nv_iadd hx hb dX0_before_39 ?_
      refine lv_istore (lv' := [(5, .int (nI 2)), (4, .int (nI 1)), (3, .int (nI (tk k))), (0, .ref (ad 0)), (1, .int (nI k)), (2, .int (nI (mj_pack a)))]) hx hb dX0_before_40 hl (by decide) rfl (fun ls hl => ?_)
      refine lv_iload hx hb dX0_before_42 (lv_at hl 0 rfl) ?_
      refine lv_iconst (v := nI 4) hx hb dX0_before_44 (by decide) ?_
      refine nv_icmp_ge (tgt := 62) hx hb (by omega) (by omega) dX0_before_45 (by decide) (fun q => absurd q (by omega)) (fun c45 => ?_)
      refine lv_aload_n hx hb dX0_before_48 rfl (lv_at hl 3 rfl) ?_
      refine gX0 hx hb hts hown hK hP 0 rfl 14 (by decide) q51 rfl dX0_before_49 ?_
      refine lv_iload hx hb dX0_before_52 (lv_at hl 0 rfl) ?_
      refine lv_iconst (v := nI 0) hx hb dX0_before_54 (by decide) ?_
      refine nv_bast hx hb hK hP hD hS 10 1 rfl rfl (by omega) (by decide) (by omega) dX0_before_55 (fun H locs hP hD hS => ?_)
      have hP : va_P D vwCl (cwX ad di db st mk n tk ps so dp te sc bd de sv me mo (upN (dgs dg (a 0) (a 1) (a 2) (a 3)) 2 0)) H := hP
      have hD : va_D A (cwX ad di db st mk n tk ps so dp te sc bd de sv me mo (upN (dgs dg (a 0) (a 1) (a 2) (a 3)) 2 0)) := hD
      rw [dgs_u2] at hP hD
      refine nv_iinc (k := 0) (lv' := [(5, .int (nI 3)), (4, .int (nI 1)), (3, .int (nI (tk k))), (0, .ref (ad 0)), (1, .int (nI k)), (2, .int (nI (mj_pack a)))]) (v := (nI 3)) hx hb dX0_before_56 hl rfl (nI_inc _) (by decide) rfl (fun ls hl => ?_)
      refine lv_goto (tgt := 42) hx hb dX0_before_59 (by decide) ?_
      refine lv_iload hx hb dX0_before_42 (lv_at hl 0 rfl) ?_
      refine lv_iconst (v := nI 4) hx hb dX0_before_44 (by decide) ?_
      refine nv_icmp_ge (tgt := 62) hx hb (by omega) (by omega) dX0_before_45 (by decide) (fun q => absurd q (by omega)) (fun c45 => ?_)
      refine lv_aload_n hx hb dX0_before_48 rfl (lv_at hl 3 rfl) ?_
      refine gX0 hx hb hts hown hK hP 0 rfl 14 (by decide) q51 rfl dX0_before_49 ?_
      refine lv_iload hx hb dX0_before_52 (lv_at hl 0 rfl) ?_
      refine lv_iconst (v := nI 0) hx hb dX0_before_54 (by decide) ?_
      refine nv_bast hx hb hK hP hD hS 10 1 rfl rfl (by omega) (by decide) (by omega) dX0_before_55 (fun H locs hP hD hS => ?_)
      have hP : va_P D vwCl (cwX ad di db st mk n tk ps so dp te sc bd de sv me mo (upN (dgs dg (a 0) (a 1) 0 (a 3)) 3 0)) H := hP
      have hD : va_D A (cwX ad di db st mk n tk ps so dp te sc bd de sv me mo (upN (dgs dg (a 0) (a 1) 0 (a 3)) 3 0)) := hD
      rw [dgs_u3] at hP hD
      refine nv_iinc (k := 0) (lv' := [(5, .int (nI 4)), (4, .int (nI 1)), (3, .int (nI (tk k))), (0, .ref (ad 0)), (1, .int (nI k)), (2, .int (nI (mj_pack a)))]) (v := (nI 4)) hx hb dX0_before_56 hl rfl (nI_inc _) (by decide) rfl (fun ls hl => ?_)
      refine lv_goto (tgt := 42) hx hb dX0_before_59 (by decide) ?_
      refine lv_iload hx hb dX0_before_42 (lv_at hl 0 rfl) ?_
      refine lv_iconst (v := nI 4) hx hb dX0_before_44 (by decide) ?_
      refine nv_icmp_ge (tgt := 62) hx hb (by omega) (by omega) dX0_before_45 (by decide) (fun c45 => ?_) (fun q => absurd q (by omega))
      refine lv_iload_n hx hb dX0_before_62 rfl (lv_at hl 2 rfl) ?_
      refine lv_bipush (v := nI 13) hx hb dX0_before_63 (by decide) ?_
      refine nv_icmp_lt (tgt := 81) hx hb (by omega) (by omega) dX0_before_65 (by decide) (fun c65 => ?_) (fun c65 => ?_)
      · refine lv_iload hx hb dX0_before_81 (lv_at hl 1 rfl) ?_
        refine lv_istore (lv' := [(5, .int (nI 1)), (4, .int (nI 1)), (3, .int (nI (tk k))), (0, .ref (ad 0)), (1, .int (nI k)), (2, .int (nI (mj_pack a)))]) hx hb dX0_before_83 hl (by decide) rfl (fun ls hl => ?_)
        refine lv_iload hx hb dX0_before_85 (lv_at hl 0 rfl) ?_
        refine nv_if_lt (tgt := 121) hx hb (by omega) dX0_before_87 (by decide) ?_
        refine lv_aload_n hx hb dX0_before_90 rfl (lv_at hl 3 rfl) ?_
        refine gX0 hx hb hts hown hK hP 0 rfl 14 (by decide) q51 rfl dX0_before_91 ?_
        refine lv_iload hx hb dX0_before_94 (lv_at hl 0 rfl) ?_
        refine nv_bald hx hb hK hP 10 1 rfl rfl (by omega) (by decide) dX0_before_96 ?_
        rw [dgs_g1]
        refine lv_aload_n hx hb dX0_before_97 rfl (lv_at hl 3 rfl) ?_
        refine gX0 hx hb hts hown hK hP 0 rfl 13 (by decide) q50 rfl dX0_before_98 ?_
        refine lv_iload hx hb dX0_before_101 (lv_at hl 0 rfl) ?_
        refine nv_bald hx hb hK hP 9 1 rfl rfl (by omega) (by decide) dX0_before_103 ?_
        refine nv_icmp_ne (tgt := 121) hx hb (by omega) (by omega) dX0_before_104 (by decide) (fun c104 => ?_) (fun c104 => ?_)
        · refine lv_iload hx hb dX0_before_121 (lv_at hl 0 rfl) ?_
          refine nv_if_ge (tgt := 129) hx hb (by omega) dX0_before_123 (by decide) ?_
          refine lv_aload_n hx hb dX0_before_129 rfl (lv_at hl 3 rfl) ?_
          refine gX0 hx hb hts hown hK hP 0 rfl 14 (by decide) q51 rfl dX0_before_130 ?_
          refine lv_iload hx hb dX0_before_133 (lv_at hl 0 rfl) ?_
          refine lv_dup2_11 hx hb dX0_before_135 rfl rfl ?_
          refine nv_bald hx hb hK hP 10 1 rfl rfl (by omega) (by decide) dX0_before_136 ?_
          rw [dgs_g1]
          refine lv_iconst (v := nI 1) hx hb dX0_before_137 (by decide) ?_
          refine nv_iadd hx hb dX0_before_138 ?_
          refine nv_i2b hx hb (by omega) dX0_before_139 ?_
          refine nv_bast hx hb hK hP hD hS 10 1 rfl rfl (by omega) (by decide) (by omega) dX0_before_140 (fun H locs hP hD hS => ?_)
          have hP : va_P D vwCl (cwX ad di db st mk n tk ps so dp te sc bd de sv me mo (upN (dgs dg (a 0) (a 1) 0 0) 1 ((a 1) + 1))) H := hP
          have hD : va_D A (cwX ad di db st mk n tk ps so dp te sc bd de sv me mo (upN (dgs dg (a 0) (a 1) 0 0) 1 ((a 1) + 1))) := hD
          rw [dgs_u1] at hP hD
          refine lv_aload_n hx hb dX0_before_141 rfl (lv_at hl 3 rfl) ?_
          refine xcall_i (As := []) (rest := []) (ci := 0) ⟨hx, hb, hml, hown, hts⟩ (metX0_packed l D ad di db st mk n tk ps so dp te sc bd de sv me mo (dgs dg (a 0) ((a 1) + 1) 0 0)) (cwV 0 hts (lw_V q162 q164 qs12 q27 q165) rfl rfl rfl (by decide +kernel) ⟨Nat.le_of_ble_eq_true rfl, Nat.le_of_ble_eq_true rfl⟩) rfl rfl hK hP hD hS hA rfl hl.1 rfl (Nat.le_of_ble_eq_true rfl) dX0_before_142 ⟨Nat.zero_le _, Nat.zero_le _⟩ (fun r u H locs hw hP hD hS => ?_)
          obtain ⟨rfl, rfl⟩ := hw
          exact hret _ _ _ _ _ (cwX ad di db st mk n tk ps so dp te sc bd de sv me mo (dgs dg (a 0) ((a 1) + 1) 0 0)) rfl dX0_before_145 (⟨mj_pack (dgs dg (a 0) ((a 1) + 1) 0 0), _, rfl, rfl, Or.inr ⟨_, dgs_ok dg (by omega) (by omega) (by omega) (by omega), rfl⟩, (fun _ mm hm => by
                have k0 := hm 0 (by omega)
                have k1 := hm 1 (by omega)
                have k2 := hm 2 (by omega)
                have k3 := hm 3 (by omega)
                rw [dgs_pack]; rw [show mj_pack mm = ((25 * mm 0 + mm 1) * 25 + mm 2) * 25 + mm 3 from rfl, show mj_pack a = ((25 * a 0 + a 1) * 25 + a 2) * 25 + a 3 from rfl, show 25 ^ (3 - 1) = 625 from rfl]
                constructor
                · intro q; exact ⟨by omega, by omega⟩
                · rintro ⟨_, q⟩; omega), fun q => absurd q (by omega)⟩) hP hD hS
        · refine lv_aload_n hx hb dX0_before_107 rfl (lv_at hl 3 rfl) ?_
          refine gX0 hx hb hts hown hK hP 0 rfl 14 (by decide) q51 rfl dX0_before_108 ?_
          refine lv_iload hx hb dX0_before_111 (lv_at hl 0 rfl) ?_
          refine lv_iconst (v := nI 0) hx hb dX0_before_113 (by decide) ?_
          refine nv_bast hx hb hK hP hD hS 10 1 rfl rfl (by omega) (by decide) (by omega) dX0_before_114 (fun H locs hP hD hS => ?_)
          have hP : va_P D vwCl (cwX ad di db st mk n tk ps so dp te sc bd de sv me mo (upN (dgs dg (a 0) (a 1) 0 0) 1 0)) H := hP
          have hD : va_D A (cwX ad di db st mk n tk ps so dp te sc bd de sv me mo (upN (dgs dg (a 0) (a 1) 0 0) 1 0)) := hD
          rw [dgs_u1] at hP hD
          refine nv_iinc (k := 0) (lv' := [(5, .int (nP 1)), (4, .int (nI 1)), (3, .int (nI (tk k))), (0, .ref (ad 0)), (1, .int (nI k)), (2, .int (nI (mj_pack a)))]) (v := (nP 1)) hx hb dX0_before_115 hl rfl (nI_dec _) (by decide) rfl (fun ls hl => ?_)
          refine lv_goto (tgt := 85) hx hb dX0_before_118 (by decide) ?_
          rw [show nP 1 = nI 0 by decide] at hl
          refine lv_iload hx hb dX0_before_85 (lv_at hl 0 rfl) ?_
          refine nv_if_lt (tgt := 121) hx hb (by omega) dX0_before_87 (by decide) ?_
          refine lv_aload_n hx hb dX0_before_90 rfl (lv_at hl 3 rfl) ?_
          refine gX0 hx hb hts hown hK hP 0 rfl 14 (by decide) q51 rfl dX0_before_91 ?_
          refine lv_iload hx hb dX0_before_94 (lv_at hl 0 rfl) ?_
          refine nv_bald hx hb hK hP 10 1 rfl rfl (by omega) (by decide) dX0_before_96 ?_
          rw [dgs_g0]
          refine lv_aload_n hx hb dX0_before_97 rfl (lv_at hl 3 rfl) ?_
          refine gX0 hx hb hts hown hK hP 0 rfl 13 (by decide) q50 rfl dX0_before_98 ?_
          refine lv_iload hx hb dX0_before_101 (lv_at hl 0 rfl) ?_
          refine nv_bald hx hb hK hP 9 1 rfl rfl (by omega) (by decide) dX0_before_103 ?_
          refine nv_icmp_ne (tgt := 121) hx hb (by omega) (by omega) dX0_before_104 (by decide) (fun c104 => ?_) (fun c104 => ?_)
          · refine lv_iload hx hb dX0_before_121 (lv_at hl 0 rfl) ?_
            refine nv_if_ge (tgt := 129) hx hb (by omega) dX0_before_123 (by decide) ?_
            refine lv_aload_n hx hb dX0_before_129 rfl (lv_at hl 3 rfl) ?_
            refine gX0 hx hb hts hown hK hP 0 rfl 14 (by decide) q51 rfl dX0_before_130 ?_
            refine lv_iload hx hb dX0_before_133 (lv_at hl 0 rfl) ?_
            refine lv_dup2_11 hx hb dX0_before_135 rfl rfl ?_
            refine nv_bald hx hb hK hP 10 1 rfl rfl (by omega) (by decide) dX0_before_136 ?_
            rw [dgs_g0]
            refine lv_iconst (v := nI 1) hx hb dX0_before_137 (by decide) ?_
            refine nv_iadd hx hb dX0_before_138 ?_
            refine nv_i2b hx hb (by omega) dX0_before_139 ?_
            refine nv_bast hx hb hK hP hD hS 10 1 rfl rfl (by omega) (by decide) (by omega) dX0_before_140 (fun H locs hP hD hS => ?_)
            have hP : va_P D vwCl (cwX ad di db st mk n tk ps so dp te sc bd de sv me mo (upN (dgs dg (a 0) 0 0 0) 0 ((a 0) + 1))) H := hP
            have hD : va_D A (cwX ad di db st mk n tk ps so dp te sc bd de sv me mo (upN (dgs dg (a 0) 0 0 0) 0 ((a 0) + 1))) := hD
            rw [dgs_u0] at hP hD
            refine lv_aload_n hx hb dX0_before_141 rfl (lv_at hl 3 rfl) ?_
            refine xcall_i (As := []) (rest := []) (ci := 0) ⟨hx, hb, hml, hown, hts⟩ (metX0_packed l D ad di db st mk n tk ps so dp te sc bd de sv me mo (dgs dg ((a 0) + 1) 0 0 0)) (cwV 0 hts (lw_V q162 q164 qs12 q27 q165) rfl rfl rfl (by decide +kernel) ⟨Nat.le_of_ble_eq_true rfl, Nat.le_of_ble_eq_true rfl⟩) rfl rfl hK hP hD hS hA rfl hl.1 rfl (Nat.le_of_ble_eq_true rfl) dX0_before_142 ⟨Nat.zero_le _, Nat.zero_le _⟩ (fun r u H locs hw hP hD hS => ?_)
            obtain ⟨rfl, rfl⟩ := hw
            exact hret _ _ _ _ _ (cwX ad di db st mk n tk ps so dp te sc bd de sv me mo (dgs dg ((a 0) + 1) 0 0 0)) rfl dX0_before_145 (⟨mj_pack (dgs dg ((a 0) + 1) 0 0 0), _, rfl, rfl, Or.inr ⟨_, dgs_ok dg (by omega) (by omega) (by omega) (by omega), rfl⟩, (fun _ mm hm => by
                  have k0 := hm 0 (by omega)
                  have k1 := hm 1 (by omega)
                  have k2 := hm 2 (by omega)
                  have k3 := hm 3 (by omega)
                  rw [dgs_pack]; rw [show mj_pack mm = ((25 * mm 0 + mm 1) * 25 + mm 2) * 25 + mm 3 from rfl, show mj_pack a = ((25 * a 0 + a 1) * 25 + a 2) * 25 + a 3 from rfl, show 25 ^ (3 - 1) = 625 from rfl]
                  constructor
                  · intro q; exact ⟨by omega, by omega⟩
                  · rintro ⟨_, q⟩; omega), fun q => absurd q (by omega)⟩) hP hD hS
          · refine lv_aload_n hx hb dX0_before_107 rfl (lv_at hl 3 rfl) ?_
            refine gX0 hx hb hts hown hK hP 0 rfl 14 (by decide) q51 rfl dX0_before_108 ?_
            refine lv_iload hx hb dX0_before_111 (lv_at hl 0 rfl) ?_
            refine lv_iconst (v := nI 0) hx hb dX0_before_113 (by decide) ?_
            refine nv_bast hx hb hK hP hD hS 10 1 rfl rfl (by omega) (by decide) (by omega) dX0_before_114 (fun H locs hP hD hS => ?_)
            have hP : va_P D vwCl (cwX ad di db st mk n tk ps so dp te sc bd de sv me mo (upN (dgs dg (a 0) 0 0 0) 0 0)) H := hP
            have hD : va_D A (cwX ad di db st mk n tk ps so dp te sc bd de sv me mo (upN (dgs dg (a 0) 0 0 0) 0 0)) := hD
            rw [dgs_u0] at hP hD
            refine nv_iinc (k := 0) (lv' := [(5, .int (nP 0)), (4, .int (nI 1)), (3, .int (nI (tk k))), (0, .ref (ad 0)), (1, .int (nI k)), (2, .int (nI (mj_pack a)))]) (v := (nP 0)) hx hb dX0_before_115 hl rfl (nI_dec _) (by decide) rfl (fun ls hl => ?_)
            refine lv_goto (tgt := 85) hx hb dX0_before_118 (by decide) ?_
            refine lv_iload hx hb dX0_before_85 (lv_at hl 0 rfl) ?_
            refine nv_if_ltP (tgt := 121) hx hb dX0_before_87 (by decide) ?_
            refine lv_iload hx hb dX0_before_121 (lv_at hl 0 rfl) ?_
            refine nv_if_geP (tgt := 129) hx hb dX0_before_123 (by decide) ?_
            refine lv_ldc (own := RX0) (v := nI 1000000) hx hb hown (hts _ q153n) dX0_before_126 ?_
            exact hret _ _ _ _ _ (cwX ad di db st mk n tk ps so dp te sc bd de sv me mo (dgs dg 0 0 0 0)) rfl dX0_before_128 (⟨1000000, _, rfl, rfl, valid_L mo, (fun _ mm hm => by
                  have k0 := hm 0 (by omega)
                  have k1 := hm 1 (by omega)
                  have k2 := hm 2 (by omega)
                  have k3 := hm 3 (by omega)
                  rw [show mj_pack mm = ((25 * mm 0 + mm 1) * 25 + mm 2) * 25 + mm 3 from rfl, show mj_pack a = ((25 * a 0 + a 1) * 25 + a 2) * 25 + a 3 from rfl, show 25 ^ (3 - 1) = 625 from rfl]
                  constructor
                  · intro q; exact ⟨by omega, by omega⟩
                  · rintro ⟨_, q⟩; omega), fun q => absurd q (by omega)⟩) hP hD hS
      · refine lv_aload_n hx hb dX0_before_68 rfl (lv_at hl 3 rfl) ?_
        refine gX0 hx hb hts hown hK hP 0 rfl 14 (by decide) q51 rfl dX0_before_69 ?_
        refine lv_iload hx hb dX0_before_72 (lv_at hl 1 rfl) ?_
        refine lv_iconst (v := nI 0) hx hb dX0_before_74 (by decide) ?_
        refine nv_bast hx hb hK hP hD hS 10 1 rfl rfl (by omega) (by decide) (by omega) dX0_before_75 (fun H locs hP hD hS => ?_)
        have hP : va_P D vwCl (cwX ad di db st mk n tk ps so dp te sc bd de sv me mo (upN (dgs dg (a 0) (a 1) 0 0) 1 0)) H := hP
        have hD : va_D A (cwX ad di db st mk n tk ps so dp te sc bd de sv me mo (upN (dgs dg (a 0) (a 1) 0 0) 1 0)) := hD
        rw [dgs_u1] at hP hD
        refine lv_aload_n hx hb dX0_before_76 rfl (lv_at hl 3 rfl) ?_
        refine xcall_i (As := []) (rest := []) (ci := 0) ⟨hx, hb, hml, hown, hts⟩ (metX0_packed l D ad di db st mk n tk ps so dp te sc bd de sv me mo (dgs dg (a 0) 0 0 0)) (cwV 0 hts (lw_V q162 q164 qs12 q27 q165) rfl rfl rfl (by decide +kernel) ⟨Nat.le_of_ble_eq_true rfl, Nat.le_of_ble_eq_true rfl⟩) rfl rfl hK hP hD hS hA rfl hl.1 rfl (Nat.le_of_ble_eq_true rfl) dX0_before_77 ⟨Nat.zero_le _, Nat.zero_le _⟩ (fun r u H locs hw hP hD hS => ?_)
        obtain ⟨rfl, rfl⟩ := hw
        exact hret _ _ _ _ _ (cwX ad di db st mk n tk ps so dp te sc bd de sv me mo (dgs dg (a 0) 0 0 0)) rfl dX0_before_80 (⟨mj_pack (dgs dg (a 0) 0 0 0), _, rfl, rfl, Or.inr ⟨_, dgs_ok dg (by omega) (by omega) (by omega) (by omega), rfl⟩, fun q => absurd q (by omega), (fun _ mm hm => by
              have k0 := hm 0 (by omega)
              have k1 := hm 1 (by omega)
              have k2 := hm 2 (by omega)
              have k3 := hm 3 (by omega)
              rw [dgs_pack]; rw [show mj_pack mm = ((25 * mm 0 + mm 1) * 25 + mm 2) * 25 + mm 3 from rfl, show mj_pack a = ((25 * a 0 + a 1) * 25 + a 2) * 25 + a 3 from rfl, show 25 ^ (4 - 1) = 15625 from rfl]
              constructor
              · intro q; exact ⟨by omega, by omega⟩
              · rintro ⟨_, q⟩; omega)⟩) hP hD hS
    · refine lv_aload_n hx hb dX0_before_0 rfl (lv_at hl 0 rfl) ?_
      refine gX0 hx hb hts hown hK hP 0 rfl 3 (by decide) q40 rfl dX0_before_1 ?_
      refine lv_iload_n hx hb dX0_before_4 rfl (lv_at hl 1 rfl) ?_
      refine nv_bald hx hb hK hP 3 1 rfl rfl (by omega) (by decide) dX0_before_5 ?_
      have hld5 := htk k
      refine lv_istore_n (lv' := [(3, .int (nI (tk k))), (0, .ref (ad 0)), (1, .int (nI k)), (2, .int (nI (mj_pack a)))]) hx hb dX0_before_6 rfl hl (by decide) rfl (fun ls hl => ?_)
      refine lv_iload_n hx hb dX0_before_7 rfl (lv_at hl 3 rfl) ?_
      refine lv_ldc (own := RX0) (v := nI 1000000) hx hb hown (hts _ q153n) dX0_before_8 ?_
      refine nv_icmp_ge (tgt := 21) hx hb (by omega) (by omega) dX0_before_10 (by decide) (fun q => absurd q (by omega)) (fun c10 => ?_)
      refine lv_aload_n hx hb dX0_before_13 rfl (lv_at hl 1 rfl) ?_
      refine lv_iload_n hx hb dX0_before_14 rfl (lv_at hl 0 rfl) ?_
      refine pcall_i (As := [.int (nI (tk k))]) (rest := []) (ci := 0) (q0 := 0) ⟨hx, hb, hml, hown, hts⟩ (metX0_binds l (ad 0) (tk k) (by omega)) (cwV 1 hts (lw_V q129 q131 qs5 q27 q132) rfl rfl rfl (by decide +kernel) ⟨Nat.le_of_ble_eq_true rfl, Nat.le_of_ble_eq_true rfl⟩) rfl rfl hK hP rfl hl.1 rfl (Nat.le_of_ble_eq_true rfl) dX0_before_15 ⟨Nat.zero_le _, Nat.zero_le _⟩ (fun r hr => ?_)
      subst hr
      have hbl := bi_le (tk k)
      refine nv_if_ne (tgt := 23) hx hb (by omega) dX0_before_18 (by decide) (fun c18 => ?_) (fun q => absurd q (by omega))
      refine lv_aload_n hx hb dX0_before_23 rfl (lv_at hl 1 rfl) ?_
      refine gX0 hx hb hts hown hK hP 0 rfl 10 (by decide) q47 rfl dX0_before_24 ?_
      refine lv_iload_n hx hb dX0_before_27 rfl (lv_at hl 2 rfl) ?_
      refine nv_bald hx hb hK hP 7 1 rfl rfl (by omega) (by decide) dX0_before_28 ?_
      rw [hd]
      refine lv_istore (lv' := [(4, .int (nI 2)), (3, .int (nI (tk k))), (0, .ref (ad 0)), (1, .int (nI k)), (2, .int (nI (mj_pack a)))]) hx hb dX0_before_29 hl (by decide) rfl (fun ls hl => ?_)
      refine lv_aload_n hx hb dX0_before_31 rfl (lv_at hl 2 rfl) ?_
      refine lv_iload_n hx hb dX0_before_32 rfl (lv_at hl 4 rfl) ?_
      refine xcall_v (As := [.int (nI (mj_pack a))]) (rest := []) (ci := 0) ⟨hx, hb, hml, hown, hts⟩ (metX0_unpack l D ad di db st mk n tk ps so dp te sc bd de sv me mo dg (mj_pack a) (by omega)) (cwV 1 hts (lw_V q158 q160 qs11 q27 q161) rfl rfl rfl (by decide +kernel) ⟨Nat.le_of_ble_eq_true rfl, Nat.le_of_ble_eq_true rfl⟩) rfl rfl hK hP hD hS hA rfl hl.1 rfl (Nat.le_of_ble_eq_true rfl) dX0_before_33 ⟨Nat.zero_le _, Nat.zero_le _⟩ (fun u H locs hw hP hD hS => ?_)
      subst hw
      rw [digs_pack dg hmo ha] at hP hD
      refine lv_iload hx hb dX0_before_36 (lv_at hl 0 rfl) ?_
      refine lv_iconst (v := nI 1) hx hb dX0_before_38 (by decide) ?_
      refine nv_iadd hx hb dX0_before_39 ?_
      refine lv_istore (lv' := [(5, .int (nI 3)), (4, .int (nI 2)), (3, .int (nI (tk k))), (0, .ref (ad 0)), (1, .int (nI k)), (2, .int (nI (mj_pack a)))]) hx hb dX0_before_40 hl (by decide) rfl (fun ls hl => ?_)
      refine lv_iload hx hb dX0_before_42 (lv_at hl 0 rfl) ?_
      refine lv_iconst (v := nI 4) hx hb dX0_before_44 (by decide) ?_
      refine nv_icmp_ge (tgt := 62) hx hb (by omega) (by omega) dX0_before_45 (by decide) (fun q => absurd q (by omega)) (fun c45 => ?_)
      refine lv_aload_n hx hb dX0_before_48 rfl (lv_at hl 3 rfl) ?_
      refine gX0 hx hb hts hown hK hP 0 rfl 14 (by decide) q51 rfl dX0_before_49 ?_
      refine lv_iload hx hb dX0_before_52 (lv_at hl 0 rfl) ?_
      refine lv_iconst (v := nI 0) hx hb dX0_before_54 (by decide) ?_
      refine nv_bast hx hb hK hP hD hS 10 1 rfl rfl (by omega) (by decide) (by omega) dX0_before_55 (fun H locs hP hD hS => ?_)
      have hP : va_P D vwCl (cwX ad di db st mk n tk ps so dp te sc bd de sv me mo (upN (dgs dg (a 0) (a 1) (a 2) (a 3)) 3 0)) H := hP
      have hD : va_D A (cwX ad di db st mk n tk ps so dp te sc bd de sv me mo (upN (dgs dg (a 0) (a 1) (a 2) (a 3)) 3 0)) := hD
      rw [dgs_u3] at hP hD
      refine nv_iinc (k := 0) (lv' := [(5, .int (nI 4)), (4, .int (nI 2)), (3, .int (nI (tk k))), (0, .ref (ad 0)), (1, .int (nI k)), (2, .int (nI (mj_pack a)))]) (v := (nI 4)) hx hb dX0_before_56 hl rfl (nI_inc _) (by decide) rfl (fun ls hl => ?_)
      refine lv_goto (tgt := 42) hx hb dX0_before_59 (by decide) ?_
      refine lv_iload hx hb dX0_before_42 (lv_at hl 0 rfl) ?_
      refine lv_iconst (v := nI 4) hx hb dX0_before_44 (by decide) ?_
      refine nv_icmp_ge (tgt := 62) hx hb (by omega) (by omega) dX0_before_45 (by decide) (fun c45 => ?_) (fun q => absurd q (by omega))
      refine lv_iload_n hx hb dX0_before_62 rfl (lv_at hl 2 rfl) ?_
      refine lv_bipush (v := nI 13) hx hb dX0_before_63 (by decide) ?_
      refine nv_icmp_lt (tgt := 81) hx hb (by omega) (by omega) dX0_before_65 (by decide) (fun c65 => ?_) (fun c65 => ?_)
      · refine lv_iload hx hb dX0_before_81 (lv_at hl 1 rfl) ?_
        refine lv_istore (lv' := [(5, .int (nI 2)), (4, .int (nI 2)), (3, .int (nI (tk k))), (0, .ref (ad 0)), (1, .int (nI k)), (2, .int (nI (mj_pack a)))]) hx hb dX0_before_83 hl (by decide) rfl (fun ls hl => ?_)
        refine lv_iload hx hb dX0_before_85 (lv_at hl 0 rfl) ?_
        refine nv_if_lt (tgt := 121) hx hb (by omega) dX0_before_87 (by decide) ?_
        refine lv_aload_n hx hb dX0_before_90 rfl (lv_at hl 3 rfl) ?_
        refine gX0 hx hb hts hown hK hP 0 rfl 14 (by decide) q51 rfl dX0_before_91 ?_
        refine lv_iload hx hb dX0_before_94 (lv_at hl 0 rfl) ?_
        refine nv_bald hx hb hK hP 10 1 rfl rfl (by omega) (by decide) dX0_before_96 ?_
        rw [dgs_g2]
        refine lv_aload_n hx hb dX0_before_97 rfl (lv_at hl 3 rfl) ?_
        refine gX0 hx hb hts hown hK hP 0 rfl 13 (by decide) q50 rfl dX0_before_98 ?_
        refine lv_iload hx hb dX0_before_101 (lv_at hl 0 rfl) ?_
        refine nv_bald hx hb hK hP 9 1 rfl rfl (by omega) (by decide) dX0_before_103 ?_
        refine nv_icmp_ne (tgt := 121) hx hb (by omega) (by omega) dX0_before_104 (by decide) (fun c104 => ?_) (fun c104 => ?_)
        · refine lv_iload hx hb dX0_before_121 (lv_at hl 0 rfl) ?_
          refine nv_if_ge (tgt := 129) hx hb (by omega) dX0_before_123 (by decide) ?_
          refine lv_aload_n hx hb dX0_before_129 rfl (lv_at hl 3 rfl) ?_
          refine gX0 hx hb hts hown hK hP 0 rfl 14 (by decide) q51 rfl dX0_before_130 ?_
          refine lv_iload hx hb dX0_before_133 (lv_at hl 0 rfl) ?_
          refine lv_dup2_11 hx hb dX0_before_135 rfl rfl ?_
          refine nv_bald hx hb hK hP 10 1 rfl rfl (by omega) (by decide) dX0_before_136 ?_
          rw [dgs_g2]
          refine lv_iconst (v := nI 1) hx hb dX0_before_137 (by decide) ?_
          refine nv_iadd hx hb dX0_before_138 ?_
          refine nv_i2b hx hb (by omega) dX0_before_139 ?_
          refine nv_bast hx hb hK hP hD hS 10 1 rfl rfl (by omega) (by decide) (by omega) dX0_before_140 (fun H locs hP hD hS => ?_)
          have hP : va_P D vwCl (cwX ad di db st mk n tk ps so dp te sc bd de sv me mo (upN (dgs dg (a 0) (a 1) (a 2) 0) 2 ((a 2) + 1))) H := hP
          have hD : va_D A (cwX ad di db st mk n tk ps so dp te sc bd de sv me mo (upN (dgs dg (a 0) (a 1) (a 2) 0) 2 ((a 2) + 1))) := hD
          rw [dgs_u2] at hP hD
          refine lv_aload_n hx hb dX0_before_141 rfl (lv_at hl 3 rfl) ?_
          refine xcall_i (As := []) (rest := []) (ci := 0) ⟨hx, hb, hml, hown, hts⟩ (metX0_packed l D ad di db st mk n tk ps so dp te sc bd de sv me mo (dgs dg (a 0) (a 1) ((a 2) + 1) 0)) (cwV 0 hts (lw_V q162 q164 qs12 q27 q165) rfl rfl rfl (by decide +kernel) ⟨Nat.le_of_ble_eq_true rfl, Nat.le_of_ble_eq_true rfl⟩) rfl rfl hK hP hD hS hA rfl hl.1 rfl (Nat.le_of_ble_eq_true rfl) dX0_before_142 ⟨Nat.zero_le _, Nat.zero_le _⟩ (fun r u H locs hw hP hD hS => ?_)
          obtain ⟨rfl, rfl⟩ := hw
          exact hret _ _ _ _ _ (cwX ad di db st mk n tk ps so dp te sc bd de sv me mo (dgs dg (a 0) (a 1) ((a 2) + 1) 0)) rfl dX0_before_145 (⟨mj_pack (dgs dg (a 0) (a 1) ((a 2) + 1) 0), _, rfl, rfl, Or.inr ⟨_, dgs_ok dg (by omega) (by omega) (by omega) (by omega), rfl⟩, (fun _ mm hm => by
                have k0 := hm 0 (by omega)
                have k1 := hm 1 (by omega)
                have k2 := hm 2 (by omega)
                have k3 := hm 3 (by omega)
                rw [dgs_pack]; rw [show mj_pack mm = ((25 * mm 0 + mm 1) * 25 + mm 2) * 25 + mm 3 from rfl, show mj_pack a = ((25 * a 0 + a 1) * 25 + a 2) * 25 + a 3 from rfl, show 25 ^ (3 - 2) = 25 from rfl]
                constructor
                · intro q; exact ⟨by omega, by omega⟩
                · rintro ⟨_, q⟩; omega), fun q => absurd q (by omega)⟩) hP hD hS
        · refine lv_aload_n hx hb dX0_before_107 rfl (lv_at hl 3 rfl) ?_
          refine gX0 hx hb hts hown hK hP 0 rfl 14 (by decide) q51 rfl dX0_before_108 ?_
          refine lv_iload hx hb dX0_before_111 (lv_at hl 0 rfl) ?_
          refine lv_iconst (v := nI 0) hx hb dX0_before_113 (by decide) ?_
          refine nv_bast hx hb hK hP hD hS 10 1 rfl rfl (by omega) (by decide) (by omega) dX0_before_114 (fun H locs hP hD hS => ?_)
          have hP : va_P D vwCl (cwX ad di db st mk n tk ps so dp te sc bd de sv me mo (upN (dgs dg (a 0) (a 1) (a 2) 0) 2 0)) H := hP
          have hD : va_D A (cwX ad di db st mk n tk ps so dp te sc bd de sv me mo (upN (dgs dg (a 0) (a 1) (a 2) 0) 2 0)) := hD
          rw [dgs_u2] at hP hD
          refine nv_iinc (k := 0) (lv' := [(5, .int (nP 2)), (4, .int (nI 2)), (3, .int (nI (tk k))), (0, .ref (ad 0)), (1, .int (nI k)), (2, .int (nI (mj_pack a)))]) (v := (nP 2)) hx hb dX0_before_115 hl rfl (nI_dec _) (by decide) rfl (fun ls hl => ?_)
          refine lv_goto (tgt := 85) hx hb dX0_before_118 (by decide) ?_
          rw [show nP 2 = nI 1 by decide] at hl
          refine lv_iload hx hb dX0_before_85 (lv_at hl 0 rfl) ?_
          refine nv_if_lt (tgt := 121) hx hb (by omega) dX0_before_87 (by decide) ?_
          refine lv_aload_n hx hb dX0_before_90 rfl (lv_at hl 3 rfl) ?_
          refine gX0 hx hb hts hown hK hP 0 rfl 14 (by decide) q51 rfl dX0_before_91 ?_
          refine lv_iload hx hb dX0_before_94 (lv_at hl 0 rfl) ?_
          refine nv_bald hx hb hK hP 10 1 rfl rfl (by omega) (by decide) dX0_before_96 ?_
          rw [dgs_g1]
          refine lv_aload_n hx hb dX0_before_97 rfl (lv_at hl 3 rfl) ?_
          refine gX0 hx hb hts hown hK hP 0 rfl 13 (by decide) q50 rfl dX0_before_98 ?_
          refine lv_iload hx hb dX0_before_101 (lv_at hl 0 rfl) ?_
          refine nv_bald hx hb hK hP 9 1 rfl rfl (by omega) (by decide) dX0_before_103 ?_
          refine nv_icmp_ne (tgt := 121) hx hb (by omega) (by omega) dX0_before_104 (by decide) (fun c104 => ?_) (fun c104 => ?_)
          · refine lv_iload hx hb dX0_before_121 (lv_at hl 0 rfl) ?_
            refine nv_if_ge (tgt := 129) hx hb (by omega) dX0_before_123 (by decide) ?_
            refine lv_aload_n hx hb dX0_before_129 rfl (lv_at hl 3 rfl) ?_
            refine gX0 hx hb hts hown hK hP 0 rfl 14 (by decide) q51 rfl dX0_before_130 ?_
            refine lv_iload hx hb dX0_before_133 (lv_at hl 0 rfl) ?_
            refine lv_dup2_11 hx hb dX0_before_135 rfl rfl ?_
            refine nv_bald hx hb hK hP 10 1 rfl rfl (by omega) (by decide) dX0_before_136 ?_
            rw [dgs_g1]
            refine lv_iconst (v := nI 1) hx hb dX0_before_137 (by decide) ?_
            refine nv_iadd hx hb dX0_before_138 ?_
            refine nv_i2b hx hb (by omega) dX0_before_139 ?_
            refine nv_bast hx hb hK hP hD hS 10 1 rfl rfl (by omega) (by decide) (by omega) dX0_before_140 (fun H locs hP hD hS => ?_)
            have hP : va_P D vwCl (cwX ad di db st mk n tk ps so dp te sc bd de sv me mo (upN (dgs dg (a 0) (a 1) 0 0) 1 ((a 1) + 1))) H := hP
            have hD : va_D A (cwX ad di db st mk n tk ps so dp te sc bd de sv me mo (upN (dgs dg (a 0) (a 1) 0 0) 1 ((a 1) + 1))) := hD
            rw [dgs_u1] at hP hD
            refine lv_aload_n hx hb dX0_before_141 rfl (lv_at hl 3 rfl) ?_
            refine xcall_i (As := []) (rest := []) (ci := 0) ⟨hx, hb, hml, hown, hts⟩ (metX0_packed l D ad di db st mk n tk ps so dp te sc bd de sv me mo (dgs dg (a 0) ((a 1) + 1) 0 0)) (cwV 0 hts (lw_V q162 q164 qs12 q27 q165) rfl rfl rfl (by decide +kernel) ⟨Nat.le_of_ble_eq_true rfl, Nat.le_of_ble_eq_true rfl⟩) rfl rfl hK hP hD hS hA rfl hl.1 rfl (Nat.le_of_ble_eq_true rfl) dX0_before_142 ⟨Nat.zero_le _, Nat.zero_le _⟩ (fun r u H locs hw hP hD hS => ?_)
            obtain ⟨rfl, rfl⟩ := hw
            exact hret _ _ _ _ _ (cwX ad di db st mk n tk ps so dp te sc bd de sv me mo (dgs dg (a 0) ((a 1) + 1) 0 0)) rfl dX0_before_145 (⟨mj_pack (dgs dg (a 0) ((a 1) + 1) 0 0), _, rfl, rfl, Or.inr ⟨_, dgs_ok dg (by omega) (by omega) (by omega) (by omega), rfl⟩, (fun _ mm hm => by
                  have k0 := hm 0 (by omega)
                  have k1 := hm 1 (by omega)
                  have k2 := hm 2 (by omega)
                  have k3 := hm 3 (by omega)
                  rw [dgs_pack]; rw [show mj_pack mm = ((25 * mm 0 + mm 1) * 25 + mm 2) * 25 + mm 3 from rfl, show mj_pack a = ((25 * a 0 + a 1) * 25 + a 2) * 25 + a 3 from rfl, show 25 ^ (3 - 2) = 25 from rfl]
                  constructor
                  · intro q; exact ⟨by omega, by omega⟩
                  · rintro ⟨_, q⟩; omega), fun q => absurd q (by omega)⟩) hP hD hS
          · refine lv_aload_n hx hb dX0_before_107 rfl (lv_at hl 3 rfl) ?_
            refine gX0 hx hb hts hown hK hP 0 rfl 14 (by decide) q51 rfl dX0_before_108 ?_
            refine lv_iload hx hb dX0_before_111 (lv_at hl 0 rfl) ?_
            refine lv_iconst (v := nI 0) hx hb dX0_before_113 (by decide) ?_
            refine nv_bast hx hb hK hP hD hS 10 1 rfl rfl (by omega) (by decide) (by omega) dX0_before_114 (fun H locs hP hD hS => ?_)
            have hP : va_P D vwCl (cwX ad di db st mk n tk ps so dp te sc bd de sv me mo (upN (dgs dg (a 0) (a 1) 0 0) 1 0)) H := hP
            have hD : va_D A (cwX ad di db st mk n tk ps so dp te sc bd de sv me mo (upN (dgs dg (a 0) (a 1) 0 0) 1 0)) := hD
            rw [dgs_u1] at hP hD
            refine nv_iinc (k := 0) (lv' := [(5, .int (nP 1)), (4, .int (nI 2)), (3, .int (nI (tk k))), (0, .ref (ad 0)), (1, .int (nI k)), (2, .int (nI (mj_pack a)))]) (v := (nP 1)) hx hb dX0_before_115 hl rfl (nI_dec _) (by decide) rfl (fun ls hl => ?_)
            refine lv_goto (tgt := 85) hx hb dX0_before_118 (by decide) ?_
            rw [show nP 1 = nI 0 by decide] at hl
            refine lv_iload hx hb dX0_before_85 (lv_at hl 0 rfl) ?_
            refine nv_if_lt (tgt := 121) hx hb (by omega) dX0_before_87 (by decide) ?_
            refine lv_aload_n hx hb dX0_before_90 rfl (lv_at hl 3 rfl) ?_
            refine gX0 hx hb hts hown hK hP 0 rfl 14 (by decide) q51 rfl dX0_before_91 ?_
            refine lv_iload hx hb dX0_before_94 (lv_at hl 0 rfl) ?_
            refine nv_bald hx hb hK hP 10 1 rfl rfl (by omega) (by decide) dX0_before_96 ?_
            rw [dgs_g0]
            refine lv_aload_n hx hb dX0_before_97 rfl (lv_at hl 3 rfl) ?_
            refine gX0 hx hb hts hown hK hP 0 rfl 13 (by decide) q50 rfl dX0_before_98 ?_
            refine lv_iload hx hb dX0_before_101 (lv_at hl 0 rfl) ?_
            refine nv_bald hx hb hK hP 9 1 rfl rfl (by omega) (by decide) dX0_before_103 ?_
            refine nv_icmp_ne (tgt := 121) hx hb (by omega) (by omega) dX0_before_104 (by decide) (fun c104 => ?_) (fun c104 => ?_)
            · refine lv_iload hx hb dX0_before_121 (lv_at hl 0 rfl) ?_
              refine nv_if_ge (tgt := 129) hx hb (by omega) dX0_before_123 (by decide) ?_
              refine lv_aload_n hx hb dX0_before_129 rfl (lv_at hl 3 rfl) ?_
              refine gX0 hx hb hts hown hK hP 0 rfl 14 (by decide) q51 rfl dX0_before_130 ?_
              refine lv_iload hx hb dX0_before_133 (lv_at hl 0 rfl) ?_
              refine lv_dup2_11 hx hb dX0_before_135 rfl rfl ?_
              refine nv_bald hx hb hK hP 10 1 rfl rfl (by omega) (by decide) dX0_before_136 ?_
              rw [dgs_g0]
              refine lv_iconst (v := nI 1) hx hb dX0_before_137 (by decide) ?_
              refine nv_iadd hx hb dX0_before_138 ?_
              refine nv_i2b hx hb (by omega) dX0_before_139 ?_
              refine nv_bast hx hb hK hP hD hS 10 1 rfl rfl (by omega) (by decide) (by omega) dX0_before_140 (fun H locs hP hD hS => ?_)
              have hP : va_P D vwCl (cwX ad di db st mk n tk ps so dp te sc bd de sv me mo (upN (dgs dg (a 0) 0 0 0) 0 ((a 0) + 1))) H := hP
              have hD : va_D A (cwX ad di db st mk n tk ps so dp te sc bd de sv me mo (upN (dgs dg (a 0) 0 0 0) 0 ((a 0) + 1))) := hD
              rw [dgs_u0] at hP hD
              refine lv_aload_n hx hb dX0_before_141 rfl (lv_at hl 3 rfl) ?_
              refine xcall_i (As := []) (rest := []) (ci := 0) ⟨hx, hb, hml, hown, hts⟩ (metX0_packed l D ad di db st mk n tk ps so dp te sc bd de sv me mo (dgs dg ((a 0) + 1) 0 0 0)) (cwV 0 hts (lw_V q162 q164 qs12 q27 q165) rfl rfl rfl (by decide +kernel) ⟨Nat.le_of_ble_eq_true rfl, Nat.le_of_ble_eq_true rfl⟩) rfl rfl hK hP hD hS hA rfl hl.1 rfl (Nat.le_of_ble_eq_true rfl) dX0_before_142 ⟨Nat.zero_le _, Nat.zero_le _⟩ (fun r u H locs hw hP hD hS => ?_)
              obtain ⟨rfl, rfl⟩ := hw
              exact hret _ _ _ _ _ (cwX ad di db st mk n tk ps so dp te sc bd de sv me mo (dgs dg ((a 0) + 1) 0 0 0)) rfl dX0_before_145 (⟨mj_pack (dgs dg ((a 0) + 1) 0 0 0), _, rfl, rfl, Or.inr ⟨_, dgs_ok dg (by omega) (by omega) (by omega) (by omega), rfl⟩, (fun _ mm hm => by
                    have k0 := hm 0 (by omega)
                    have k1 := hm 1 (by omega)
                    have k2 := hm 2 (by omega)
                    have k3 := hm 3 (by omega)
                    rw [dgs_pack]; rw [show mj_pack mm = ((25 * mm 0 + mm 1) * 25 + mm 2) * 25 + mm 3 from rfl, show mj_pack a = ((25 * a 0 + a 1) * 25 + a 2) * 25 + a 3 from rfl, show 25 ^ (3 - 2) = 25 from rfl]
                    constructor
                    · intro q; exact ⟨by omega, by omega⟩
                    · rintro ⟨_, q⟩; omega), fun q => absurd q (by omega)⟩) hP hD hS
            · refine lv_aload_n hx hb dX0_before_107 rfl (lv_at hl 3 rfl) ?_
              refine gX0 hx hb hts hown hK hP 0 rfl 14 (by decide) q51 rfl dX0_before_108 ?_
              refine lv_iload hx hb dX0_before_111 (lv_at hl 0 rfl) ?_
              refine lv_iconst (v := nI 0) hx hb dX0_before_113 (by decide) ?_
              refine nv_bast hx hb hK hP hD hS 10 1 rfl rfl (by omega) (by decide) (by omega) dX0_before_114 (fun H locs hP hD hS => ?_)
              have hP : va_P D vwCl (cwX ad di db st mk n tk ps so dp te sc bd de sv me mo (upN (dgs dg (a 0) 0 0 0) 0 0)) H := hP
              have hD : va_D A (cwX ad di db st mk n tk ps so dp te sc bd de sv me mo (upN (dgs dg (a 0) 0 0 0) 0 0)) := hD
              rw [dgs_u0] at hP hD
              refine nv_iinc (k := 0) (lv' := [(5, .int (nP 0)), (4, .int (nI 2)), (3, .int (nI (tk k))), (0, .ref (ad 0)), (1, .int (nI k)), (2, .int (nI (mj_pack a)))]) (v := (nP 0)) hx hb dX0_before_115 hl rfl (nI_dec _) (by decide) rfl (fun ls hl => ?_)
              refine lv_goto (tgt := 85) hx hb dX0_before_118 (by decide) ?_
              refine lv_iload hx hb dX0_before_85 (lv_at hl 0 rfl) ?_
              refine nv_if_ltP (tgt := 121) hx hb dX0_before_87 (by decide) ?_
              refine lv_iload hx hb dX0_before_121 (lv_at hl 0 rfl) ?_
              refine nv_if_geP (tgt := 129) hx hb dX0_before_123 (by decide) ?_
              refine lv_ldc (own := RX0) (v := nI 1000000) hx hb hown (hts _ q153n) dX0_before_126 ?_
              exact hret _ _ _ _ _ (cwX ad di db st mk n tk ps so dp te sc bd de sv me mo (dgs dg 0 0 0 0)) rfl dX0_before_128 (⟨1000000, _, rfl, rfl, valid_L mo, (fun _ mm hm => by
                    have k0 := hm 0 (by omega)
                    have k1 := hm 1 (by omega)
                    have k2 := hm 2 (by omega)
                    have k3 := hm 3 (by omega)
                    rw [show mj_pack mm = ((25 * mm 0 + mm 1) * 25 + mm 2) * 25 + mm 3 from rfl, show mj_pack a = ((25 * a 0 + a 1) * 25 + a 2) * 25 + a 3 from rfl, show 25 ^ (3 - 2) = 25 from rfl]
                    constructor
                    · intro q; exact ⟨by omega, by omega⟩
                    · rintro ⟨_, q⟩; omega), fun q => absurd q (by omega)⟩) hP hD hS
      · refine lv_aload_n hx hb dX0_before_68 rfl (lv_at hl 3 rfl) ?_
        refine gX0 hx hb hts hown hK hP 0 rfl 14 (by decide) q51 rfl dX0_before_69 ?_
        refine lv_iload hx hb dX0_before_72 (lv_at hl 1 rfl) ?_
        refine lv_iconst (v := nI 0) hx hb dX0_before_74 (by decide) ?_
        refine nv_bast hx hb hK hP hD hS 10 1 rfl rfl (by omega) (by decide) (by omega) dX0_before_75 (fun H locs hP hD hS => ?_)
        have hP : va_P D vwCl (cwX ad di db st mk n tk ps so dp te sc bd de sv me mo (upN (dgs dg (a 0) (a 1) (a 2) 0) 2 0)) H := hP
        have hD : va_D A (cwX ad di db st mk n tk ps so dp te sc bd de sv me mo (upN (dgs dg (a 0) (a 1) (a 2) 0) 2 0)) := hD
        rw [dgs_u2] at hP hD
        refine lv_aload_n hx hb dX0_before_76 rfl (lv_at hl 3 rfl) ?_
        refine xcall_i (As := []) (rest := []) (ci := 0) ⟨hx, hb, hml, hown, hts⟩ (metX0_packed l D ad di db st mk n tk ps so dp te sc bd de sv me mo (dgs dg (a 0) (a 1) 0 0)) (cwV 0 hts (lw_V q162 q164 qs12 q27 q165) rfl rfl rfl (by decide +kernel) ⟨Nat.le_of_ble_eq_true rfl, Nat.le_of_ble_eq_true rfl⟩) rfl rfl hK hP hD hS hA rfl hl.1 rfl (Nat.le_of_ble_eq_true rfl) dX0_before_77 ⟨Nat.zero_le _, Nat.zero_le _⟩ (fun r u H locs hw hP hD hS => ?_)
        obtain ⟨rfl, rfl⟩ := hw
        exact hret _ _ _ _ _ (cwX ad di db st mk n tk ps so dp te sc bd de sv me mo (dgs dg (a 0) (a 1) 0 0)) rfl dX0_before_80 (⟨mj_pack (dgs dg (a 0) (a 1) 0 0), _, rfl, rfl, Or.inr ⟨_, dgs_ok dg (by omega) (by omega) (by omega) (by omega), rfl⟩, fun q => absurd q (by omega), (fun _ mm hm => by
              have k0 := hm 0 (by omega)
              have k1 := hm 1 (by omega)
              have k2 := hm 2 (by omega)
              have k3 := hm 3 (by omega)
              rw [dgs_pack]; rw [show mj_pack mm = ((25 * mm 0 + mm 1) * 25 + mm 2) * 25 + mm 3 from rfl, show mj_pack a = ((25 * a 0 + a 1) * 25 + a 2) * 25 + a 3 from rfl, show 25 ^ (4 - 2) = 625 from rfl]
              constructor
              · intro q; exact ⟨by omega, by omega⟩
              · rintro ⟨_, q⟩; omega)⟩) hP hD hS
    · refine lv_aload_n hx hb dX0_before_0 rfl (lv_at hl 0 rfl) ?_
      refine gX0 hx hb hts hown hK hP 0 rfl 3 (by decide) q40 rfl dX0_before_1 ?_
      refine lv_iload_n hx hb dX0_before_4 rfl (lv_at hl 1 rfl) ?_
      refine nv_bald hx hb hK hP 3 1 rfl rfl (by omega) (by decide) dX0_before_5 ?_
      have hld5 := htk k
      refine lv_istore_n (lv' := [(3, .int (nI (tk k))), (0, .ref (ad 0)), (1, .int (nI k)), (2, .int (nI (mj_pack a)))]) hx hb dX0_before_6 rfl hl (by decide) rfl (fun ls hl => ?_)
      refine lv_iload_n hx hb dX0_before_7 rfl (lv_at hl 3 rfl) ?_
      refine lv_ldc (own := RX0) (v := nI 1000000) hx hb hown (hts _ q153n) dX0_before_8 ?_
      refine nv_icmp_ge (tgt := 21) hx hb (by omega) (by omega) dX0_before_10 (by decide) (fun q => absurd q (by omega)) (fun c10 => ?_)
      refine lv_aload_n hx hb dX0_before_13 rfl (lv_at hl 1 rfl) ?_
      refine lv_iload_n hx hb dX0_before_14 rfl (lv_at hl 0 rfl) ?_
      refine pcall_i (As := [.int (nI (tk k))]) (rest := []) (ci := 0) (q0 := 0) ⟨hx, hb, hml, hown, hts⟩ (metX0_binds l (ad 0) (tk k) (by omega)) (cwV 1 hts (lw_V q129 q131 qs5 q27 q132) rfl rfl rfl (by decide +kernel) ⟨Nat.le_of_ble_eq_true rfl, Nat.le_of_ble_eq_true rfl⟩) rfl rfl hK hP rfl hl.1 rfl (Nat.le_of_ble_eq_true rfl) dX0_before_15 ⟨Nat.zero_le _, Nat.zero_le _⟩ (fun r hr => ?_)
      subst hr
      have hbl := bi_le (tk k)
      refine nv_if_ne (tgt := 23) hx hb (by omega) dX0_before_18 (by decide) (fun c18 => ?_) (fun q => absurd q (by omega))
      refine lv_aload_n hx hb dX0_before_23 rfl (lv_at hl 1 rfl) ?_
      refine gX0 hx hb hts hown hK hP 0 rfl 10 (by decide) q47 rfl dX0_before_24 ?_
      refine lv_iload_n hx hb dX0_before_27 rfl (lv_at hl 2 rfl) ?_
      refine nv_bald hx hb hK hP 7 1 rfl rfl (by omega) (by decide) dX0_before_28 ?_
      rw [hd]
      refine lv_istore (lv' := [(4, .int (nI 3)), (3, .int (nI (tk k))), (0, .ref (ad 0)), (1, .int (nI k)), (2, .int (nI (mj_pack a)))]) hx hb dX0_before_29 hl (by decide) rfl (fun ls hl => ?_)
      refine lv_aload_n hx hb dX0_before_31 rfl (lv_at hl 2 rfl) ?_
      refine lv_iload_n hx hb dX0_before_32 rfl (lv_at hl 4 rfl) ?_
      refine xcall_v (As := [.int (nI (mj_pack a))]) (rest := []) (ci := 0) ⟨hx, hb, hml, hown, hts⟩ (metX0_unpack l D ad di db st mk n tk ps so dp te sc bd de sv me mo dg (mj_pack a) (by omega)) (cwV 1 hts (lw_V q158 q160 qs11 q27 q161) rfl rfl rfl (by decide +kernel) ⟨Nat.le_of_ble_eq_true rfl, Nat.le_of_ble_eq_true rfl⟩) rfl rfl hK hP hD hS hA rfl hl.1 rfl (Nat.le_of_ble_eq_true rfl) dX0_before_33 ⟨Nat.zero_le _, Nat.zero_le _⟩ (fun u H locs hw hP hD hS => ?_)
      subst hw
      rw [digs_pack dg hmo ha] at hP hD
      refine lv_iload hx hb dX0_before_36 (lv_at hl 0 rfl) ?_
      refine lv_iconst (v := nI 1) hx hb dX0_before_38 (by decide) ?_
      refine nv_iadd hx hb dX0_before_39 ?_
      refine lv_istore (lv' := [(5, .int (nI 4)), (4, .int (nI 3)), (3, .int (nI (tk k))), (0, .ref (ad 0)), (1, .int (nI k)), (2, .int (nI (mj_pack a)))]) hx hb dX0_before_40 hl (by decide) rfl (fun ls hl => ?_)
      refine lv_iload hx hb dX0_before_42 (lv_at hl 0 rfl) ?_
      refine lv_iconst (v := nI 4) hx hb dX0_before_44 (by decide) ?_
      refine nv_icmp_ge (tgt := 62) hx hb (by omega) (by omega) dX0_before_45 (by decide) (fun c45 => ?_) (fun q => absurd q (by omega))
      refine lv_iload_n hx hb dX0_before_62 rfl (lv_at hl 2 rfl) ?_
      refine lv_bipush (v := nI 13) hx hb dX0_before_63 (by decide) ?_
      refine nv_icmp_lt (tgt := 81) hx hb (by omega) (by omega) dX0_before_65 (by decide) (fun c65 => ?_) (fun c65 => ?_)
      · refine lv_iload hx hb dX0_before_81 (lv_at hl 1 rfl) ?_
        refine lv_istore (lv' := [(5, .int (nI 3)), (4, .int (nI 3)), (3, .int (nI (tk k))), (0, .ref (ad 0)), (1, .int (nI k)), (2, .int (nI (mj_pack a)))]) hx hb dX0_before_83 hl (by decide) rfl (fun ls hl => ?_)
        refine lv_iload hx hb dX0_before_85 (lv_at hl 0 rfl) ?_
        refine nv_if_lt (tgt := 121) hx hb (by omega) dX0_before_87 (by decide) ?_
        refine lv_aload_n hx hb dX0_before_90 rfl (lv_at hl 3 rfl) ?_
        refine gX0 hx hb hts hown hK hP 0 rfl 14 (by decide) q51 rfl dX0_before_91 ?_
        refine lv_iload hx hb dX0_before_94 (lv_at hl 0 rfl) ?_
        refine nv_bald hx hb hK hP 10 1 rfl rfl (by omega) (by decide) dX0_before_96 ?_
        rw [dgs_g3]
        refine lv_aload_n hx hb dX0_before_97 rfl (lv_at hl 3 rfl) ?_
        refine gX0 hx hb hts hown hK hP 0 rfl 13 (by decide) q50 rfl dX0_before_98 ?_
        refine lv_iload hx hb dX0_before_101 (lv_at hl 0 rfl) ?_
        refine nv_bald hx hb hK hP 9 1 rfl rfl (by omega) (by decide) dX0_before_103 ?_
        refine nv_icmp_ne (tgt := 121) hx hb (by omega) (by omega) dX0_before_104 (by decide) (fun c104 => ?_) (fun c104 => ?_)
        · refine lv_iload hx hb dX0_before_121 (lv_at hl 0 rfl) ?_
          refine nv_if_ge (tgt := 129) hx hb (by omega) dX0_before_123 (by decide) ?_
          refine lv_aload_n hx hb dX0_before_129 rfl (lv_at hl 3 rfl) ?_
          refine gX0 hx hb hts hown hK hP 0 rfl 14 (by decide) q51 rfl dX0_before_130 ?_
          refine lv_iload hx hb dX0_before_133 (lv_at hl 0 rfl) ?_
          refine lv_dup2_11 hx hb dX0_before_135 rfl rfl ?_
          refine nv_bald hx hb hK hP 10 1 rfl rfl (by omega) (by decide) dX0_before_136 ?_
          rw [dgs_g3]
          refine lv_iconst (v := nI 1) hx hb dX0_before_137 (by decide) ?_
          refine nv_iadd hx hb dX0_before_138 ?_
          refine nv_i2b hx hb (by omega) dX0_before_139 ?_
          refine nv_bast hx hb hK hP hD hS 10 1 rfl rfl (by omega) (by decide) (by omega) dX0_before_140 (fun H locs hP hD hS => ?_)
          have hP : va_P D vwCl (cwX ad di db st mk n tk ps so dp te sc bd de sv me mo (upN (dgs dg (a 0) (a 1) (a 2) (a 3)) 3 ((a 3) + 1))) H := hP
          have hD : va_D A (cwX ad di db st mk n tk ps so dp te sc bd de sv me mo (upN (dgs dg (a 0) (a 1) (a 2) (a 3)) 3 ((a 3) + 1))) := hD
          rw [dgs_u3] at hP hD
          refine lv_aload_n hx hb dX0_before_141 rfl (lv_at hl 3 rfl) ?_
          refine xcall_i (As := []) (rest := []) (ci := 0) ⟨hx, hb, hml, hown, hts⟩ (metX0_packed l D ad di db st mk n tk ps so dp te sc bd de sv me mo (dgs dg (a 0) (a 1) (a 2) ((a 3) + 1))) (cwV 0 hts (lw_V q162 q164 qs12 q27 q165) rfl rfl rfl (by decide +kernel) ⟨Nat.le_of_ble_eq_true rfl, Nat.le_of_ble_eq_true rfl⟩) rfl rfl hK hP hD hS hA rfl hl.1 rfl (Nat.le_of_ble_eq_true rfl) dX0_before_142 ⟨Nat.zero_le _, Nat.zero_le _⟩ (fun r u H locs hw hP hD hS => ?_)
          obtain ⟨rfl, rfl⟩ := hw
          exact hret _ _ _ _ _ (cwX ad di db st mk n tk ps so dp te sc bd de sv me mo (dgs dg (a 0) (a 1) (a 2) ((a 3) + 1))) rfl dX0_before_145 (⟨mj_pack (dgs dg (a 0) (a 1) (a 2) ((a 3) + 1)), _, rfl, rfl, Or.inr ⟨_, dgs_ok dg (by omega) (by omega) (by omega) (by omega), rfl⟩, (fun _ mm hm => by
                have k0 := hm 0 (by omega)
                have k1 := hm 1 (by omega)
                have k2 := hm 2 (by omega)
                have k3 := hm 3 (by omega)
                rw [dgs_pack]; rw [show mj_pack mm = ((25 * mm 0 + mm 1) * 25 + mm 2) * 25 + mm 3 from rfl, show mj_pack a = ((25 * a 0 + a 1) * 25 + a 2) * 25 + a 3 from rfl, show 25 ^ (3 - 3) = 1 from rfl]
                constructor
                · intro q; exact ⟨by omega, by omega⟩
                · rintro ⟨_, q⟩; omega), fun q => absurd q (by omega)⟩) hP hD hS
        · refine lv_aload_n hx hb dX0_before_107 rfl (lv_at hl 3 rfl) ?_
          refine gX0 hx hb hts hown hK hP 0 rfl 14 (by decide) q51 rfl dX0_before_108 ?_
          refine lv_iload hx hb dX0_before_111 (lv_at hl 0 rfl) ?_
          refine lv_iconst (v := nI 0) hx hb dX0_before_113 (by decide) ?_
          refine nv_bast hx hb hK hP hD hS 10 1 rfl rfl (by omega) (by decide) (by omega) dX0_before_114 (fun H locs hP hD hS => ?_)
          have hP : va_P D vwCl (cwX ad di db st mk n tk ps so dp te sc bd de sv me mo (upN (dgs dg (a 0) (a 1) (a 2) (a 3)) 3 0)) H := hP
          have hD : va_D A (cwX ad di db st mk n tk ps so dp te sc bd de sv me mo (upN (dgs dg (a 0) (a 1) (a 2) (a 3)) 3 0)) := hD
          rw [dgs_u3] at hP hD
          refine nv_iinc (k := 0) (lv' := [(5, .int (nP 3)), (4, .int (nI 3)), (3, .int (nI (tk k))), (0, .ref (ad 0)), (1, .int (nI k)), (2, .int (nI (mj_pack a)))]) (v := (nP 3)) hx hb dX0_before_115 hl rfl (nI_dec _) (by decide) rfl (fun ls hl => ?_)
          refine lv_goto (tgt := 85) hx hb dX0_before_118 (by decide) ?_
          rw [show nP 3 = nI 2 by decide] at hl
          refine lv_iload hx hb dX0_before_85 (lv_at hl 0 rfl) ?_
          refine nv_if_lt (tgt := 121) hx hb (by omega) dX0_before_87 (by decide) ?_
          refine lv_aload_n hx hb dX0_before_90 rfl (lv_at hl 3 rfl) ?_
          refine gX0 hx hb hts hown hK hP 0 rfl 14 (by decide) q51 rfl dX0_before_91 ?_
          refine lv_iload hx hb dX0_before_94 (lv_at hl 0 rfl) ?_
          refine nv_bald hx hb hK hP 10 1 rfl rfl (by omega) (by decide) dX0_before_96 ?_
          rw [dgs_g2]
          refine lv_aload_n hx hb dX0_before_97 rfl (lv_at hl 3 rfl) ?_
          refine gX0 hx hb hts hown hK hP 0 rfl 13 (by decide) q50 rfl dX0_before_98 ?_
          refine lv_iload hx hb dX0_before_101 (lv_at hl 0 rfl) ?_
          refine nv_bald hx hb hK hP 9 1 rfl rfl (by omega) (by decide) dX0_before_103 ?_
          refine nv_icmp_ne (tgt := 121) hx hb (by omega) (by omega) dX0_before_104 (by decide) (fun c104 => ?_) (fun c104 => ?_)
          · refine lv_iload hx hb dX0_before_121 (lv_at hl 0 rfl) ?_
            refine nv_if_ge (tgt := 129) hx hb (by omega) dX0_before_123 (by decide) ?_
            refine lv_aload_n hx hb dX0_before_129 rfl (lv_at hl 3 rfl) ?_
            refine gX0 hx hb hts hown hK hP 0 rfl 14 (by decide) q51 rfl dX0_before_130 ?_
            refine lv_iload hx hb dX0_before_133 (lv_at hl 0 rfl) ?_
            refine lv_dup2_11 hx hb dX0_before_135 rfl rfl ?_
            refine nv_bald hx hb hK hP 10 1 rfl rfl (by omega) (by decide) dX0_before_136 ?_
            rw [dgs_g2]
            refine lv_iconst (v := nI 1) hx hb dX0_before_137 (by decide) ?_
            refine nv_iadd hx hb dX0_before_138 ?_
            refine nv_i2b hx hb (by omega) dX0_before_139 ?_
            refine nv_bast hx hb hK hP hD hS 10 1 rfl rfl (by omega) (by decide) (by omega) dX0_before_140 (fun H locs hP hD hS => ?_)
            have hP : va_P D vwCl (cwX ad di db st mk n tk ps so dp te sc bd de sv me mo (upN (dgs dg (a 0) (a 1) (a 2) 0) 2 ((a 2) + 1))) H := hP
            have hD : va_D A (cwX ad di db st mk n tk ps so dp te sc bd de sv me mo (upN (dgs dg (a 0) (a 1) (a 2) 0) 2 ((a 2) + 1))) := hD
            rw [dgs_u2] at hP hD
            refine lv_aload_n hx hb dX0_before_141 rfl (lv_at hl 3 rfl) ?_
            refine xcall_i (As := []) (rest := []) (ci := 0) ⟨hx, hb, hml, hown, hts⟩ (metX0_packed l D ad di db st mk n tk ps so dp te sc bd de sv me mo (dgs dg (a 0) (a 1) ((a 2) + 1) 0)) (cwV 0 hts (lw_V q162 q164 qs12 q27 q165) rfl rfl rfl (by decide +kernel) ⟨Nat.le_of_ble_eq_true rfl, Nat.le_of_ble_eq_true rfl⟩) rfl rfl hK hP hD hS hA rfl hl.1 rfl (Nat.le_of_ble_eq_true rfl) dX0_before_142 ⟨Nat.zero_le _, Nat.zero_le _⟩ (fun r u H locs hw hP hD hS => ?_)
            obtain ⟨rfl, rfl⟩ := hw
            exact hret _ _ _ _ _ (cwX ad di db st mk n tk ps so dp te sc bd de sv me mo (dgs dg (a 0) (a 1) ((a 2) + 1) 0)) rfl dX0_before_145 (⟨mj_pack (dgs dg (a 0) (a 1) ((a 2) + 1) 0), _, rfl, rfl, Or.inr ⟨_, dgs_ok dg (by omega) (by omega) (by omega) (by omega), rfl⟩, (fun _ mm hm => by
                  have k0 := hm 0 (by omega)
                  have k1 := hm 1 (by omega)
                  have k2 := hm 2 (by omega)
                  have k3 := hm 3 (by omega)
                  rw [dgs_pack]; rw [show mj_pack mm = ((25 * mm 0 + mm 1) * 25 + mm 2) * 25 + mm 3 from rfl, show mj_pack a = ((25 * a 0 + a 1) * 25 + a 2) * 25 + a 3 from rfl, show 25 ^ (3 - 3) = 1 from rfl]
                  constructor
                  · intro q; exact ⟨by omega, by omega⟩
                  · rintro ⟨_, q⟩; omega), fun q => absurd q (by omega)⟩) hP hD hS
          · refine lv_aload_n hx hb dX0_before_107 rfl (lv_at hl 3 rfl) ?_
            refine gX0 hx hb hts hown hK hP 0 rfl 14 (by decide) q51 rfl dX0_before_108 ?_
            refine lv_iload hx hb dX0_before_111 (lv_at hl 0 rfl) ?_
            refine lv_iconst (v := nI 0) hx hb dX0_before_113 (by decide) ?_
            refine nv_bast hx hb hK hP hD hS 10 1 rfl rfl (by omega) (by decide) (by omega) dX0_before_114 (fun H locs hP hD hS => ?_)
            have hP : va_P D vwCl (cwX ad di db st mk n tk ps so dp te sc bd de sv me mo (upN (dgs dg (a 0) (a 1) (a 2) 0) 2 0)) H := hP
            have hD : va_D A (cwX ad di db st mk n tk ps so dp te sc bd de sv me mo (upN (dgs dg (a 0) (a 1) (a 2) 0) 2 0)) := hD
            rw [dgs_u2] at hP hD
            refine nv_iinc (k := 0) (lv' := [(5, .int (nP 2)), (4, .int (nI 3)), (3, .int (nI (tk k))), (0, .ref (ad 0)), (1, .int (nI k)), (2, .int (nI (mj_pack a)))]) (v := (nP 2)) hx hb dX0_before_115 hl rfl (nI_dec _) (by decide) rfl (fun ls hl => ?_)
            refine lv_goto (tgt := 85) hx hb dX0_before_118 (by decide) ?_
            rw [show nP 2 = nI 1 by decide] at hl
            refine lv_iload hx hb dX0_before_85 (lv_at hl 0 rfl) ?_
            refine nv_if_lt (tgt := 121) hx hb (by omega) dX0_before_87 (by decide) ?_
            refine lv_aload_n hx hb dX0_before_90 rfl (lv_at hl 3 rfl) ?_
            refine gX0 hx hb hts hown hK hP 0 rfl 14 (by decide) q51 rfl dX0_before_91 ?_
            refine lv_iload hx hb dX0_before_94 (lv_at hl 0 rfl) ?_
            refine nv_bald hx hb hK hP 10 1 rfl rfl (by omega) (by decide) dX0_before_96 ?_
            rw [dgs_g1]
            refine lv_aload_n hx hb dX0_before_97 rfl (lv_at hl 3 rfl) ?_
            refine gX0 hx hb hts hown hK hP 0 rfl 13 (by decide) q50 rfl dX0_before_98 ?_
            refine lv_iload hx hb dX0_before_101 (lv_at hl 0 rfl) ?_
            refine nv_bald hx hb hK hP 9 1 rfl rfl (by omega) (by decide) dX0_before_103 ?_
            refine nv_icmp_ne (tgt := 121) hx hb (by omega) (by omega) dX0_before_104 (by decide) (fun c104 => ?_) (fun c104 => ?_)
            · refine lv_iload hx hb dX0_before_121 (lv_at hl 0 rfl) ?_
              refine nv_if_ge (tgt := 129) hx hb (by omega) dX0_before_123 (by decide) ?_
              refine lv_aload_n hx hb dX0_before_129 rfl (lv_at hl 3 rfl) ?_
              refine gX0 hx hb hts hown hK hP 0 rfl 14 (by decide) q51 rfl dX0_before_130 ?_
              refine lv_iload hx hb dX0_before_133 (lv_at hl 0 rfl) ?_
              refine lv_dup2_11 hx hb dX0_before_135 rfl rfl ?_
              refine nv_bald hx hb hK hP 10 1 rfl rfl (by omega) (by decide) dX0_before_136 ?_
              rw [dgs_g1]
              refine lv_iconst (v := nI 1) hx hb dX0_before_137 (by decide) ?_
              refine nv_iadd hx hb dX0_before_138 ?_
              refine nv_i2b hx hb (by omega) dX0_before_139 ?_
              refine nv_bast hx hb hK hP hD hS 10 1 rfl rfl (by omega) (by decide) (by omega) dX0_before_140 (fun H locs hP hD hS => ?_)
              have hP : va_P D vwCl (cwX ad di db st mk n tk ps so dp te sc bd de sv me mo (upN (dgs dg (a 0) (a 1) 0 0) 1 ((a 1) + 1))) H := hP
              have hD : va_D A (cwX ad di db st mk n tk ps so dp te sc bd de sv me mo (upN (dgs dg (a 0) (a 1) 0 0) 1 ((a 1) + 1))) := hD
              rw [dgs_u1] at hP hD
              refine lv_aload_n hx hb dX0_before_141 rfl (lv_at hl 3 rfl) ?_
              refine xcall_i (As := []) (rest := []) (ci := 0) ⟨hx, hb, hml, hown, hts⟩ (metX0_packed l D ad di db st mk n tk ps so dp te sc bd de sv me mo (dgs dg (a 0) ((a 1) + 1) 0 0)) (cwV 0 hts (lw_V q162 q164 qs12 q27 q165) rfl rfl rfl (by decide +kernel) ⟨Nat.le_of_ble_eq_true rfl, Nat.le_of_ble_eq_true rfl⟩) rfl rfl hK hP hD hS hA rfl hl.1 rfl (Nat.le_of_ble_eq_true rfl) dX0_before_142 ⟨Nat.zero_le _, Nat.zero_le _⟩ (fun r u H locs hw hP hD hS => ?_)
              obtain ⟨rfl, rfl⟩ := hw
              exact hret _ _ _ _ _ (cwX ad di db st mk n tk ps so dp te sc bd de sv me mo (dgs dg (a 0) ((a 1) + 1) 0 0)) rfl dX0_before_145 (⟨mj_pack (dgs dg (a 0) ((a 1) + 1) 0 0), _, rfl, rfl, Or.inr ⟨_, dgs_ok dg (by omega) (by omega) (by omega) (by omega), rfl⟩, (fun _ mm hm => by
                    have k0 := hm 0 (by omega)
                    have k1 := hm 1 (by omega)
                    have k2 := hm 2 (by omega)
                    have k3 := hm 3 (by omega)
                    rw [dgs_pack]; rw [show mj_pack mm = ((25 * mm 0 + mm 1) * 25 + mm 2) * 25 + mm 3 from rfl, show mj_pack a = ((25 * a 0 + a 1) * 25 + a 2) * 25 + a 3 from rfl, show 25 ^ (3 - 3) = 1 from rfl]
                    constructor
                    · intro q; exact ⟨by omega, by omega⟩
                    · rintro ⟨_, q⟩; omega), fun q => absurd q (by omega)⟩) hP hD hS
            · refine lv_aload_n hx hb dX0_before_107 rfl (lv_at hl 3 rfl) ?_
              refine gX0 hx hb hts hown hK hP 0 rfl 14 (by decide) q51 rfl dX0_before_108 ?_
              refine lv_iload hx hb dX0_before_111 (lv_at hl 0 rfl) ?_
              refine lv_iconst (v := nI 0) hx hb dX0_before_113 (by decide) ?_
              refine nv_bast hx hb hK hP hD hS 10 1 rfl rfl (by omega) (by decide) (by omega) dX0_before_114 (fun H locs hP hD hS => ?_)
              have hP : va_P D vwCl (cwX ad di db st mk n tk ps so dp te sc bd de sv me mo (upN (dgs dg (a 0) (a 1) 0 0) 1 0)) H := hP
              have hD : va_D A (cwX ad di db st mk n tk ps so dp te sc bd de sv me mo (upN (dgs dg (a 0) (a 1) 0 0) 1 0)) := hD
              rw [dgs_u1] at hP hD
              refine nv_iinc (k := 0) (lv' := [(5, .int (nP 1)), (4, .int (nI 3)), (3, .int (nI (tk k))), (0, .ref (ad 0)), (1, .int (nI k)), (2, .int (nI (mj_pack a)))]) (v := (nP 1)) hx hb dX0_before_115 hl rfl (nI_dec _) (by decide) rfl (fun ls hl => ?_)
              refine lv_goto (tgt := 85) hx hb dX0_before_118 (by decide) ?_
              rw [show nP 1 = nI 0 by decide] at hl
              refine lv_iload hx hb dX0_before_85 (lv_at hl 0 rfl) ?_
              refine nv_if_lt (tgt := 121) hx hb (by omega) dX0_before_87 (by decide) ?_
              refine lv_aload_n hx hb dX0_before_90 rfl (lv_at hl 3 rfl) ?_
              refine gX0 hx hb hts hown hK hP 0 rfl 14 (by decide) q51 rfl dX0_before_91 ?_
              refine lv_iload hx hb dX0_before_94 (lv_at hl 0 rfl) ?_
              refine nv_bald hx hb hK hP 10 1 rfl rfl (by omega) (by decide) dX0_before_96 ?_
              rw [dgs_g0]
              refine lv_aload_n hx hb dX0_before_97 rfl (lv_at hl 3 rfl) ?_
              refine gX0 hx hb hts hown hK hP 0 rfl 13 (by decide) q50 rfl dX0_before_98 ?_
              refine lv_iload hx hb dX0_before_101 (lv_at hl 0 rfl) ?_
              refine nv_bald hx hb hK hP 9 1 rfl rfl (by omega) (by decide) dX0_before_103 ?_
              refine nv_icmp_ne (tgt := 121) hx hb (by omega) (by omega) dX0_before_104 (by decide) (fun c104 => ?_) (fun c104 => ?_)
              · refine lv_iload hx hb dX0_before_121 (lv_at hl 0 rfl) ?_
                refine nv_if_ge (tgt := 129) hx hb (by omega) dX0_before_123 (by decide) ?_
                refine lv_aload_n hx hb dX0_before_129 rfl (lv_at hl 3 rfl) ?_
                refine gX0 hx hb hts hown hK hP 0 rfl 14 (by decide) q51 rfl dX0_before_130 ?_
                refine lv_iload hx hb dX0_before_133 (lv_at hl 0 rfl) ?_
                refine lv_dup2_11 hx hb dX0_before_135 rfl rfl ?_
                refine nv_bald hx hb hK hP 10 1 rfl rfl (by omega) (by decide) dX0_before_136 ?_
                rw [dgs_g0]
                refine lv_iconst (v := nI 1) hx hb dX0_before_137 (by decide) ?_
                refine nv_iadd hx hb dX0_before_138 ?_
                refine nv_i2b hx hb (by omega) dX0_before_139 ?_
                refine nv_bast hx hb hK hP hD hS 10 1 rfl rfl (by omega) (by decide) (by omega) dX0_before_140 (fun H locs hP hD hS => ?_)
                have hP : va_P D vwCl (cwX ad di db st mk n tk ps so dp te sc bd de sv me mo (upN (dgs dg (a 0) 0 0 0) 0 ((a 0) + 1))) H := hP
                have hD : va_D A (cwX ad di db st mk n tk ps so dp te sc bd de sv me mo (upN (dgs dg (a 0) 0 0 0) 0 ((a 0) + 1))) := hD
                rw [dgs_u0] at hP hD
                refine lv_aload_n hx hb dX0_before_141 rfl (lv_at hl 3 rfl) ?_
                refine xcall_i (As := []) (rest := []) (ci := 0) ⟨hx, hb, hml, hown, hts⟩ (metX0_packed l D ad di db st mk n tk ps so dp te sc bd de sv me mo (dgs dg ((a 0) + 1) 0 0 0)) (cwV 0 hts (lw_V q162 q164 qs12 q27 q165) rfl rfl rfl (by decide +kernel) ⟨Nat.le_of_ble_eq_true rfl, Nat.le_of_ble_eq_true rfl⟩) rfl rfl hK hP hD hS hA rfl hl.1 rfl (Nat.le_of_ble_eq_true rfl) dX0_before_142 ⟨Nat.zero_le _, Nat.zero_le _⟩ (fun r u H locs hw hP hD hS => ?_)
                obtain ⟨rfl, rfl⟩ := hw
                exact hret _ _ _ _ _ (cwX ad di db st mk n tk ps so dp te sc bd de sv me mo (dgs dg ((a 0) + 1) 0 0 0)) rfl dX0_before_145 (⟨mj_pack (dgs dg ((a 0) + 1) 0 0 0), _, rfl, rfl, Or.inr ⟨_, dgs_ok dg (by omega) (by omega) (by omega) (by omega), rfl⟩, (fun _ mm hm => by
                      have k0 := hm 0 (by omega)
                      have k1 := hm 1 (by omega)
                      have k2 := hm 2 (by omega)
                      have k3 := hm 3 (by omega)
                      rw [dgs_pack]; rw [show mj_pack mm = ((25 * mm 0 + mm 1) * 25 + mm 2) * 25 + mm 3 from rfl, show mj_pack a = ((25 * a 0 + a 1) * 25 + a 2) * 25 + a 3 from rfl, show 25 ^ (3 - 3) = 1 from rfl]
                      constructor
                      · intro q; exact ⟨by omega, by omega⟩
                      · rintro ⟨_, q⟩; omega), fun q => absurd q (by omega)⟩) hP hD hS
              · refine lv_aload_n hx hb dX0_before_107 rfl (lv_at hl 3 rfl) ?_
                refine gX0 hx hb hts hown hK hP 0 rfl 14 (by decide) q51 rfl dX0_before_108 ?_
                refine lv_iload hx hb dX0_before_111 (lv_at hl 0 rfl) ?_
                refine lv_iconst (v := nI 0) hx hb dX0_before_113 (by decide) ?_
                refine nv_bast hx hb hK hP hD hS 10 1 rfl rfl (by omega) (by decide) (by omega) dX0_before_114 (fun H locs hP hD hS => ?_)
                have hP : va_P D vwCl (cwX ad di db st mk n tk ps so dp te sc bd de sv me mo (upN (dgs dg (a 0) 0 0 0) 0 0)) H := hP
                have hD : va_D A (cwX ad di db st mk n tk ps so dp te sc bd de sv me mo (upN (dgs dg (a 0) 0 0 0) 0 0)) := hD
                rw [dgs_u0] at hP hD
                refine nv_iinc (k := 0) (lv' := [(5, .int (nP 0)), (4, .int (nI 3)), (3, .int (nI (tk k))), (0, .ref (ad 0)), (1, .int (nI k)), (2, .int (nI (mj_pack a)))]) (v := (nP 0)) hx hb dX0_before_115 hl rfl (nI_dec _) (by decide) rfl (fun ls hl => ?_)
                refine lv_goto (tgt := 85) hx hb dX0_before_118 (by decide) ?_
                refine lv_iload hx hb dX0_before_85 (lv_at hl 0 rfl) ?_
                refine nv_if_ltP (tgt := 121) hx hb dX0_before_87 (by decide) ?_
                refine lv_iload hx hb dX0_before_121 (lv_at hl 0 rfl) ?_
                refine nv_if_geP (tgt := 129) hx hb dX0_before_123 (by decide) ?_
                refine lv_ldc (own := RX0) (v := nI 1000000) hx hb hown (hts _ q153n) dX0_before_126 ?_
                exact hret _ _ _ _ _ (cwX ad di db st mk n tk ps so dp te sc bd de sv me mo (dgs dg 0 0 0 0)) rfl dX0_before_128 (⟨1000000, _, rfl, rfl, valid_L mo, (fun _ mm hm => by
                      have k0 := hm 0 (by omega)
                      have k1 := hm 1 (by omega)
                      have k2 := hm 2 (by omega)
                      have k3 := hm 3 (by omega)
                      rw [show mj_pack mm = ((25 * mm 0 + mm 1) * 25 + mm 2) * 25 + mm 3 from rfl, show mj_pack a = ((25 * a 0 + a 1) * 25 + a 2) * 25 + a 3 from rfl, show 25 ^ (3 - 3) = 1 from rfl]
                      constructor
                      · intro q; exact ⟨by omega, by omega⟩
                      · rintro ⟨_, q⟩; omega), fun q => absurd q (by omega)⟩) hP hD hS
      · refine lv_aload_n hx hb dX0_before_68 rfl (lv_at hl 3 rfl) ?_
        refine gX0 hx hb hts hown hK hP 0 rfl 14 (by decide) q51 rfl dX0_before_69 ?_
        refine lv_iload hx hb dX0_before_72 (lv_at hl 1 rfl) ?_
        refine lv_iconst (v := nI 0) hx hb dX0_before_74 (by decide) ?_
        refine nv_bast hx hb hK hP hD hS 10 1 rfl rfl (by omega) (by decide) (by omega) dX0_before_75 (fun H locs hP hD hS => ?_)
        have hP : va_P D vwCl (cwX ad di db st mk n tk ps so dp te sc bd de sv me mo (upN (dgs dg (a 0) (a 1) (a 2) (a 3)) 3 0)) H := hP
        have hD : va_D A (cwX ad di db st mk n tk ps so dp te sc bd de sv me mo (upN (dgs dg (a 0) (a 1) (a 2) (a 3)) 3 0)) := hD
        rw [dgs_u3] at hP hD
        refine lv_aload_n hx hb dX0_before_76 rfl (lv_at hl 3 rfl) ?_
        refine xcall_i (As := []) (rest := []) (ci := 0) ⟨hx, hb, hml, hown, hts⟩ (metX0_packed l D ad di db st mk n tk ps so dp te sc bd de sv me mo (dgs dg (a 0) (a 1) (a 2) 0)) (cwV 0 hts (lw_V q162 q164 qs12 q27 q165) rfl rfl rfl (by decide +kernel) ⟨Nat.le_of_ble_eq_true rfl, Nat.le_of_ble_eq_true rfl⟩) rfl rfl hK hP hD hS hA rfl hl.1 rfl (Nat.le_of_ble_eq_true rfl) dX0_before_77 ⟨Nat.zero_le _, Nat.zero_le _⟩ (fun r u H locs hw hP hD hS => ?_)
        obtain ⟨rfl, rfl⟩ := hw
        exact hret _ _ _ _ _ (cwX ad di db st mk n tk ps so dp te sc bd de sv me mo (dgs dg (a 0) (a 1) (a 2) 0)) rfl dX0_before_80 (⟨mj_pack (dgs dg (a 0) (a 1) (a 2) 0), _, rfl, rfl, Or.inr ⟨_, dgs_ok dg (by omega) (by omega) (by omega) (by omega), rfl⟩, fun q => absurd q (by omega), (fun _ mm hm => by
              have k0 := hm 0 (by omega)
              have k1 := hm 1 (by omega)
              have k2 := hm 2 (by omega)
              have k3 := hm 3 (by omega)
              rw [dgs_pack]; rw [show mj_pack mm = ((25 * mm 0 + mm 1) * 25 + mm 2) * 25 + mm 3 from rfl, show mj_pack a = ((25 * a 0 + a 1) * 25 + a 2) * 25 + a 3 from rfl, show 25 ^ (4 - 3) = 25 from rfl]
              constructor
              · intro q; exact ⟨by omega, by omega⟩
              · rintro ⟨_, q⟩; omega)⟩) hP hD hS
set_option maxHeartbeats 4000000 in
set_option maxRecDepth 100000 in
/-- overSteps -/
theorem metX0_overSteps (l : Launch) (D : va_G) (ad : Nat → Nat) (di db : ClassId) (st mk : Nat → Nat) (n : Nat) (tk : Nat → Nat) (ps so dp : Nat) (te sc bd de : Nat → Nat) (sv : Nat) (me mo dg : Nat → Nat) (sx k sm : Nat) (hs : sx < 6) (hk : k + 1 < 12) (hsm : sm < 2) (hst : ∀ j, st j < 64) (hmo : ∀ i, i < 4 → mo i ≤ 24) (hV : ∀ j, mj_Valid mo (me j)) : xMi l yX0_overSteps cX0_overSteps 7 .int ({ frames := 0, cells := 0, slots := 0, locals := 0 }) D (tyX di db) (cwX ad di db st mk n tk ps so dp te sc bd de sv me mo dg) [.ref (ad 0), .int (nI sx), .int (nI k), .int (nI sm)] (fun r u => ∃ v, r = nI v ∧ u = cwX ad di db st mk n tk ps so dp te sc bd de sv me mo dg ∧ mj_Valid mo v ∧ (sm = 1 → OSs st me sx k 6 v) ∧ (sm = 0 → OSa st me sx k 6 v)) := by
  refine xMi_intro (by decide) (Nat.le_of_ble_eq_true rfl) ?_
  intro p e s m args below meth c A Q hx hb hml hown hts hA hK hP hD hS hret ls hl
  have hl : lv_has ls 7 [(0, .ref (ad 0)), (1, .int (nI sx)), (2, .int (nI k)), (3, .int (nI sm))] := hl
  rcases (show sm = 0 ∨ sm = 1 by omega) with rfl | rfl
  · refine lv_iload_n hx hb dX0_overSteps_0 rfl (lv_at hl 3 rfl) ?_
    refine nv_if_eq (tgt := 9) hx hb (by omega) dX0_overSteps_1 (by decide) (fun c1 => ?_) (fun q => absurd q (by omega))
    refine lv_iconst (v := nI 0) hx hb dX0_overSteps_9 (by decide) ?_
    refine lv_istore (lv' := [(4, .int (nI 0)), (0, .ref (ad 0)), (1, .int (nI sx)), (2, .int (nI k)), (3, .int (nI 0))]) hx hb dX0_overSteps_10 hl (by decide) rfl (fun ls hl => ?_)
    refine lv_iconst (v := nI 0) hx hb dX0_overSteps_12 (by decide) ?_
    refine lv_istore (lv' := [(5, .int (nI 0)), (4, .int (nI 0)), (0, .ref (ad 0)), (1, .int (nI sx)), (2, .int (nI k)), (3, .int (nI 0))]) hx hb dX0_overSteps_13 hl (by decide) rfl (fun ls hl => ?_)
    have L : ∀ (d x : Nat) (v : Nat), 6 < x + d → x ≤ 6 → OSa st me sx k x v → mj_Valid mo v → ∀ (H : Heap) (locs : List Loc), va_P D vwCl (cwX ad di db st mk n tk ps so dp te sc bd de sv me mo dg) H → va_D A (cwX ad di db st mk n tk ps so dp te sc bd de sv me mo dg) → va_S A s.heap H locs → ∀ ls : Array Slot, lv_has ls 7 [(0, .ref (ad 0)), (1, .int (nI sx)), (2, .int (nI k)), (3, .int (nI 0)), (4, .int (nI v)), (5, .int (nI x))] → W p l e ({ frames := 0, cells := 0, slots := 0, locals := 0 }) s m args below meth c H locs 0 0 Q (F0 m 15 ls []) := by
      intro d
      induction d with
      | zero =>
        intro x v h1_ h2_
        exfalso; omega
      | succ d ihL =>
        intro x v h1_ h2_ hO hVv H locs hP hD hS ls hl
        have hvv := valid_le hmo hVv
        have ha1 := and1_le (st sx / 2 ^ x)
        refine lv_iload hx hb dX0_overSteps_15 (lv_at hl 5 rfl) ?_
        refine lv_bipush (v := nI 6) hx hb dX0_overSteps_17 (by decide) ?_
        refine nv_icmp_ge (tgt := 86) hx hb (by omega) (by omega) dX0_overSteps_19 (by decide) (fun c19 => ?_) (fun c19 => ?_)
        · refine lv_iload hx hb dX0_overSteps_86 (lv_at hl 4 rfl) ?_
          have hx6 : x = 6 := by omega
          rw [hx6] at hO
          exact hret _ _ _ _ _ (cwX ad di db st mk n tk ps so dp te sc bd de sv me mo dg) rfl dX0_overSteps_88 (⟨v, rfl, rfl, hVv, fun q => absurd q (by omega), fun _ => hO⟩) hP hD hS
        · refine lv_aload_n hx hb dX0_overSteps_22 rfl (lv_at hl 0 rfl) ?_
          refine gX0 hx hb hts hown hK hP 0 rfl 0 (by decide) q37 rfl dX0_overSteps_23 ?_
          refine lv_iload_n hx hb dX0_overSteps_26 rfl (lv_at hl 1 rfl) ?_
          refine nv_iald hx hb hK hP 1 0 rfl rfl (by omega) (by decide) dX0_overSteps_27 ?_
          have hld27 := hst sx
          refine lv_iload hx hb dX0_overSteps_28 (lv_at hl 5 rfl) ?_
          refine nv_ishr hx hb (by omega) (by omega) dX0_overSteps_30 ?_
          refine lv_iconst (v := nI 1) hx hb dX0_overSteps_31 (by decide) ?_
          refine nv_iand hx hb dX0_overSteps_32 ?_
          refine nv_if_ne (tgt := 39) hx hb (by omega) dX0_overSteps_33 (by decide) (fun c33 => ?_) (fun c33 => ?_)
          · refine lv_aload_n hx hb dX0_overSteps_39 rfl (lv_at hl 0 rfl) ?_
            refine gX0 hx hb hts hown hK hP 0 rfl 12 (by decide) q49 rfl dX0_overSteps_40 ?_
            refine lv_bipush (v := nI 12) hx hb dX0_overSteps_43 (by decide) ?_
            refine lv_iload hx hb dX0_overSteps_45 (lv_at hl 5 rfl) ?_
            refine nv_imul hx hb dX0_overSteps_47 ?_
            refine lv_iload_n hx hb dX0_overSteps_48 rfl (lv_at hl 2 rfl) ?_
            refine nv_iadd hx hb dX0_overSteps_49 ?_
            refine lv_iconst (v := nI 1) hx hb dX0_overSteps_50 (by decide) ?_
            refine nv_iadd hx hb dX0_overSteps_51 ?_
            refine nv_iald hx hb hK hP 8 0 rfl rfl (by omega) (by decide) dX0_overSteps_52 ?_
            have hld52 := valid_le hmo (hV (((12 * x) + k) + 1))
            refine lv_istore (lv' := [(6, .int (nI (me (((12 * x) + k) + 1)))), (0, .ref (ad 0)), (1, .int (nI sx)), (2, .int (nI k)), (3, .int (nI 0)), (4, .int (nI v)), (5, .int (nI x))]) hx hb dX0_overSteps_53 hl (by decide) rfl (fun ls hl => ?_)
            refine lv_iload_n hx hb dX0_overSteps_55 rfl (lv_at hl 4 rfl) ?_
            refine nv_if_eq (tgt := 69) hx hb (by omega) dX0_overSteps_56 (by decide) (fun c56 => ?_) (fun q => absurd q (by omega))
            refine lv_iload hx hb dX0_overSteps_69 (lv_at hl 0 rfl) ?_
            refine lv_iload hx hb dX0_overSteps_71 (lv_at hl 5 rfl) ?_
            refine nv_icmp_le (tgt := 80) hx hb (by omega) (by omega) dX0_overSteps_73 (by decide) (fun c73 => ?_) (fun c73 => ?_)
            · refine nv_iinc (k := 6) (lv' := [(5, .int (nI (x + 1))), (6, .int (nI (me (((12 * x) + k) + 1)))), (0, .ref (ad 0)), (1, .int (nI sx)), (2, .int (nI k)), (3, .int (nI 0)), (4, .int (nI v))]) (v := (nI (x + 1))) hx hb dX0_overSteps_80 hl rfl (nI_inc _) (by decide) rfl (fun ls hl => ?_)
              refine lv_goto (tgt := 15) hx hb dX0_overSteps_83 (by decide) ?_
              exact ihL (x + 1) v (by omega) (by omega) (by first | exact OSa_skip hO (tb_zero c33) | exact OSa_keep hO (tb_pos c33) c73) (hVv) _ _ hP hD hS ls (lv_sub hl [2, 3, 4, 5, 6, 0] rfl)
            · refine lv_iload hx hb dX0_overSteps_76 (lv_at hl 0 rfl) ?_
              refine lv_istore (lv' := [(4, .int (nI (me (((12 * x) + k) + 1)))), (6, .int (nI (me (((12 * x) + k) + 1)))), (0, .ref (ad 0)), (1, .int (nI sx)), (2, .int (nI k)), (3, .int (nI 0)), (5, .int (nI x))]) hx hb dX0_overSteps_78 hl (by decide) rfl (fun ls hl => ?_)
              refine nv_iinc (k := 6) (lv' := [(5, .int (nI (x + 1))), (4, .int (nI (me (((12 * x) + k) + 1)))), (6, .int (nI (me (((12 * x) + k) + 1)))), (0, .ref (ad 0)), (1, .int (nI sx)), (2, .int (nI k)), (3, .int (nI 0))]) (v := (nI (x + 1))) hx hb dX0_overSteps_80 hl rfl (nI_inc _) (by decide) rfl (fun ls hl => ?_)
              refine lv_goto (tgt := 15) hx hb dX0_overSteps_83 (by decide) ?_
              exact ihL (x + 1) _ (by omega) (by omega) (OSa_more hO (tb_pos c33) c73) (hV _) _ _ hP hD hS ls (lv_sub hl [3, 4, 5, 6, 1, 0] rfl)
          · refine lv_goto (tgt := 80) hx hb dX0_overSteps_36 (by decide) ?_
            refine nv_iinc (k := 5) (lv' := [(5, .int (nI (x + 1))), (0, .ref (ad 0)), (1, .int (nI sx)), (2, .int (nI k)), (3, .int (nI 0)), (4, .int (nI v))]) (v := (nI (x + 1))) hx hb dX0_overSteps_80 hl rfl (nI_inc _) (by decide) rfl (fun ls hl => ?_)
            refine lv_goto (tgt := 15) hx hb dX0_overSteps_83 (by decide) ?_
            exact ihL (x + 1) v (by omega) (by omega) (by first | exact OSa_skip hO (tb_zero c33) | exact OSa_keep hO (tb_pos c33) c73) (hVv) _ _ hP hD hS ls (lv_sub hl [1, 2, 3, 4, 5, 0] rfl)
    exact L 7 0 0 (by omega) (by omega) OSa_0 (valid_0 mo) _ _ hP hD hS ls (lv_sub hl [2, 3, 4, 5, 1, 0] rfl)
  · refine lv_iload_n hx hb dX0_overSteps_0 rfl (lv_at hl 3 rfl) ?_
    refine nv_if_eq (tgt := 9) hx hb (by omega) dX0_overSteps_1 (by decide) (fun q => absurd q (by omega)) (fun c1 => ?_)
    refine lv_ldc (own := RX0) (v := nI 1000000) hx hb hown (hts _ q153n) dX0_overSteps_4 ?_
    refine lv_goto (tgt := 10) hx hb dX0_overSteps_6 (by decide) ?_
    refine lv_istore (lv' := [(4, .int (nI 1000000)), (0, .ref (ad 0)), (1, .int (nI sx)), (2, .int (nI k)), (3, .int (nI 1))]) hx hb dX0_overSteps_10 hl (by decide) rfl (fun ls hl => ?_)
    refine lv_iconst (v := nI 0) hx hb dX0_overSteps_12 (by decide) ?_
    refine lv_istore (lv' := [(5, .int (nI 0)), (4, .int (nI 1000000)), (0, .ref (ad 0)), (1, .int (nI sx)), (2, .int (nI k)), (3, .int (nI 1))]) hx hb dX0_overSteps_13 hl (by decide) rfl (fun ls hl => ?_)
    have L : ∀ (d x : Nat) (v : Nat), 6 < x + d → x ≤ 6 → OSs st me sx k x v → mj_Valid mo v → ∀ (H : Heap) (locs : List Loc), va_P D vwCl (cwX ad di db st mk n tk ps so dp te sc bd de sv me mo dg) H → va_D A (cwX ad di db st mk n tk ps so dp te sc bd de sv me mo dg) → va_S A s.heap H locs → ∀ ls : Array Slot, lv_has ls 7 [(0, .ref (ad 0)), (1, .int (nI sx)), (2, .int (nI k)), (3, .int (nI 1)), (4, .int (nI v)), (5, .int (nI x))] → W p l e ({ frames := 0, cells := 0, slots := 0, locals := 0 }) s m args below meth c H locs 0 0 Q (F0 m 15 ls []) := by
      intro d
      induction d with
      | zero =>
        intro x v h1_ h2_
        exfalso; omega
      | succ d ihL =>
        intro x v h1_ h2_ hO hVv H locs hP hD hS ls hl
        have hvv := valid_le hmo hVv
        have ha1 := and1_le (st sx / 2 ^ x)
        refine lv_iload hx hb dX0_overSteps_15 (lv_at hl 5 rfl) ?_
        refine lv_bipush (v := nI 6) hx hb dX0_overSteps_17 (by decide) ?_
        refine nv_icmp_ge (tgt := 86) hx hb (by omega) (by omega) dX0_overSteps_19 (by decide) (fun c19 => ?_) (fun c19 => ?_)
        · refine lv_iload hx hb dX0_overSteps_86 (lv_at hl 4 rfl) ?_
          have hx6 : x = 6 := by omega
          rw [hx6] at hO
          exact hret _ _ _ _ _ (cwX ad di db st mk n tk ps so dp te sc bd de sv me mo dg) rfl dX0_overSteps_88 (⟨v, rfl, rfl, hVv, fun _ => hO, fun q => absurd q (by omega)⟩) hP hD hS
        · refine lv_aload_n hx hb dX0_overSteps_22 rfl (lv_at hl 0 rfl) ?_
          refine gX0 hx hb hts hown hK hP 0 rfl 0 (by decide) q37 rfl dX0_overSteps_23 ?_
          refine lv_iload_n hx hb dX0_overSteps_26 rfl (lv_at hl 1 rfl) ?_
          refine nv_iald hx hb hK hP 1 0 rfl rfl (by omega) (by decide) dX0_overSteps_27 ?_
          have hld27 := hst sx
          refine lv_iload hx hb dX0_overSteps_28 (lv_at hl 5 rfl) ?_
          refine nv_ishr hx hb (by omega) (by omega) dX0_overSteps_30 ?_
          refine lv_iconst (v := nI 1) hx hb dX0_overSteps_31 (by decide) ?_
          refine nv_iand hx hb dX0_overSteps_32 ?_
          refine nv_if_ne (tgt := 39) hx hb (by omega) dX0_overSteps_33 (by decide) (fun c33 => ?_) (fun c33 => ?_)
          · refine lv_aload_n hx hb dX0_overSteps_39 rfl (lv_at hl 0 rfl) ?_
            refine gX0 hx hb hts hown hK hP 0 rfl 12 (by decide) q49 rfl dX0_overSteps_40 ?_
            refine lv_bipush (v := nI 12) hx hb dX0_overSteps_43 (by decide) ?_
            refine lv_iload hx hb dX0_overSteps_45 (lv_at hl 5 rfl) ?_
            refine nv_imul hx hb dX0_overSteps_47 ?_
            refine lv_iload_n hx hb dX0_overSteps_48 rfl (lv_at hl 2 rfl) ?_
            refine nv_iadd hx hb dX0_overSteps_49 ?_
            refine lv_iconst (v := nI 1) hx hb dX0_overSteps_50 (by decide) ?_
            refine nv_iadd hx hb dX0_overSteps_51 ?_
            refine nv_iald hx hb hK hP 8 0 rfl rfl (by omega) (by decide) dX0_overSteps_52 ?_
            have hld52 := valid_le hmo (hV (((12 * x) + k) + 1))
            refine lv_istore (lv' := [(6, .int (nI (me (((12 * x) + k) + 1)))), (0, .ref (ad 0)), (1, .int (nI sx)), (2, .int (nI k)), (3, .int (nI 1)), (4, .int (nI v)), (5, .int (nI x))]) hx hb dX0_overSteps_53 hl (by decide) rfl (fun ls hl => ?_)
            refine lv_iload_n hx hb dX0_overSteps_55 rfl (lv_at hl 4 rfl) ?_
            refine nv_if_eq (tgt := 69) hx hb (by omega) dX0_overSteps_56 (by decide) (fun q => absurd q (by omega)) (fun c56 => ?_)
            refine lv_iload hx hb dX0_overSteps_59 (lv_at hl 0 rfl) ?_
            refine lv_iload hx hb dX0_overSteps_61 (lv_at hl 5 rfl) ?_
            refine nv_icmp_ge (tgt := 80) hx hb (by omega) (by omega) dX0_overSteps_63 (by decide) (fun c63 => ?_) (fun c63 => ?_)
            · refine nv_iinc (k := 6) (lv' := [(5, .int (nI (x + 1))), (6, .int (nI (me (((12 * x) + k) + 1)))), (0, .ref (ad 0)), (1, .int (nI sx)), (2, .int (nI k)), (3, .int (nI 1)), (4, .int (nI v))]) (v := (nI (x + 1))) hx hb dX0_overSteps_80 hl rfl (nI_inc _) (by decide) rfl (fun ls hl => ?_)
              refine lv_goto (tgt := 15) hx hb dX0_overSteps_83 (by decide) ?_
              exact ihL (x + 1) v (by omega) (by omega) (by first | exact OSs_skip hO (tb_zero c33) | exact OSs_keep hO (tb_pos c33) c63) (hVv) _ _ hP hD hS ls (lv_sub hl [2, 3, 4, 5, 6, 0] rfl)
            · refine lv_goto (tgt := 76) hx hb dX0_overSteps_66 (by decide) ?_
              refine lv_iload hx hb dX0_overSteps_76 (lv_at hl 0 rfl) ?_
              refine lv_istore (lv' := [(4, .int (nI (me (((12 * x) + k) + 1)))), (6, .int (nI (me (((12 * x) + k) + 1)))), (0, .ref (ad 0)), (1, .int (nI sx)), (2, .int (nI k)), (3, .int (nI 1)), (5, .int (nI x))]) hx hb dX0_overSteps_78 hl (by decide) rfl (fun ls hl => ?_)
              refine nv_iinc (k := 6) (lv' := [(5, .int (nI (x + 1))), (4, .int (nI (me (((12 * x) + k) + 1)))), (6, .int (nI (me (((12 * x) + k) + 1)))), (0, .ref (ad 0)), (1, .int (nI sx)), (2, .int (nI k)), (3, .int (nI 1))]) (v := (nI (x + 1))) hx hb dX0_overSteps_80 hl rfl (nI_inc _) (by decide) rfl (fun ls hl => ?_)
              refine lv_goto (tgt := 15) hx hb dX0_overSteps_83 (by decide) ?_
              exact ihL (x + 1) _ (by omega) (by omega) (OSs_less hO (tb_pos c33) c63) (hV _) _ _ hP hD hS ls (lv_sub hl [3, 4, 5, 6, 1, 0] rfl)
          · refine lv_goto (tgt := 80) hx hb dX0_overSteps_36 (by decide) ?_
            refine nv_iinc (k := 5) (lv' := [(5, .int (nI (x + 1))), (0, .ref (ad 0)), (1, .int (nI sx)), (2, .int (nI k)), (3, .int (nI 1)), (4, .int (nI v))]) (v := (nI (x + 1))) hx hb dX0_overSteps_80 hl rfl (nI_inc _) (by decide) rfl (fun ls hl => ?_)
            refine lv_goto (tgt := 15) hx hb dX0_overSteps_83 (by decide) ?_
            exact ihL (x + 1) v (by omega) (by omega) (by first | exact OSs_skip hO (tb_zero c33) | exact OSs_keep hO (tb_pos c33) c63) (hVv) _ _ hP hD hS ls (lv_sub hl [1, 2, 3, 4, 5, 0] rfl)
    exact L 7 0 1000000 (by omega) (by omega) OSs_0 (valid_L mo) _ _ hP hD hS ls (lv_sub hl [2, 3, 4, 5, 1, 0] rfl)
set_option maxHeartbeats 4000000 in
set_option maxRecDepth 100000 in
/-- demanded -/
theorem metX0_demanded (l : Launch) (D : va_G) (ad : Nat → Nat) (di db : ClassId) (st mk : Nat → Nat) (n : Nat) (tk : Nat → Nat) (ps so dp : Nat) (te sc bd de : Nat → Nat) (sv : Nat) (me mo dg : Nat → Nat) (sx k : Nat) (hs : sx < 6) (hk : k < n) (hn : n ≤ 12) (htk : ∀ j, tk j ≤ 18) (hmk : ∀ j, mk j < 64) (hst : ∀ j, st j < 64) (hmo : ∀ i, i < 4 → mo i ≤ 24) (hV : ∀ j, mj_Valid mo (me j)) (hS0 : Str tk n te (fun k => bd k - 1)) (hbp : ∀ k, k < n → 16 ≤ tk k → 0 < bd k) (hsc : ∀ k, k < n → mj_ar (tk k) = 2 → sc k = te (k + 1)) (hdp : ∀ k, k < n → de k = mj_dep tk te k) : xMi l yX0_demanded cX0_demanded 6 .int ({ frames := 2, cells := 0, slots := 0, locals := 48 }) D (tyX di db) (cwX ad di db st mk n tk ps so dp te sc bd de sv me mo dg) [.ref (ad 0), .int (nI sx), .int (nI k)] (fun r u => ∃ v dg1, r = nI v ∧ u = cwX ad di db st mk n tk ps so dp te sc bd de sv me mo dg1 ∧ Dem st mk tk te bd me mo k sx v) := by
  refine xMi_intro (by decide) (Nat.le_of_ble_eq_true rfl) ?_
  intro p e s m args below meth c A Q hx hb hml hown hts hA hK hP hD hS hret ls hl
  have hl : lv_has ls 6 [(0, .ref (ad 0)), (1, .int (nI sx)), (2, .int (nI k))] := hl
  refine lv_aload_n hx hb dX0_demanded_0 rfl (lv_at hl 0 rfl) ?_
  refine gX0 hx hb hts hown hK hP 0 rfl 3 (by decide) q40 rfl dX0_demanded_1 ?_
  refine lv_iload_n hx hb dX0_demanded_4 rfl (lv_at hl 2 rfl) ?_
  refine nv_bald hx hb hK hP 3 1 rfl rfl (by omega) (by decide) dX0_demanded_5 ?_
  have hld5 := htk k
  refine lv_istore_n (lv' := [(3, .int (nI (tk k))), (0, .ref (ad 0)), (1, .int (nI sx)), (2, .int (nI k))]) hx hb dX0_demanded_6 rfl hl (by decide) rfl (fun ls hl => ?_)
  refine lv_iload_n hx hb dX0_demanded_7 rfl (lv_at hl 0 rfl) ?_
  refine lv_iconst (v := nI 3) hx hb dX0_demanded_8 (by decide) ?_
  refine nv_icmp_ge (tgt := 32) hx hb (by omega) (by omega) dX0_demanded_9 (by decide) (fun c9 => ?_) (fun c9 => ?_)
  · refine lv_iload_n hx hb dX0_demanded_32 rfl (lv_at hl 0 rfl) ?_
    refine lv_bipush (v := nI 6) hx hb dX0_demanded_33 (by decide) ?_
    refine nv_icmp_ge (tgt := 60) hx hb (by omega) (by omega) dX0_demanded_35 (by decide) (fun c35 => ?_) (fun c35 => ?_)
    · refine lv_iload_n hx hb dX0_demanded_60 rfl (lv_at hl 0 rfl) ?_
      refine lv_bipush (v := nI 16) hx hb dX0_demanded_61 (by decide) ?_
      refine nv_icmp_lt (tgt := 83) hx hb (by omega) (by omega) dX0_demanded_63 (by decide) (fun c63 => ?_) (fun c63 => ?_)
      · refine lv_iload_n hx hb dX0_demanded_83 rfl (lv_at hl 0 rfl) ?_
        refine lv_bipush (v := nI 6) hx hb dX0_demanded_84 (by decide) ?_
        refine nv_icmp_eq (tgt := 95) hx hb (by omega) (by omega) dX0_demanded_86 (by decide) (fun c86 => ?_) (fun c86 => ?_)
        · rw [c86] at hl
          have hch := mj_ch1 hS0.2.1 hk (by rw [Ne, mj_ar0]; omega)
          have hch2 := mj_ch2 hS0.2.1 hk (mj_ar2.mpr (by omega))
          have hse := hsc k hk (mj_ar2.mpr (by omega))
          refine lv_aload_n hx hb dX0_demanded_95 rfl (lv_at hl 1 rfl) ?_
          refine gX0 hx hb hts hown hK hP 0 rfl 12 (by decide) q49 rfl dX0_demanded_96 ?_
          refine lv_bipush (v := nI 12) hx hb dX0_demanded_99 (by decide) ?_
          refine lv_iload_n hx hb dX0_demanded_101 rfl (lv_at hl 2 rfl) ?_
          refine nv_imul hx hb dX0_demanded_102 ?_
          refine lv_iload_n hx hb dX0_demanded_103 rfl (lv_at hl 3 rfl) ?_
          refine nv_iadd hx hb dX0_demanded_104 ?_
          refine lv_iconst (v := nI 1) hx hb dX0_demanded_105 (by decide) ?_
          refine nv_iadd hx hb dX0_demanded_106 ?_
          refine nv_iald hx hb hK hP 8 0 rfl rfl (by omega) (by decide) dX0_demanded_107 ?_
          have hld107 := valid_le hmo (hV (((12 * sx) + k) + 1))
          refine lv_istore (lv' := [(4, .int (nI (me (((12 * sx) + k) + 1)))), (3, .int (nI 6)), (0, .ref (ad 0)), (1, .int (nI sx)), (2, .int (nI k))]) hx hb dX0_demanded_108 hl (by decide) rfl (fun ls hl => ?_)
          refine lv_aload_n hx hb dX0_demanded_110 rfl (lv_at hl 2 rfl) ?_
          refine gX0 hx hb hts hown hK hP 0 rfl 12 (by decide) q49 rfl dX0_demanded_111 ?_
          refine lv_bipush (v := nI 12) hx hb dX0_demanded_114 (by decide) ?_
          refine lv_iload_n hx hb dX0_demanded_116 rfl (lv_at hl 3 rfl) ?_
          refine nv_imul hx hb dX0_demanded_117 ?_
          refine lv_aload_n hx hb dX0_demanded_118 rfl (lv_at hl 2 rfl) ?_
          refine gX0 hx hb hts hown hK hP 0 rfl 8 (by decide) q45 rfl dX0_demanded_119 ?_
          refine lv_iload_n hx hb dX0_demanded_122 rfl (lv_at hl 4 rfl) ?_
          refine nv_bald hx hb hK hP 5 1 rfl rfl (by omega) (by decide) dX0_demanded_123 ?_
          refine nv_iadd hx hb dX0_demanded_124 ?_
          refine nv_iald hx hb hK hP 8 0 rfl rfl (by omega) (by decide) dX0_demanded_125 ?_
          have hld125 := valid_le hmo (hV ((12 * sx) + (sc k)))
          refine lv_istore (lv' := [(5, .int (nI (me ((12 * sx) + (sc k))))), (4, .int (nI (me (((12 * sx) + k) + 1)))), (3, .int (nI 6)), (0, .ref (ad 0)), (1, .int (nI sx)), (2, .int (nI k))]) hx hb dX0_demanded_126 hl (by decide) rfl (fun ls hl => ?_)
          refine lv_iload hx hb dX0_demanded_128 (lv_at hl 1 rfl) ?_
          refine lv_iload hx hb dX0_demanded_130 (lv_at hl 0 rfl) ?_
          refine nv_icmp_ge (tgt := 139) hx hb (by omega) (by omega) dX0_demanded_132 (by decide) (fun c132 => ?_) (fun c132 => ?_)
          · refine lv_iconst (v := nI 0) hx hb dX0_demanded_139 (by decide) ?_
            refine lv_iload_n hx hb dX0_demanded_140 rfl (lv_at hl 2 rfl) ?_
            refine lv_bipush (v := nI 7) hx hb dX0_demanded_141 (by decide) ?_
            refine nv_icmp_ne (tgt := 150) hx hb (by omega) (by omega) dX0_demanded_143 (by decide) (fun c143 => ?_) (fun q => absurd q (by omega))
            refine lv_iconst (v := nI 0) hx hb dX0_demanded_150 (by decide) ?_
            refine nv_icmp_ne (tgt := 159) hx hb (by omega) (by omega) dX0_demanded_151 (by decide) (fun q => absurd q (by omega)) (fun c151 => ?_)
            refine lv_iload hx hb dX0_demanded_154 (lv_at hl 1 rfl) ?_
            refine lv_goto (tgt := 161) hx hb dX0_demanded_156 (by decide) ?_
            exact hret _ _ _ _ _ (cwX ad di db st mk n tk ps so dp te sc bd de sv me mo dg) rfl dX0_demanded_161 (⟨me (((12 * sx) + k) + 1), dg, rfl, rfl, Dem_and (by omega) (hV _) (fun w => by rw [← hse]; omega)⟩) hP hD hS
          · refine lv_iconst (v := nI 1) hx hb dX0_demanded_135 (by decide) ?_
            refine lv_goto (tgt := 140) hx hb dX0_demanded_136 (by decide) ?_
            refine lv_iload_n hx hb dX0_demanded_140 rfl (lv_at hl 2 rfl) ?_
            refine lv_bipush (v := nI 7) hx hb dX0_demanded_141 (by decide) ?_
            refine nv_icmp_ne (tgt := 150) hx hb (by omega) (by omega) dX0_demanded_143 (by decide) (fun c143 => ?_) (fun q => absurd q (by omega))
            refine lv_iconst (v := nI 0) hx hb dX0_demanded_150 (by decide) ?_
            refine nv_icmp_ne (tgt := 159) hx hb (by omega) (by omega) dX0_demanded_151 (by decide) (fun c151 => ?_) (fun q => absurd q (by omega))
            refine lv_iload hx hb dX0_demanded_159 (lv_at hl 0 rfl) ?_
            exact hret _ _ _ _ _ (cwX ad di db st mk n tk ps so dp te sc bd de sv me mo dg) rfl dX0_demanded_161 (⟨me ((12 * sx) + (sc k)), dg, rfl, rfl, Dem_and (by omega) (hV _) (fun w => by rw [← hse]; omega)⟩) hP hD hS
        · refine lv_iload_n hx hb dX0_demanded_89 rfl (lv_at hl 0 rfl) ?_
          refine lv_bipush (v := nI 7) hx hb dX0_demanded_90 (by decide) ?_
          refine nv_icmp_ne (tgt := 162) hx hb (by omega) (by omega) dX0_demanded_92 (by decide) (fun c92 => ?_) (fun c92 => ?_)
          · refine lv_aload_n hx hb dX0_demanded_162 rfl (lv_at hl 1 rfl) ?_
            refine lv_iload_n hx hb dX0_demanded_163 rfl (lv_at hl 0 rfl) ?_
            refine pcall_i (As := [.int (nI (tk k))]) (rest := []) (ci := 0) (q0 := 0) ⟨hx, hb, hml, hown, hts⟩ (metX0_binds l (ad 0) (tk k) (by omega)) (cwV 1 hts (lw_V q129 q131 qs5 q27 q132) rfl rfl rfl (by decide +kernel) ⟨Nat.le_of_ble_eq_true rfl, Nat.le_of_ble_eq_true rfl⟩) rfl rfl hK hP rfl hl.1 rfl (Nat.le_of_ble_eq_true rfl) dX0_demanded_164 ⟨Nat.zero_le _, Nat.zero_le _⟩ (fun r hr => ?_)
            subst hr
            have hbl := bi_le (tk k)
            refine nv_if_eq (tgt := 189) hx hb (by omega) dX0_demanded_167 (by decide) (fun c167 => ?_) (fun c167 => ?_)
            · have hnb := bi_zero c167
              have hch := mj_ch1 hS0.2.1 hk (by rw [Ne, mj_ar0]; omega)
              refine lv_aload_n hx hb dX0_demanded_189 rfl (lv_at hl 1 rfl) ?_
              refine lv_iload_n hx hb dX0_demanded_190 rfl (lv_at hl 2 rfl) ?_
              refine lv_iload_n hx hb dX0_demanded_191 rfl (lv_at hl 3 rfl) ?_
              refine lv_iload_n hx hb dX0_demanded_192 rfl (lv_at hl 0 rfl) ?_
              refine lv_bipush (v := nI 8) hx hb dX0_demanded_193 (by decide) ?_
              refine nv_icmp_ne (tgt := 202) hx hb (by omega) (by omega) dX0_demanded_195 (by decide) (fun c195 => ?_) (fun c195 => ?_)
              · refine lv_iconst (v := nI 0) hx hb dX0_demanded_202 (by decide) ?_
                refine xcall_i (As := [.int (nI sx), .int (nI k), .int (nI 0)]) (rest := []) (ci := 0) ⟨hx, hb, hml, hown, hts⟩ (metX0_overSteps l D ad di db st mk n tk ps so dp te sc bd de sv me mo dg sx k 0 hs (by omega) (by omega) hst hmo hV) (cwV 3 hts (lw_V q166 q168 qs13 q27 q169) rfl rfl rfl (by decide +kernel) ⟨Nat.le_of_ble_eq_true rfl, Nat.le_of_ble_eq_true rfl⟩) rfl rfl hK hP hD hS hA rfl hl.1 rfl (Nat.le_of_ble_eq_true rfl) dX0_demanded_203 ⟨Nat.zero_le _, Nat.zero_le _⟩ (fun r u H locs hw hP hD hS => ?_)
                obtain ⟨v, rfl, rfl, hvv, f1, f0⟩ := hw
                exact hret _ _ _ _ _ (cwX ad di db st mk n tk ps so dp te sc bd de sv me mo dg) rfl dX0_demanded_206 (⟨v, dg, rfl, rfl, Dem_all hmo (by omega) hvv (f0 rfl)⟩) hP hD hS
              · refine lv_iconst (v := nI 1) hx hb dX0_demanded_198 (by decide) ?_
                refine lv_goto (tgt := 203) hx hb dX0_demanded_199 (by decide) ?_
                refine xcall_i (As := [.int (nI sx), .int (nI k), .int (nI 1)]) (rest := []) (ci := 0) ⟨hx, hb, hml, hown, hts⟩ (metX0_overSteps l D ad di db st mk n tk ps so dp te sc bd de sv me mo dg sx k 1 hs (by omega) (by omega) hst hmo hV) (cwV 3 hts (lw_V q166 q168 qs13 q27 q169) rfl rfl rfl (by decide +kernel) ⟨Nat.le_of_ble_eq_true rfl, Nat.le_of_ble_eq_true rfl⟩) rfl rfl hK hP hD hS hA rfl hl.1 rfl (Nat.le_of_ble_eq_true rfl) dX0_demanded_203 ⟨Nat.zero_le _, Nat.zero_le _⟩ (fun r u H locs hw hP hD hS => ?_)
                obtain ⟨v, rfl, rfl, hvv, f1, f0⟩ := hw
                exact hret _ _ _ _ _ (cwX ad di db st mk n tk ps so dp te sc bd de sv me mo dg) rfl dX0_demanded_206 (⟨v, dg, rfl, rfl, Dem_some hmo (by omega) hvv (f1 rfl)⟩) hP hD hS
            · have hbb := bi_pos c167
              have hch := mj_ch1 hS0.2.1 hk (by rw [Ne, mj_ar0]; omega)
              refine lv_aload_n hx hb dX0_demanded_170 rfl (lv_at hl 1 rfl) ?_
              refine lv_iload_n hx hb dX0_demanded_171 rfl (lv_at hl 3 rfl) ?_
              refine lv_aload_n hx hb dX0_demanded_172 rfl (lv_at hl 1 rfl) ?_
              refine gX0 hx hb hts hown hK hP 0 rfl 12 (by decide) q49 rfl dX0_demanded_173 ?_
              refine lv_bipush (v := nI 12) hx hb dX0_demanded_176 (by decide) ?_
              refine lv_iload_n hx hb dX0_demanded_178 rfl (lv_at hl 2 rfl) ?_
              refine nv_imul hx hb dX0_demanded_179 ?_
              refine lv_iload_n hx hb dX0_demanded_180 rfl (lv_at hl 3 rfl) ?_
              refine nv_iadd hx hb dX0_demanded_181 ?_
              refine lv_iconst (v := nI 1) hx hb dX0_demanded_182 (by decide) ?_
              refine nv_iadd hx hb dX0_demanded_183 ?_
              refine nv_iald hx hb hK hP 8 0 rfl rfl (by omega) (by decide) dX0_demanded_184 ?_
              have hld184 := valid_le hmo (hV (((12 * sx) + k) + 1))
              refine xcall_i (As := [.int (nI k), .int (nI (me (((12 * sx) + k) + 1)))]) (rest := []) (ci := 0) ⟨hx, hb, hml, hown, hts⟩ (metX0_before l D ad di db st mk n tk ps so dp te sc bd de sv me mo dg k (me (((12 * sx) + k) + 1)) (mj_dep tk te k) (by omega) htk hbb (hdp k hk) (mj_dep3 hS0.2.2.2.2 hk hbb) hmo (hV _)) (cwV 2 hts (lw_V q154 q156 qs10 q27 q157) rfl rfl rfl (by decide +kernel) ⟨Nat.le_of_ble_eq_true rfl, Nat.le_of_ble_eq_true rfl⟩) rfl rfl hK hP hD hS hA rfl hl.1 rfl (Nat.le_of_ble_eq_true rfl) dX0_demanded_185 ⟨Nat.zero_le _, Nat.zero_le _⟩ (fun r u H locs hw hP hD hS => ?_)
              obtain ⟨v, dg1, rfl, rfl, hvv, f1, f2⟩ := hw
              have hdem : Dem st mk tk te bd me mo k sx v := by
                rcases Nat.lt_or_ge (tk k) 13 with h13 | h13
                · exact Dem_mu hbb.1 h13 hvv (f1 h13)
                · exact Dem_nu h13 hbb.2 hvv (f2 h13)
              exact hret _ _ _ _ _ (cwX ad di db st mk n tk ps so dp te sc bd de sv me mo dg1) rfl dX0_demanded_188 (⟨v, dg1, rfl, rfl, hdem⟩) hP hD hS
          · rw [c92] at hl
            have hch := mj_ch1 hS0.2.1 hk (by rw [Ne, mj_ar0]; omega)
            have hch2 := mj_ch2 hS0.2.1 hk (mj_ar2.mpr (by omega))
            have hse := hsc k hk (mj_ar2.mpr (by omega))
            refine lv_aload_n hx hb dX0_demanded_95 rfl (lv_at hl 1 rfl) ?_
            refine gX0 hx hb hts hown hK hP 0 rfl 12 (by decide) q49 rfl dX0_demanded_96 ?_
            refine lv_bipush (v := nI 12) hx hb dX0_demanded_99 (by decide) ?_
            refine lv_iload_n hx hb dX0_demanded_101 rfl (lv_at hl 2 rfl) ?_
            refine nv_imul hx hb dX0_demanded_102 ?_
            refine lv_iload_n hx hb dX0_demanded_103 rfl (lv_at hl 3 rfl) ?_
            refine nv_iadd hx hb dX0_demanded_104 ?_
            refine lv_iconst (v := nI 1) hx hb dX0_demanded_105 (by decide) ?_
            refine nv_iadd hx hb dX0_demanded_106 ?_
            refine nv_iald hx hb hK hP 8 0 rfl rfl (by omega) (by decide) dX0_demanded_107 ?_
            have hld107 := valid_le hmo (hV (((12 * sx) + k) + 1))
            refine lv_istore (lv' := [(4, .int (nI (me (((12 * sx) + k) + 1)))), (3, .int (nI 7)), (0, .ref (ad 0)), (1, .int (nI sx)), (2, .int (nI k))]) hx hb dX0_demanded_108 hl (by decide) rfl (fun ls hl => ?_)
            refine lv_aload_n hx hb dX0_demanded_110 rfl (lv_at hl 2 rfl) ?_
            refine gX0 hx hb hts hown hK hP 0 rfl 12 (by decide) q49 rfl dX0_demanded_111 ?_
            refine lv_bipush (v := nI 12) hx hb dX0_demanded_114 (by decide) ?_
            refine lv_iload_n hx hb dX0_demanded_116 rfl (lv_at hl 3 rfl) ?_
            refine nv_imul hx hb dX0_demanded_117 ?_
            refine lv_aload_n hx hb dX0_demanded_118 rfl (lv_at hl 2 rfl) ?_
            refine gX0 hx hb hts hown hK hP 0 rfl 8 (by decide) q45 rfl dX0_demanded_119 ?_
            refine lv_iload_n hx hb dX0_demanded_122 rfl (lv_at hl 4 rfl) ?_
            refine nv_bald hx hb hK hP 5 1 rfl rfl (by omega) (by decide) dX0_demanded_123 ?_
            refine nv_iadd hx hb dX0_demanded_124 ?_
            refine nv_iald hx hb hK hP 8 0 rfl rfl (by omega) (by decide) dX0_demanded_125 ?_
            have hld125 := valid_le hmo (hV ((12 * sx) + (sc k)))
            refine lv_istore (lv' := [(5, .int (nI (me ((12 * sx) + (sc k))))), (4, .int (nI (me (((12 * sx) + k) + 1)))), (3, .int (nI 7)), (0, .ref (ad 0)), (1, .int (nI sx)), (2, .int (nI k))]) hx hb dX0_demanded_126 hl (by decide) rfl (fun ls hl => ?_)
            refine lv_iload hx hb dX0_demanded_128 (lv_at hl 1 rfl) ?_
            refine lv_iload hx hb dX0_demanded_130 (lv_at hl 0 rfl) ?_
            refine nv_icmp_ge (tgt := 139) hx hb (by omega) (by omega) dX0_demanded_132 (by decide) (fun c132 => ?_) (fun c132 => ?_)
            · refine lv_iconst (v := nI 0) hx hb dX0_demanded_139 (by decide) ?_
              refine lv_iload_n hx hb dX0_demanded_140 rfl (lv_at hl 2 rfl) ?_
              refine lv_bipush (v := nI 7) hx hb dX0_demanded_141 (by decide) ?_
              refine nv_icmp_ne (tgt := 150) hx hb (by omega) (by omega) dX0_demanded_143 (by decide) (fun q => absurd q (by omega)) (fun c143 => ?_)
              refine lv_iconst (v := nI 1) hx hb dX0_demanded_146 (by decide) ?_
              refine lv_goto (tgt := 151) hx hb dX0_demanded_147 (by decide) ?_
              refine nv_icmp_ne (tgt := 159) hx hb (by omega) (by omega) dX0_demanded_151 (by decide) (fun c151 => ?_) (fun q => absurd q (by omega))
              refine lv_iload hx hb dX0_demanded_159 (lv_at hl 0 rfl) ?_
              exact hret _ _ _ _ _ (cwX ad di db st mk n tk ps so dp te sc bd de sv me mo dg) rfl dX0_demanded_161 (⟨me ((12 * sx) + (sc k)), dg, rfl, rfl, Dem_or (by omega) (hV _) (fun w => by rw [← hse]; omega)⟩) hP hD hS
            · refine lv_iconst (v := nI 1) hx hb dX0_demanded_135 (by decide) ?_
              refine lv_goto (tgt := 140) hx hb dX0_demanded_136 (by decide) ?_
              refine lv_iload_n hx hb dX0_demanded_140 rfl (lv_at hl 2 rfl) ?_
              refine lv_bipush (v := nI 7) hx hb dX0_demanded_141 (by decide) ?_
              refine nv_icmp_ne (tgt := 150) hx hb (by omega) (by omega) dX0_demanded_143 (by decide) (fun q => absurd q (by omega)) (fun c143 => ?_)
              refine lv_iconst (v := nI 1) hx hb dX0_demanded_146 (by decide) ?_
              refine lv_goto (tgt := 151) hx hb dX0_demanded_147 (by decide) ?_
              refine nv_icmp_ne (tgt := 159) hx hb (by omega) (by omega) dX0_demanded_151 (by decide) (fun q => absurd q (by omega)) (fun c151 => ?_)
              refine lv_iload hx hb dX0_demanded_154 (lv_at hl 1 rfl) ?_
              refine lv_goto (tgt := 161) hx hb dX0_demanded_156 (by decide) ?_
              exact hret _ _ _ _ _ (cwX ad di db st mk n tk ps so dp te sc bd de sv me mo dg) rfl dX0_demanded_161 (⟨me (((12 * sx) + k) + 1), dg, rfl, rfl, Dem_or (by omega) (hV _) (fun w => by rw [← hse]; omega)⟩) hP hD hS
      · have hbk := (hS0.2.2.2.1 k hk (by omega)).1
        obtain ⟨b, hb9⟩ : ∃ b, bd k = b + 1 := ⟨bd k - 1, by have := hbp k hk (by omega); omega⟩
        simp only [hb9] at hbk
        refine lv_aload_n hx hb dX0_demanded_66 rfl (lv_at hl 1 rfl) ?_
        refine gX0 hx hb hts hown hK hP 0 rfl 12 (by decide) q49 rfl dX0_demanded_67 ?_
        refine lv_bipush (v := nI 12) hx hb dX0_demanded_70 (by decide) ?_
        refine lv_iload_n hx hb dX0_demanded_72 rfl (lv_at hl 2 rfl) ?_
        refine nv_imul hx hb dX0_demanded_73 ?_
        refine lv_aload_n hx hb dX0_demanded_74 rfl (lv_at hl 1 rfl) ?_
        refine gX0 hx hb hts hown hK hP 0 rfl 9 (by decide) q46 rfl dX0_demanded_75 ?_
        refine lv_iload_n hx hb dX0_demanded_78 rfl (lv_at hl 3 rfl) ?_
        refine nw_bald hx hb hK hP 6 1 rfl rfl (by omega) (by decide) dX0_demanded_79 ?_
        rw [hb9, nP_succ]
        refine nv_iadd hx hb dX0_demanded_80 ?_
        refine nv_iald hx hb hK hP 8 0 rfl rfl (by omega) (by decide) dX0_demanded_81 ?_
        have hld81 := valid_le hmo (hV ((12 * sx) + b))
        have e9 : b = bd k - 1 := by omega
        have hdem := Dem_name (st := st) (mk := mk) (te := te) (s := sx) (k := k) (bd := bd) (tk := tk) (by omega) (hV (12 * sx + (bd k - 1)))
        rw [← e9] at hdem
        exact hret _ _ _ _ _ (cwX ad di db st mk n tk ps so dp te sc bd de sv me mo dg) rfl dX0_demanded_82 (⟨me ((12 * sx) + b), dg, rfl, rfl, hdem⟩) hP hD hS
    · refine lv_aload_n hx hb dX0_demanded_38 rfl (lv_at hl 1 rfl) ?_
      refine gX0 hx hb hts hown hK hP 0 rfl 1 (by decide) q38 rfl dX0_demanded_39 ?_
      refine lv_iload_n hx hb dX0_demanded_42 rfl (lv_at hl 0 rfl) ?_
      refine lv_iconst (v := nI 3) hx hb dX0_demanded_43 (by decide) ?_
      refine nv_isub hx hb (by omega) dX0_demanded_44 ?_
      refine nv_iald hx hb hK hP 2 0 rfl rfl (by omega) (by decide) dX0_demanded_45 ?_
      have hld45 := hmk ((tk k) - 3)
      have ha1 := and1_le (mk ((tk k) - 3) / 2 ^ sx)
      refine lv_iload_n hx hb dX0_demanded_46 rfl (lv_at hl 2 rfl) ?_
      refine nv_ishr hx hb (by omega) (by omega) dX0_demanded_47 ?_
      refine lv_iconst (v := nI 1) hx hb dX0_demanded_48 (by decide) ?_
      refine nv_iand hx hb dX0_demanded_49 ?_
      refine nv_if_eq (tgt := 58) hx hb (by omega) dX0_demanded_50 (by decide) (fun c50 => ?_) (fun c50 => ?_)
      · refine lv_iconst (v := nI 0) hx hb dX0_demanded_58 (by decide) ?_
        exact hret _ _ _ _ _ (cwX ad di db st mk n tk ps so dp te sc bd de sv me mo dg) rfl dX0_demanded_59 (⟨0, dg, rfl, rfl, Dem_b1 (by omega) (by omega) (tb_zero c50)⟩) hP hD hS
      · refine lv_ldc (own := RX0) (v := nI 1000000) hx hb hown (hts _ q153n) dX0_demanded_53 ?_
        refine lv_goto (tgt := 59) hx hb dX0_demanded_55 (by decide) ?_
        exact hret _ _ _ _ _ (cwX ad di db st mk n tk ps so dp te sc bd de sv me mo dg) rfl dX0_demanded_59 (⟨1000000, dg, rfl, rfl, Dem_b0 hmo (by omega) (by omega) (tb_pos c50)⟩) hP hD hS
  · refine lv_aload_n hx hb dX0_demanded_12 rfl (lv_at hl 1 rfl) ?_
    refine gX0 hx hb hts hown hK hP 0 rfl 1 (by decide) q38 rfl dX0_demanded_13 ?_
    refine lv_iload_n hx hb dX0_demanded_16 rfl (lv_at hl 0 rfl) ?_
    refine nv_iald hx hb hK hP 2 0 rfl rfl (by omega) (by decide) dX0_demanded_17 ?_
    have hld17 := hmk (tk k)
    have ha1 := and1_le (mk (tk k) / 2 ^ sx)
    refine lv_iload_n hx hb dX0_demanded_18 rfl (lv_at hl 2 rfl) ?_
    refine nv_ishr hx hb (by omega) (by omega) dX0_demanded_19 ?_
    refine lv_iconst (v := nI 1) hx hb dX0_demanded_20 (by decide) ?_
    refine nv_iand hx hb dX0_demanded_21 ?_
    refine nv_if_eq (tgt := 29) hx hb (by omega) dX0_demanded_22 (by decide) (fun c22 => ?_) (fun c22 => ?_)
    · refine lv_ldc (own := RX0) (v := nI 1000000) hx hb hown (hts _ q153n) dX0_demanded_29 ?_
      exact hret _ _ _ _ _ (cwX ad di db st mk n tk ps so dp te sc bd de sv me mo dg) rfl dX0_demanded_31 (⟨1000000, dg, rfl, rfl, Dem_a0 hmo (by omega) (tb_zero c22)⟩) hP hD hS
    · refine lv_iconst (v := nI 0) hx hb dX0_demanded_25 (by decide) ?_
      refine lv_goto (tgt := 31) hx hb dX0_demanded_26 (by decide) ?_
      exact hret _ _ _ _ _ (cwX ad di db st mk n tk ps so dp te sc bd de sv me mo dg) rfl dX0_demanded_31 (⟨0, dg, rfl, rfl, Dem_a1 (by omega) (tb_pos c22)⟩) hP hD hS
end
section
/-! PLAIN LAW, 7: the answer's own words; what solving keeps -/
theorem mj_semF_congr {st mk tk : Nat → Nat} {n : Nat} {E E' B B' : Nat → Nat} (h : mj_EndOK tk n E) (hE : ∀ k, k < n → E k = E' k) (hB : ∀ k, k < n → 16 ≤ tk k → B k = B' k) : ∀ f k, k < n → n - k ≤ f → mj_semF st mk tk E B f k = mj_semF st mk tk E' B' f k := by
  intro f
  induction f with
  | zero => intro k hk h1; omega
  | succ f ih =>
    intro k hk h1
    funext e s
    simp only [mj_semF]
    by_cases c1 : tk k < 10
    · rw [if_pos c1, if_pos c1]
      refine mj_node_congr c1 (fun ha => ?_) (fun ha => ?_)
      · obtain ⟨d1, d2, d3⟩ := mj_ch1 h hk ha
        rw [ih (k + 1) d1 (by omega)]
      · obtain ⟨d1, d2, d3, d4⟩ := mj_ch2 h hk ha
        rw [ih (E (k + 1)) d2 (by omega), hE (k + 1) (by omega)]
    · rw [if_neg c1, if_neg c1]
      by_cases c2 : tk k < 16
      · obtain ⟨d1, d2, d3⟩ := mj_ch1 h hk (by rw [Ne, mj_ar0]; omega)
        rw [ih (k + 1) d1 (by omega), if_pos c2, if_pos c2]
      · rw [if_neg (show ¬ tk k < 13 by omega), if_neg (show ¬ tk k < 13 by omega), if_neg c2, if_neg c2, hB k hk (by omega)]
theorem IsB_uniq {tk : Nat → Nat} {n : Nat} {E E' : Nat → Nat} (hE : ∀ k, k < n → E k = E' k) {b b' k : Nat} (hk : k < n) (h : IsB tk E b k) (h' : IsB tk E' b' k) : b = b' := by
  obtain ⟨a1, a2, a3, a4⟩ := h
  obtain ⟨c1, c2, c3, c4⟩ := h'
  rcases Nat.lt_trichotomy b b' with q | q | q
  · have := a4 b' q c1 c2
    rw [hE b' (by omega)] at this
    omega
  · exact q
  · have := c4 b q a1 a2
    rw [← hE b (by omega)] at this
    omega
/-- the state s satisfies the formula -/
def Ans (st mk tk : Nat → Nat) (n s : Nat) : Prop := ∃ E B, Str tk n E B ∧ mj_sem st mk tk n E B 0 (fun _ _ => False) s
theorem Ans_iff {st mk tk : Nat → Nat} {n s : Nat} {E B : Nat → Nat} (h : Str tk n E B) : Ans st mk tk n s ↔ mj_sem st mk tk n E B 0 (fun _ _ => False) s := by
  constructor
  · rintro ⟨E', B', h', hs⟩
    have hE : ∀ k, k < n → E' k = E k := fun k hk => Str_ends (lo := 0) h' (fun i _ hi => h.2.1 i hi) (Nat.zero_le k) hk
    have e : mj_semF st mk tk E' B' (n - 0) 0 = mj_semF st mk tk E B (n - 0) 0 :=
      mj_semF_congr h'.2.1 hE (fun k hk h16 => IsB_uniq hE hk (h'.2.2.2.1 k hk h16) (h.2.2.2.1 k hk h16)) (n - 0) 0 h.1 (Nat.le_refl _)
    unfold mj_sem at hs ⊢
    rw [← e]
    exact hs
  · exact fun hs => ⟨E, B, h, hs⟩
/-- what is kept of the measures: zeros behind them; when they count as solved, they answer -/
def SX (st mk tk : Nat → Nat) (n sv : Nat) (me : Nat → Nat) : Prop := (∀ j, 72 ≤ j → me j = 0) ∧ (∀ j, me j ≤ 1000000) ∧ (sv = 0 ∨ (sv = 1 ∧ Snd tk n ∧ ∀ s, s < 6 → (me (12 * s) < 1000000 ↔ Ans st mk tk n s)))
def tot (me : Nat → Nat) : Nat → Nat
  | 0 => 0
  | j + 1 => tot me j + me j
theorem tot_le {me : Nat → Nat} {L : Nat} (h : ∀ j, me j ≤ L) : ∀ j, tot me j ≤ L * j := by
  intro j
  induction j with
  | zero => exact Nat.le_refl _
  | succ j ih =>
    have := h j
    show tot me j + me j ≤ L * (j + 1)
    rw [Nat.mul_succ]
    omega
theorem tot_same {me : Nat → Nat} {i v : Nat} : ∀ j, j ≤ i → tot (upN me i v) j = tot me j := by
  intro j
  induction j with
  | zero => intro _; rfl
  | succ j ih =>
    intro h
    show tot _ j + upN me i v j = tot me j + me j
    rw [ih (by omega), upN_n _ _ (by omega)]
theorem tot_up {me : Nat → Nat} {i v : Nat} (hv : me i < v) : ∀ j, i < j → tot me j < tot (upN me i v) j := by
  intro j
  induction j with
  | zero => intro h; omega
  | succ j ih =>
    intro h
    show tot me j + me j < tot (upN me i v) j + upN me i v j
    by_cases e : i = j
    · subst e
      rw [tot_same i (Nat.le_refl _), upN_s]
      omega
    · have := ih (by omega)
      rw [upN_n _ _ (by omega)]
      omega
/-- measures set to zero so far -/
def zf (me : Nat → Nat) (i : Nat) : Nat → Nat := fun j => if j < i then 0 else me j
theorem zf_0 (me : Nat → Nat) : zf me 0 = me := by funext j; simp [zf]
theorem zf_step (me : Nat → Nat) (i : Nat) : upN (zf me i) i 0 = zf me (i + 1) := by
  funext j
  unfold upN zf
  by_cases h : j = i
  · rw [if_pos h, if_pos (by omega)]
  · rw [if_neg h]
    by_cases h2 : j < i
    · rw [if_pos h2, if_pos (by omega)]
    · rw [if_neg h2, if_neg (by omega)]
theorem zf_all {me : Nat → Nat} (h : ∀ j, 72 ≤ j → me j = 0) : zf me 72 = fun _ => 0 := by
  funext j
  unfold zf
  by_cases h2 : j < 72
  · rw [if_pos h2]
  · rw [if_neg h2]; exact h j (by omega)
section SOLVE
variable {st mk tk te bd mo : Nat → Nat} {n : Nat} {me me0 me1 : Nat → Nat}
def SI (st mk tk te bd mo : Nat → Nat) (n : Nat) (me : Nat → Nat) : Prop := (∀ j, mj_Valid mo (me j)) ∧ mj_Inv st mk tk n te (fun k => bd k - 1) mo (rho me)
def StP (st mk tk te bd me : Nat → Nat) (k s : Nat) : Prop := rho me s k < 1000000 → mj_PG st mk tk te (fun k => bd k - 1) (rho me) k s (rho me s k)
theorem SI_0 : SI st mk tk te bd mo n (fun _ => 0) := ⟨fun _ => valid_0 mo, fun _ _ _ _ _ _ _ => Nat.zero_le _⟩
theorem StP_of {k s v : Nat} (hI : SI st mk tk te bd mo n me) (hD : Dem st mk tk te bd me mo k s v) (hv : v ≤ me (12 * s + k)) : StP st mk tk te bd me k s := by
  intro hL
  obtain ⟨m, hm, e⟩ := valid_pack (hI.1 (12 * s + k)) hL
  have := (hD.2 m hm).mp (by rw [← e]; exact hv)
  rw [← e] at this
  exact this
theorem SI_step {k s v : Nat} (h18 : ∀ j, tk j ≤ 18) (hn : n ≤ 12) (hS : Str tk n te (fun k => bd k - 1)) (hc : ∀ i, i < 4 → mo i ≤ 24) (hc6 : ∀ k, k < n → 10 ≤ tk k → tk k < 13 → 6 ≤ mo (mj_dep tk te k)) (hI : SI st mk tk te bd mo n me) (hD : Dem st mk tk te bd me mo k s v) (hk : k < n) (hs : s < 6) : SI st mk tk te bd mo n (upN me (12 * s + k) v) := by
  refine ⟨fun j => ?_, fun s' hs' k' hk' m hm hval => ?_⟩
  · by_cases e : j = 12 * s + k
    · rw [e, upN_s]; exact hD.1
    · rw [upN_n _ _ e]; exact hI.1 j
  · show upN me (12 * s + k) v (12 * s' + k') ≤ mj_pack m
    by_cases e : 12 * s' + k' = 12 * s + k
    · rw [e, upN_s]
      obtain ⟨rfl, rfl⟩ : s' = s ∧ k' = k := by omega
      exact (hD.2 m hm).mpr (mj_comp hS.2.1 (Str_enc h18 hS) hS.2.2.2.2 hc hc6 hI.2 hk hs hm hval)
    · rw [upN_n _ _ e]
      exact hI.2 s' hs' k' hk' m hm hval
def RXK (st mk tk te bd : Nat → Nat) (n : Nat) (me0 : Nat → Nat) (j : Nat) (me : Nat → Nat) (r : Nat) : Prop := (r = 0 ∧ me = me0 ∧ ∀ k s, j ≤ k → k < n → s < 6 → StP st mk tk te bd me0 k s) ∨ (r = 1 ∧ tot me0 72 < tot me 72)
def RXS (st mk tk te bd : Nat → Nat) (n : Nat) (me0 : Nat → Nat) (j x : Nat) (me : Nat → Nat) (r : Nat) : Prop := (r = 0 ∧ me = me0 ∧ (∀ k s, j + 1 ≤ k → k < n → s < 6 → StP st mk tk te bd me0 k s) ∧ ∀ s, s < x → StP st mk tk te bd me0 j s) ∨ (r = 1 ∧ tot me0 72 < tot me 72)
theorem RXS_0 {j r : Nat} (h : RXK st mk tk te bd n me0 (j + 1) me r) : RXS st mk tk te bd n me0 j 0 me r := by
  rcases h with ⟨h1, h2, h3⟩ | h
  · exact Or.inl ⟨h1, h2, h3, fun s h => by omega⟩
  · exact Or.inr h
theorem RXS_6 {j r : Nat} (h : RXS st mk tk te bd n me0 j 6 me r) : RXK st mk tk te bd n me0 j me r := by
  rcases h with ⟨h1, h2, h3, h4⟩ | h
  · refine Or.inl ⟨h1, h2, fun k s a1 a2 a3 => ?_⟩
    by_cases e : k = j
    · subst e; exact h4 s a3
    · exact h3 k s (by omega) a2 a3
  · exact Or.inr h
theorem RXS_keep {j x r v : Nat} (h : RXS st mk tk te bd n me0 j x me r) (hI : SI st mk tk te bd mo n me) (hD : Dem st mk tk te bd me mo j x v) (hv : v ≤ me (12 * x + j)) : RXS st mk tk te bd n me0 j (x + 1) me r := by
  have hst := StP_of hI hD hv
  rcases h with ⟨h1, h2, h3, h4⟩ | h
  · subst h2
    refine Or.inl ⟨h1, rfl, h3, fun s hs => ?_⟩
    by_cases e : s = x
    · subst e; exact hst
    · exact h4 s (by omega)
  · exact Or.inr h
theorem RXS_raise {j x r v : Nat} (h : RXS st mk tk te bd n me0 j x me r) (hi : 12 * x + j < 72) (hv : me (12 * x + j) < v) : RXS st mk tk te bd n me0 j (x + 1) (upN me (12 * x + j) v) 1 := by
  have h1 := tot_up hv 72 hi
  rcases h with ⟨_, h2, _⟩ | ⟨_, h2⟩
  · subst h2; exact Or.inr ⟨rfl, h1⟩
  · exact Or.inr ⟨rfl, by omega⟩
theorem upN_z {me : Nat → Nat} {i v : Nat} (h : ∀ j, 72 ≤ j → me j = 0) (hi : i < 72) : ∀ j, 72 ≤ j → upN me i v j = 0 := by
  intro j hj
  rw [upN_n _ _ (by omega)]
  exact h j hj
theorem solve_end (h18 : ∀ j, tk j ≤ 18) (hS : Str tk n te (fun k => bd k - 1)) (hc : ∀ i, i < 4 → mo i ≤ 24) (hc6 : ∀ k, k < n → 10 ≤ tk k → tk k < 13 → 6 ≤ mo (mj_dep tk te k)) (hI : SI st mk tk te bd mo n me) (hst : ∀ k s, 0 ≤ k → k < n → s < 6 → StP st mk tk te bd me k s) : ∀ s, s < 6 → (me (12 * s) < 1000000 ↔ Ans st mk tk n s) := by
  intro s hs
  rw [Ans_iff hS]
  constructor
  · intro hL
    exact mj_sound0 (ρ := rho me) hS.2.1 (Str_enc h18 hS) hS.1 (fun k hk s hs => hst k s (Nat.zero_le k) hk hs) hs _ hL
  · intro hsem
    exact mj_comp0 (ρ := rho me) hS.2.1 (Str_enc h18 hS) hS.1 hc hc6 hI.2 hs hsem
end SOLVE
/-! counting the least binders -/
theorem z4_le (mo : Nat → Nat) {b : Nat} : ∀ i, i < 4 → upN (upN (upN (upN mo 0 0) 1 0) 2 0) 3 0 i ≤ b := by
  intro i hi
  rcases (show i = 0 ∨ i = 1 ∨ i = 2 ∨ i = 3 by omega) with rfl | rfl | rfl | rfl <;> exact Nat.zero_le _
theorem cl_skip1 {tk mo : Nat → Nat} {k : Nat} (h : ∀ i, i < 4 → mo i ≤ 6 * mj_nb tk k) : ∀ i, i < 4 → mo i ≤ 6 * mj_nb tk (k + 1) := by
  intro i hi
  have h1 := h i hi
  have h2 : mj_nb tk k ≤ mj_nb tk (k + 1) := mj_cnt_mono (by omega)
  omega
theorem cl_skip2 {tk de mo : Nat → Nat} {k : Nat} (h : ∀ j, j < k → 10 ≤ tk j → tk j < 13 → 6 ≤ mo (de j)) (hk : ¬ (10 ≤ tk k ∧ tk k < 13)) : ∀ j, j < k + 1 → 10 ≤ tk j → tk j < 13 → 6 ≤ mo (de j) := by
  intro j hj h1 h2
  by_cases e : j = k
  · subst e; exact absurd ⟨h1, h2⟩ hk
  · exact h j (by omega) h1 h2
theorem cl_add1 {tk de mo : Nat → Nat} {k : Nat} (h : ∀ i, i < 4 → mo i ≤ 6 * mj_nb tk k) (h1 : 10 ≤ tk k) (h2 : tk k < 13) (hd : de k < 4) : ∀ i, i < 4 → upN mo (de k) (mo (de k) + 6) i ≤ 6 * mj_nb tk (k + 1) := by
  intro i hi
  have e := nb_1 (tk := tk) (j := k) ⟨h1, by omega⟩
  have h3 := h i hi
  have h4 := h (de k) hd
  unfold upN
  split <;> omega
theorem cl_add2 {tk de mo : Nat → Nat} {k : Nat} (h : ∀ j, j < k → 10 ≤ tk j → tk j < 13 → 6 ≤ mo (de j)) : ∀ j, j < k + 1 → 10 ≤ tk j → tk j < 13 → 6 ≤ upN mo (de k) (mo (de k) + 6) (de j) := by
  intro j hj h1 h2
  unfold upN
  split
  · omega
  · rename_i e
    by_cases e2 : j = k
    · subst e2; exact absurd rfl e
    · exact h j (by omega) h1 h2
end
section
/-! ModalJudge: countLeast, solve -/
set_option maxHeartbeats 4000000 in
set_option maxRecDepth 100000 in
/-- countLeast -/
theorem metX0_countLeast (l : Launch) (D : va_G) (ad : Nat → Nat) (di db : ClassId) (st mk : Nat → Nat) (n : Nat) (tk : Nat → Nat) (ps so dp : Nat) (te sc bd de : Nat → Nat) (sv : Nat) (me mo dg : Nat → Nat)  (hn : n ≤ 12) (htk : ∀ j, tk j ≤ 18) (hnb : mj_nb tk n ≤ 4) (hd4 : ∀ k, k < n → 10 ≤ tk k → tk k < 13 → de k < 4) : xMv l yX0_countLeast cX0_countLeast 2 ({ frames := 0, cells := 0, slots := 0, locals := 0 }) D (tyX di db) (cwX ad di db st mk n tk ps so dp te sc bd de sv me mo dg) [.ref (ad 0)] (fun u => ∃ mo1, u = cwX ad di db st mk n tk ps so dp te sc bd de sv me mo1 dg ∧ (∀ i, i < 4 → mo1 i ≤ 24) ∧ ∀ k, k < n → 10 ≤ tk k → tk k < 13 → 6 ≤ mo1 (de k)) := by
  refine xMv_intro (by decide) (Nat.le_of_ble_eq_true rfl) ?_
  intro p e s m args below meth c A Q hx hb hml hown hts hA hK hP hD hS hret ls hl
  have hl : lv_has ls 2 [(0, .ref (ad 0))] := hl
  refine lv_iconst (v := nI 0) hx hb dX0_countLeast_0 (by decide) ?_
  refine lv_istore_n (lv' := [(1, .int (nI 0)), (0, .ref (ad 0))]) hx hb dX0_countLeast_1 rfl hl (by decide) rfl (fun ls hl => ?_)
  refine lv_iload_n hx hb dX0_countLeast_2 rfl (lv_at hl 0 rfl) ?_
  refine lv_iconst (v := nI 4) hx hb dX0_countLeast_3 (by decide) ?_
  refine nv_icmp_ge (tgt := 20) hx hb (by omega) (by omega) dX0_countLeast_4 (by decide) (fun q => absurd q (by omega)) (fun c4 => ?_)
  refine lv_aload_n hx hb dX0_countLeast_7 rfl (lv_at hl 1 rfl) ?_
  refine gX0 hx hb hts hown hK hP 0 rfl 13 (by decide) q50 rfl dX0_countLeast_8 ?_
  refine lv_iload_n hx hb dX0_countLeast_11 rfl (lv_at hl 0 rfl) ?_
  refine lv_iconst (v := nI 0) hx hb dX0_countLeast_12 (by decide) ?_
  refine nv_bast hx hb hK hP hD hS 9 1 rfl rfl (by omega) (by decide) (by omega) dX0_countLeast_13 (fun H locs hP hD hS => ?_)
  have hP : va_P D vwCl (cwX ad di db st mk n tk ps so dp te sc bd de sv me (upN mo 0 0) dg) H := hP
  have hD : va_D A (cwX ad di db st mk n tk ps so dp te sc bd de sv me (upN mo 0 0) dg) := hD
  refine nv_iinc (k := 0) (lv' := [(1, .int (nI 1)), (0, .ref (ad 0))]) (v := (nI 1)) hx hb dX0_countLeast_14 hl rfl (nI_inc _) (by decide) rfl (fun ls hl => ?_)
  refine lv_goto (tgt := 2) hx hb dX0_countLeast_17 (by decide) ?_
  refine lv_iload_n hx hb dX0_countLeast_2 rfl (lv_at hl 0 rfl) ?_
  refine lv_iconst (v := nI 4) hx hb dX0_countLeast_3 (by decide) ?_
  refine nv_icmp_ge (tgt := 20) hx hb (by omega) (by omega) dX0_countLeast_4 (by decide) (fun q => absurd q (by omega)) (fun c4 => ?_)
  refine lv_aload_n hx hb dX0_countLeast_7 rfl (lv_at hl 1 rfl) ?_
  refine gX0 hx hb hts hown hK hP 0 rfl 13 (by decide) q50 rfl dX0_countLeast_8 ?_
  refine lv_iload_n hx hb dX0_countLeast_11 rfl (lv_at hl 0 rfl) ?_
  refine lv_iconst (v := nI 0) hx hb dX0_countLeast_12 (by decide) ?_
  refine nv_bast hx hb hK hP hD hS 9 1 rfl rfl (by omega) (by decide) (by omega) dX0_countLeast_13 (fun H locs hP hD hS => ?_)
  have hP : va_P D vwCl (cwX ad di db st mk n tk ps so dp te sc bd de sv me (upN (upN mo 0 0) 1 0) dg) H := hP
  have hD : va_D A (cwX ad di db st mk n tk ps so dp te sc bd de sv me (upN (upN mo 0 0) 1 0) dg) := hD
  refine nv_iinc (k := 0) (lv' := [(1, .int (nI 2)), (0, .ref (ad 0))]) (v := (nI 2)) hx hb dX0_countLeast_14 hl rfl (nI_inc _) (by decide) rfl (fun ls hl => ?_)
  refine lv_goto (tgt := 2) hx hb dX0_countLeast_17 (by decide) ?_
  refine lv_iload_n hx hb dX0_countLeast_2 rfl (lv_at hl 0 rfl) ?_
  refine lv_iconst (v := nI 4) hx hb dX0_countLeast_3 (by decide) ?_
  refine nv_icmp_ge (tgt := 20) hx hb (by omega) (by omega) dX0_countLeast_4 (by decide) (fun q => absurd q (by omega)) (fun c4 => ?_)
  refine lv_aload_n hx hb dX0_countLeast_7 rfl (lv_at hl 1 rfl) ?_
  refine gX0 hx hb hts hown hK hP 0 rfl 13 (by decide) q50 rfl dX0_countLeast_8 ?_
  refine lv_iload_n hx hb dX0_countLeast_11 rfl (lv_at hl 0 rfl) ?_
  refine lv_iconst (v := nI 0) hx hb dX0_countLeast_12 (by decide) ?_
  refine nv_bast hx hb hK hP hD hS 9 1 rfl rfl (by omega) (by decide) (by omega) dX0_countLeast_13 (fun H locs hP hD hS => ?_)
  have hP : va_P D vwCl (cwX ad di db st mk n tk ps so dp te sc bd de sv me (upN (upN (upN mo 0 0) 1 0) 2 0) dg) H := hP
  have hD : va_D A (cwX ad di db st mk n tk ps so dp te sc bd de sv me (upN (upN (upN mo 0 0) 1 0) 2 0) dg) := hD
  refine nv_iinc (k := 0) (lv' := [(1, .int (nI 3)), (0, .ref (ad 0))]) (v := (nI 3)) hx hb dX0_countLeast_14 hl rfl (nI_inc _) (by decide) rfl (fun ls hl => ?_)
  refine lv_goto (tgt := 2) hx hb dX0_countLeast_17 (by decide) ?_
  refine lv_iload_n hx hb dX0_countLeast_2 rfl (lv_at hl 0 rfl) ?_
  refine lv_iconst (v := nI 4) hx hb dX0_countLeast_3 (by decide) ?_
  refine nv_icmp_ge (tgt := 20) hx hb (by omega) (by omega) dX0_countLeast_4 (by decide) (fun q => absurd q (by omega)) (fun c4 => ?_)
  refine lv_aload_n hx hb dX0_countLeast_7 rfl (lv_at hl 1 rfl) ?_
  refine gX0 hx hb hts hown hK hP 0 rfl 13 (by decide) q50 rfl dX0_countLeast_8 ?_
  refine lv_iload_n hx hb dX0_countLeast_11 rfl (lv_at hl 0 rfl) ?_
  refine lv_iconst (v := nI 0) hx hb dX0_countLeast_12 (by decide) ?_
  refine nv_bast hx hb hK hP hD hS 9 1 rfl rfl (by omega) (by decide) (by omega) dX0_countLeast_13 (fun H locs hP hD hS => ?_)
  have hP : va_P D vwCl (cwX ad di db st mk n tk ps so dp te sc bd de sv me (upN (upN (upN (upN mo 0 0) 1 0) 2 0) 3 0) dg) H := hP
  have hD : va_D A (cwX ad di db st mk n tk ps so dp te sc bd de sv me (upN (upN (upN (upN mo 0 0) 1 0) 2 0) 3 0) dg) := hD
  refine nv_iinc (k := 0) (lv' := [(1, .int (nI 4)), (0, .ref (ad 0))]) (v := (nI 4)) hx hb dX0_countLeast_14 hl rfl (nI_inc _) (by decide) rfl (fun ls hl => ?_)
  refine lv_goto (tgt := 2) hx hb dX0_countLeast_17 (by decide) ?_
  refine lv_iload_n hx hb dX0_countLeast_2 rfl (lv_at hl 0 rfl) ?_
  refine lv_iconst (v := nI 4) hx hb dX0_countLeast_3 (by decide) ?_
  refine nv_icmp_ge (tgt := 20) hx hb (by omega) (by omega) dX0_countLeast_4 (by decide) (fun c4 => ?_) (fun q => absurd q (by omega))
  refine lv_iconst (v := nI 0) hx hb dX0_countLeast_20 (by decide) ?_
  refine lv_istore_n (lv' := [(1, .int (nI 0)), (0, .ref (ad 0))]) hx hb dX0_countLeast_21 rfl hl (by decide) rfl (fun ls hl => ?_)
  have L : ∀ (d k : Nat) (mo1 : Nat → Nat), n < k + d → k ≤ n → (∀ i, i < 4 → mo1 i ≤ 6 * mj_nb tk k) → (∀ j, j < k → 10 ≤ tk j → tk j < 13 → 6 ≤ mo1 (de j)) → ∀ (H : Heap) (locs : List Loc), va_P D vwCl (cwX ad di db st mk n tk ps so dp te sc bd de sv me mo1 dg) H → va_D A (cwX ad di db st mk n tk ps so dp te sc bd de sv me mo1 dg) → va_S A s.heap H locs → ∀ ls : Array Slot, lv_has ls 2 [(0, .ref (ad 0)), (1, .int (nI k))] → W p l e ({ frames := 0, cells := 0, slots := 0, locals := 0 }) s m args below meth c H locs 0 0 Q (F0 m 22 ls []) := by
    intro d
    induction d with
    | zero =>
      intro k mo1 h1_ h2_
      exfalso; omega
    | succ d ihL =>
      intro k mo1 h1_ h2_ M1 M2 H locs hP hD hS ls hl
      have hnk := mj_nb_le tk k
      refine lv_iload_n hx hb dX0_countLeast_22 rfl (lv_at hl 1 rfl) ?_
      refine lv_aload_n hx hb dX0_countLeast_23 rfl (lv_at hl 0 rfl) ?_
      refine gX0 hx hb hts hown hK hP 0 rfl 2 (by decide) q39 rfl dX0_countLeast_24 ?_
      refine nv_icmp_ge (tgt := 75) hx hb (by omega) (by omega) dX0_countLeast_27 (by decide) (fun c27 => ?_) (fun c27 => ?_)
      · have hkn : k = n := by omega
        rw [hkn] at M1 M2
        exact hret _ _ _ _ (cwX ad di db st mk n tk ps so dp te sc bd de sv me mo1 dg) dX0_countLeast_75 (⟨mo1, rfl, fun i hi => by have := M1 i hi; omega, M2⟩) hP hD hS
      · refine lv_aload_n hx hb dX0_countLeast_30 rfl (lv_at hl 0 rfl) ?_
        refine gX0 hx hb hts hown hK hP 0 rfl 3 (by decide) q40 rfl dX0_countLeast_31 ?_
        refine lv_iload_n hx hb dX0_countLeast_34 rfl (lv_at hl 1 rfl) ?_
        refine nv_bald hx hb hK hP 3 1 rfl rfl (by omega) (by decide) dX0_countLeast_35 ?_
        have hld35 := htk k
        refine lv_bipush (v := nI 10) hx hb dX0_countLeast_36 (by decide) ?_
        refine nv_icmp_lt (tgt := 69) hx hb (by omega) (by omega) dX0_countLeast_38 (by decide) (fun c38 => ?_) (fun c38 => ?_)
        · refine nv_iinc (k := 1) (lv' := [(1, .int (nI (k + 1))), (0, .ref (ad 0))]) (v := (nI (k + 1))) hx hb dX0_countLeast_69 hl rfl (nI_inc _) (by decide) rfl (fun ls hl => ?_)
          refine lv_goto (tgt := 22) hx hb dX0_countLeast_72 (by decide) ?_
          exact ihL (k + 1) mo1 (by omega) (by omega) (cl_skip1 M1) (cl_skip2 M2 (by omega)) _ _ hP hD hS ls (lv_sub hl [1, 0] rfl)
        · refine lv_aload_n hx hb dX0_countLeast_41 rfl (lv_at hl 0 rfl) ?_
          refine gX0 hx hb hts hown hK hP 0 rfl 3 (by decide) q40 rfl dX0_countLeast_42 ?_
          refine lv_iload_n hx hb dX0_countLeast_45 rfl (lv_at hl 1 rfl) ?_
          refine nv_bald hx hb hK hP 3 1 rfl rfl (by omega) (by decide) dX0_countLeast_46 ?_
          have hld46 := htk k
          refine lv_bipush (v := nI 13) hx hb dX0_countLeast_47 (by decide) ?_
          refine nv_icmp_ge (tgt := 69) hx hb (by omega) (by omega) dX0_countLeast_49 (by decide) (fun c49 => ?_) (fun c49 => ?_)
          · refine nv_iinc (k := 1) (lv' := [(1, .int (nI (k + 1))), (0, .ref (ad 0))]) (v := (nI (k + 1))) hx hb dX0_countLeast_69 hl rfl (nI_inc _) (by decide) rfl (fun ls hl => ?_)
            refine lv_goto (tgt := 22) hx hb dX0_countLeast_72 (by decide) ?_
            exact ihL (k + 1) mo1 (by omega) (by omega) (cl_skip1 M1) (cl_skip2 M2 (by omega)) _ _ hP hD hS ls (lv_sub hl [1, 0] rfl)
          · have hd := hd4 k (by omega) (by omega) (by omega)
            have hm := M1 (de k) hd
            refine lv_aload_n hx hb dX0_countLeast_52 rfl (lv_at hl 0 rfl) ?_
            refine gX0 hx hb hts hown hK hP 0 rfl 13 (by decide) q50 rfl dX0_countLeast_53 ?_
            refine lv_aload_n hx hb dX0_countLeast_56 rfl (lv_at hl 0 rfl) ?_
            refine gX0 hx hb hts hown hK hP 0 rfl 10 (by decide) q47 rfl dX0_countLeast_57 ?_
            refine lv_iload_n hx hb dX0_countLeast_60 rfl (lv_at hl 1 rfl) ?_
            refine nv_bald hx hb hK hP 7 1 rfl rfl (by omega) (by decide) dX0_countLeast_61 ?_
            refine lv_dup2_11 hx hb dX0_countLeast_62 rfl rfl ?_
            refine nv_bald hx hb hK hP 9 1 rfl rfl (by omega) (by decide) dX0_countLeast_63 ?_
            refine lv_bipush (v := nI 6) hx hb dX0_countLeast_64 (by decide) ?_
            refine nv_iadd hx hb dX0_countLeast_66 ?_
            refine nv_i2b hx hb (by omega) dX0_countLeast_67 ?_
            refine nv_bast hx hb hK hP hD hS 9 1 rfl rfl (by omega) (by decide) (by omega) dX0_countLeast_68 (fun H locs hP hD hS => ?_)
            have hP : va_P D vwCl (cwX ad di db st mk n tk ps so dp te sc bd de sv me (upN mo1 (de k) ((mo1 (de k)) + 6)) dg) H := hP
            have hD : va_D A (cwX ad di db st mk n tk ps so dp te sc bd de sv me (upN mo1 (de k) ((mo1 (de k)) + 6)) dg) := hD
            refine nv_iinc (k := 1) (lv' := [(1, .int (nI (k + 1))), (0, .ref (ad 0))]) (v := (nI (k + 1))) hx hb dX0_countLeast_69 hl rfl (nI_inc _) (by decide) rfl (fun ls hl => ?_)
            refine lv_goto (tgt := 22) hx hb dX0_countLeast_72 (by decide) ?_
            exact ihL (k + 1) _ (by omega) (by omega) (cl_add1 M1 (by omega) (by omega) (by omega)) (cl_add2 M2) _ _ hP hD hS ls (lv_sub hl [1, 0] rfl)
  exact L (n + 1) 0 _ (by omega) (by omega) (z4_le mo) (fun j h => absurd h (Nat.not_lt_zero j)) _ _ hP hD hS ls (lv_sub hl [1, 0] rfl)
set_option maxHeartbeats 4000000 in
set_option maxRecDepth 100000 in
/-- solve -/
theorem metX0_solve (l : Launch) (D : va_G) (ad : Nat → Nat) (di db : ClassId) (st mk : Nat → Nat) (n : Nat) (tk : Nat → Nat) (ps so dp : Nat) (te sc bd de : Nat → Nat) (sv : Nat) (me mo dg : Nat → Nat)  (hn : n ≤ 12) (htk : ∀ j, tk j ≤ 18) (hmk : ∀ j, mk j < 64) (hst : ∀ j, st j < 64) (hBX : BX te bd de) (hc : ps = 0 ∨ (ps = 1 ∧ PX tk n so dp te sc bd de)) (hsv : SX st mk tk n sv me) : xMv l yX0_solve cX0_solve 5 ({ frames := 3, cells := 0, slots := 0, locals := 73 }) D (tyX di db) (cwX ad di db st mk n tk ps so dp te sc bd de sv me mo dg) [.ref (ad 0)] (fun u => ∃ so1 dp1 te1 sc1 bd1 de1 sv1 me1 mo1 dg1, u = cwX ad di db st mk n tk 1 so1 dp1 te1 sc1 bd1 de1 sv1 me1 mo1 dg1 ∧ BX te1 bd1 de1 ∧ PX tk n so1 dp1 te1 sc1 bd1 de1 ∧ SX st mk tk n sv1 me1 ∧ (so1 = 1 → sv1 = 1)) := by
  refine xMv_intro (by decide) (Nat.le_of_ble_eq_true rfl) ?_
  intro p e s m args below meth c A Q hx hb hml hown hts hA hK hP hD hS hret ls hl
  have hl : lv_has ls 5 [(0, .ref (ad 0))] := hl
  obtain ⟨hz, hmL, hsv⟩ := hsv
  rcases hsv with rfl | ⟨rfl, hsnd, hans⟩
  · refine lv_aload_n hx hb dX0_solve_0 rfl (lv_at hl 0 rfl) ?_
    refine xcall_v (As := []) (rest := []) (ci := 0) ⟨hx, hb, hml, hown, hts⟩ (metX0_parse l D ad di db st mk n tk ps so dp te sc bd de 0 me mo dg hn htk hBX hc) (cwV 0 hts (lw_V q117 q119 qs2 q27 q120) rfl rfl rfl (by decide +kernel) ⟨Nat.le_of_ble_eq_true rfl, Nat.le_of_ble_eq_true rfl⟩) rfl rfl hK hP hD hS hA rfl hl.1 rfl (Nat.le_of_ble_eq_true rfl) dX0_solve_1 ⟨Nat.zero_le _, Nat.zero_le _⟩ (fun u H locs hw hP hD hS => ?_)
    obtain ⟨so1, dp1, te1, sc1, bd1, de1, rfl, hBX1, hPX⟩ := hw
    rcases hPX with ⟨rfl, hS0, hbp, hsc, hdp, hdpp⟩ | ⟨rfl, hno⟩
    · refine lv_aload_n hx hb dX0_solve_4 rfl (lv_at hl 0 rfl) ?_
      refine gX0 hx hb hts hown hK hP 0 rfl 11 (by decide) q48 rfl dX0_solve_5 ?_
      refine nv_if_ne (tgt := 18) hx hb (by omega) dX0_solve_8 (by decide) (fun q => absurd q (by omega)) (fun c8 => ?_)
      refine lv_aload_n hx hb dX0_solve_11 rfl (lv_at hl 0 rfl) ?_
      refine gX0 hx hb hts hown hK hP 0 rfl 5 (by decide) q42 rfl dX0_solve_12 ?_
      refine nv_if_ne (tgt := 19) hx hb (by omega) dX0_solve_15 (by decide) (fun c15 => ?_) (fun q => absurd q (by omega))
      refine lv_aload_n hx hb dX0_solve_19 rfl (lv_at hl 0 rfl) ?_
      refine lv_iconst (v := nI 1) hx hb dX0_solve_20 (by decide) ?_
      refine pX0 hx hb hts hown hK hP hD hS 0 rfl 11 (by decide) q48 rfl rfl rfl (Nat.le_of_ble_eq_true rfl) dX0_solve_21 (fun H locs hP hD hS => ?_)
      have hP : va_P D vwCl (cwX ad di db st mk n tk 1 1 dp1 te1 sc1 bd1 de1 1 me mo dg) H := hP
      have hD : va_D A (cwX ad di db st mk n tk 1 1 dp1 te1 sc1 bd1 de1 1 me mo dg) := hD
      refine lv_aload_n hx hb dX0_solve_24 rfl (lv_at hl 0 rfl) ?_
      refine xcall_v (As := []) (rest := []) (ci := 0) ⟨hx, hb, hml, hown, hts⟩ (metX0_countLeast l D ad di db st mk n tk 1 1 dp1 te1 sc1 bd1 de1 1 me mo dg hn htk hS0.2.2.2.2 (fun k hk h1 h2 => by rw [hdp k hk]; exact mj_dep3 hS0.2.2.2.2 hk ⟨h1, by omega⟩)) (cwV 0 hts (lw_V q145 q147 qs8 q27 q148) rfl rfl rfl (by decide +kernel) ⟨Nat.le_of_ble_eq_true rfl, Nat.le_of_ble_eq_true rfl⟩) rfl rfl hK hP hD hS hA rfl hl.1 rfl (Nat.le_of_ble_eq_true rfl) dX0_solve_25 ⟨Nat.zero_le _, Nat.zero_le _⟩ (fun u H locs hw hP hD hS => ?_)
      obtain ⟨mo1, rfl, hmo, hc60⟩ := hw
      have hc6 : ∀ k, k < n → 10 ≤ tk k → tk k < 13 → 6 ≤ mo1 (mj_dep tk te1 k) := fun k hk h1 h2 => by rw [← hdp k hk]; exact hc60 k hk h1 h2
      refine lv_iconst (v := nI 0) hx hb dX0_solve_28 (by decide) ?_
      refine lv_istore_n (lv' := [(1, .int (nI 0)), (0, .ref (ad 0))]) hx hb dX0_solve_29 rfl hl (by decide) rfl (fun ls hl => ?_)
      have LZ : ∀ (d i : Nat) , 72 < i + d → i ≤ 72 → ∀ (H : Heap) (locs : List Loc), va_P D vwCl (cwX ad di db st mk n tk 1 1 dp1 te1 sc1 bd1 de1 1 (zf me i) mo1 dg) H → va_D A (cwX ad di db st mk n tk 1 1 dp1 te1 sc1 bd1 de1 1 (zf me i) mo1 dg) → va_S A s.heap H locs → ∀ ls : Array Slot, lv_has ls 5 [(0, .ref (ad 0)), (1, .int (nI i))] → W p l e ({ frames := 3, cells := 0, slots := 0, locals := 73 }) s m args below meth c H locs 0 0 Q (F0 m 30 ls []) := by
        intro d
        induction d with
        | zero =>
          intro i  h1_ h2_
          exfalso; omega
        | succ d ihLZ =>
          intro i  h1_ h2_  H locs hP hD hS ls hl
          refine lv_iload_n hx hb dX0_solve_30 rfl (lv_at hl 1 rfl) ?_
          refine lv_bipush (v := nI 72) hx hb dX0_solve_31 (by decide) ?_
          refine nv_icmp_ge (tgt := 49) hx hb (by omega) (by omega) dX0_solve_33 (by decide) (fun c33 => ?_) (fun c33 => ?_)
          · have hi72 : i = 72 := by omega
            rw [hi72, zf_all hz] at hP hD
            refine lv_iconst (v := nI 1) hx hb dX0_solve_49 (by decide) ?_
            refine lv_istore_n (lv' := [(1, .int (nI 1)), (0, .ref (ad 0))]) hx hb dX0_solve_50 rfl hl (by decide) rfl (fun ls hl => ?_)
            have LW : ∀ (d : Nat) (me1 dg1 : Nat → Nat), 72000000 < tot me1 72 + d → (∀ j, 72 ≤ j → me1 j = 0) → SI st mk tk te1 bd1 mo1 n me1 → ∀ (H : Heap) (locs : List Loc), va_P D vwCl (cwX ad di db st mk n tk 1 1 dp1 te1 sc1 bd1 de1 1 me1 mo1 dg1) H → va_D A (cwX ad di db st mk n tk 1 1 dp1 te1 sc1 bd1 de1 1 me1 mo1 dg1) → va_S A s.heap H locs → ∀ ls : Array Slot, lv_has ls 5 [(0, .ref (ad 0)), (1, .int (nI 1))] → W p l e ({ frames := 3, cells := 0, slots := 0, locals := 73 }) s m args below meth c H locs 0 0 Q (F0 m 51 ls []) := by
              intro d
              induction d with
              | zero =>
                intro me1 dg1 h1_ hz1 hI1
                have := tot_le (fun j => valid_le hmo (hI1.1 j)) 72
                exfalso; omega
              | succ d ihLW =>
                intro me1 dg1 h1_ hz1 hI1 H locs hP hD hS ls hl
                refine lv_iload_n hx hb dX0_solve_51 rfl (lv_at hl 1 rfl) ?_
                refine nv_if_eq (tgt := 133) hx hb (by omega) dX0_solve_52 (by decide) (fun q => absurd q (by omega)) (fun c52 => ?_)
                refine lv_iconst (v := nI 0) hx hb dX0_solve_55 (by decide) ?_
                refine lv_istore_n (lv' := [(1, .int (nI 0)), (0, .ref (ad 0))]) hx hb dX0_solve_56 rfl hl (by decide) rfl (fun ls hl => ?_)
                refine lv_aload_n hx hb dX0_solve_57 rfl (lv_at hl 1 rfl) ?_
                refine gX0 hx hb hts hown hK hP 0 rfl 2 (by decide) q39 rfl dX0_solve_58 ?_
                refine lv_iconst (v := nI 1) hx hb dX0_solve_61 (by decide) ?_
                refine nv_isub1 hx hb dX0_solve_62 ?_
                refine lv_istore_n (lv' := [(2, .int (nP n)), (1, .int (nI 0)), (0, .ref (ad 0))]) hx hb dX0_solve_63 rfl hl (by decide) rfl (fun ls hl => ?_)
                have LK : ∀ (j : Nat) (me2 dg2 : Nat → Nat) (r2 : Nat), j ≤ n → (∀ j, 72 ≤ j → me2 j = 0) → SI st mk tk te1 bd1 mo1 n me2 → RXK st mk tk te1 bd1 n me1 j me2 r2 → ∀ (H : Heap) (locs : List Loc), va_P D vwCl (cwX ad di db st mk n tk 1 1 dp1 te1 sc1 bd1 de1 1 me2 mo1 dg2) H → va_D A (cwX ad di db st mk n tk 1 1 dp1 te1 sc1 bd1 de1 1 me2 mo1 dg2) → va_S A s.heap H locs → ∀ ls : Array Slot, lv_has ls 5 [(0, .ref (ad 0)), (1, .int (nI r2)), (2, .int (nP j))] → W p l e ({ frames := 3, cells := 0, slots := 0, locals := 73 }) s m args below meth c H locs 0 0 Q (F0 m 64 ls []) := by
                  intro j
                  induction j with
                  | zero =>
                    intro me2 dg2 r2 hj hz2 hI2 hR H locs hP hD hS ls hl
                    refine lv_iload_n hx hb dX0_solve_64 rfl (lv_at hl 2 rfl) ?_
                    refine nv_if_ltP (tgt := 130) hx hb dX0_solve_65 (by decide) ?_
                    refine lv_goto (tgt := 51) hx hb dX0_solve_130 (by decide) ?_
                    rcases hR with ⟨rfl, hme, hstab⟩ | ⟨rfl, htot⟩
                    · rw [← hme] at hstab
                      refine lv_iload_n hx hb dX0_solve_51 rfl (lv_at hl 1 rfl) ?_
                      refine nv_if_eq (tgt := 133) hx hb (by omega) dX0_solve_52 (by decide) (fun c52 => ?_) (fun q => absurd q (by omega))
                      exact hret _ _ _ _ (cwX ad di db st mk n tk 1 1 dp1 te1 sc1 bd1 de1 1 me2 mo1 dg2) dX0_solve_133 (⟨1, dp1, te1, sc1, bd1, de1, 1, me2, mo1, dg2, rfl, hBX1, Or.inl ⟨rfl, hS0, hbp, hsc, hdp, hdpp⟩, ⟨hz2, fun j => valid_le hmo (hI2.1 j), Or.inr ⟨rfl, ⟨te1, _, hS0⟩, solve_end htk hS0 hmo hc6 hI2 hstab⟩⟩, fun _ => rfl⟩) hP hD hS
                    · exact ihLW me2 dg2 (by omega) hz2 hI2 _ _ hP hD hS ls (lv_sub hl [0, 1] rfl)
                  | succ j ihLK =>
                    intro me2 dg2 r2 hj hz2 hI2 hR H locs hP hD hS ls hl
                    rw [nP_succ] at hl
                    refine lv_iload_n hx hb dX0_solve_64 rfl (lv_at hl 2 rfl) ?_
                    refine nv_if_lt (tgt := 130) hx hb (by omega) dX0_solve_65 (by decide) ?_
                    refine lv_iconst (v := nI 0) hx hb dX0_solve_68 (by decide) ?_
                    refine lv_istore_n (lv' := [(3, .int (nI 0)), (0, .ref (ad 0)), (1, .int (nI r2)), (2, .int (nI j))]) hx hb dX0_solve_69 rfl hl (by decide) rfl (fun ls hl => ?_)
                    have LS : ∀ (d3 x : Nat) (me3 dg3 : Nat → Nat) (r3 : Nat), 6 < x + d3 → x ≤ 6 → (∀ j, 72 ≤ j → me3 j = 0) → SI st mk tk te1 bd1 mo1 n me3 → RXS st mk tk te1 bd1 n me1 j x me3 r3 → ∀ (H : Heap) (locs : List Loc), va_P D vwCl (cwX ad di db st mk n tk 1 1 dp1 te1 sc1 bd1 de1 1 me3 mo1 dg3) H → va_D A (cwX ad di db st mk n tk 1 1 dp1 te1 sc1 bd1 de1 1 me3 mo1 dg3) → va_S A s.heap H locs → ∀ ls : Array Slot, lv_has ls 5 [(0, .ref (ad 0)), (1, .int (nI r3)), (2, .int (nI j)), (3, .int (nI x))] → W p l e ({ frames := 3, cells := 0, slots := 0, locals := 73 }) s m args below meth c H locs 0 0 Q (F0 m 70 ls []) := by
                      intro d3
                      induction d3 with
                      | zero =>
                        intro x me3 dg3 r3 h1_ h2_
                        exfalso; omega
                      | succ d3 ihLS =>
                        intro x me3 dg3 r3 h1_ h2_ hz3 hI3 hR3 H locs hP hD hS ls hl
                        refine lv_iload_n hx hb dX0_solve_70 rfl (lv_at hl 3 rfl) ?_
                        refine lv_bipush (v := nI 6) hx hb dX0_solve_71 (by decide) ?_
                        refine nv_icmp_ge (tgt := 124) hx hb (by omega) (by omega) dX0_solve_73 (by decide) (fun c73 => ?_) (fun c73 => ?_)
                        · refine nv_iinc (k := 2) (lv' := [(2, .int (nP j)), (0, .ref (ad 0)), (1, .int (nI r3)), (3, .int (nI x))]) (v := (nP j)) hx hb dX0_solve_124 hl rfl (nI_dec _) (by decide) rfl (fun ls hl => ?_)
                          refine lv_goto (tgt := 64) hx hb dX0_solve_127 (by decide) ?_
                          have hx6 : x = 6 := by omega
                          rw [hx6] at hR3
                          exact ihLK me3 dg3 r3 (by omega) hz3 hI3 (RXS_6 hR3) _ _ hP hD hS ls (lv_sub hl [1, 2, 0] rfl)
                        · refine lv_aload_n hx hb dX0_solve_76 rfl (lv_at hl 0 rfl) ?_
                          refine lv_iload_n hx hb dX0_solve_77 rfl (lv_at hl 3 rfl) ?_
                          refine lv_iload_n hx hb dX0_solve_78 rfl (lv_at hl 2 rfl) ?_
                          refine xcall_i (As := [.int (nI x), .int (nI j)]) (rest := []) (ci := 0) ⟨hx, hb, hml, hown, hts⟩ (metX0_demanded l D ad di db st mk n tk 1 1 dp1 te1 sc1 bd1 de1 1 me3 mo1 dg3 x j (by omega) (by omega) hn htk hmk hst hmo hI3.1 hS0 hbp hsc hdp) (cwV 2 hts (lw_V q149 q151 qs9 q27 q152) rfl rfl rfl (by decide +kernel) ⟨Nat.le_of_ble_eq_true rfl, Nat.le_of_ble_eq_true rfl⟩) rfl rfl hK hP hD hS hA rfl hl.1 rfl (Nat.le_of_ble_eq_true rfl) dX0_solve_79 ⟨Nat.zero_le _, Nat.zero_le _⟩ (fun r u H locs hw hP hD hS => ?_)
                          obtain ⟨v, dg4, rfl, rfl, hD4⟩ := hw
                          have hvv := valid_le hmo hD4.1
                          refine lv_istore (lv' := [(4, .int (nI v)), (0, .ref (ad 0)), (1, .int (nI r3)), (2, .int (nI j)), (3, .int (nI x))]) hx hb dX0_solve_82 hl (by decide) rfl (fun ls hl => ?_)
                          refine lv_iload hx hb dX0_solve_84 (lv_at hl 0 rfl) ?_
                          refine lv_aload_n hx hb dX0_solve_86 rfl (lv_at hl 1 rfl) ?_
                          refine gX0 hx hb hts hown hK hP 0 rfl 12 (by decide) q49 rfl dX0_solve_87 ?_
                          refine lv_bipush (v := nI 12) hx hb dX0_solve_90 (by decide) ?_
                          refine lv_iload_n hx hb dX0_solve_92 rfl (lv_at hl 4 rfl) ?_
                          refine nv_imul hx hb dX0_solve_93 ?_
                          refine lv_iload_n hx hb dX0_solve_94 rfl (lv_at hl 3 rfl) ?_
                          refine nv_iadd hx hb dX0_solve_95 ?_
                          refine nv_iald hx hb hK hP 8 0 rfl rfl (by omega) (by decide) dX0_solve_96 ?_
                          have hld96 := valid_le hmo (hI3.1 ((12 * x) + j))
                          refine nv_icmp_gt (tgt := 103) hx hb (by omega) (by omega) dX0_solve_97 (by decide) (fun c97 => ?_) (fun c97 => ?_)
                          · refine lv_aload_n hx hb dX0_solve_103 rfl (lv_at hl 1 rfl) ?_
                            refine gX0 hx hb hts hown hK hP 0 rfl 12 (by decide) q49 rfl dX0_solve_104 ?_
                            refine lv_bipush (v := nI 12) hx hb dX0_solve_107 (by decide) ?_
                            refine lv_iload_n hx hb dX0_solve_109 rfl (lv_at hl 4 rfl) ?_
                            refine nv_imul hx hb dX0_solve_110 ?_
                            refine lv_iload_n hx hb dX0_solve_111 rfl (lv_at hl 3 rfl) ?_
                            refine nv_iadd hx hb dX0_solve_112 ?_
                            refine lv_iload hx hb dX0_solve_113 (lv_at hl 0 rfl) ?_
                            refine nv_iast hx hb hK hP hD hS 8 0 rfl rfl (by omega) (by decide) dX0_solve_115 (fun H locs hP hD hS => ?_)
                            have hP : va_P D vwCl (cwX ad di db st mk n tk 1 1 dp1 te1 sc1 bd1 de1 1 (upN me3 ((12 * x) + j) v) mo1 dg4) H := hP
                            have hD : va_D A (cwX ad di db st mk n tk 1 1 dp1 te1 sc1 bd1 de1 1 (upN me3 ((12 * x) + j) v) mo1 dg4) := hD
                            refine lv_iconst (v := nI 1) hx hb dX0_solve_116 (by decide) ?_
                            refine lv_istore_n (lv' := [(1, .int (nI 1)), (4, .int (nI v)), (0, .ref (ad 0)), (2, .int (nI j)), (3, .int (nI x))]) hx hb dX0_solve_117 rfl hl (by decide) rfl (fun ls hl => ?_)
                            refine nv_iinc (k := 4) (lv' := [(3, .int (nI (x + 1))), (1, .int (nI 1)), (4, .int (nI v)), (0, .ref (ad 0)), (2, .int (nI j))]) (v := (nI (x + 1))) hx hb dX0_solve_118 hl rfl (nI_inc _) (by decide) rfl (fun ls hl => ?_)
                            refine lv_goto (tgt := 70) hx hb dX0_solve_121 (by decide) ?_
                            exact ihLS (x + 1) _ dg4 1 (by omega) (by omega) (upN_z hz3 (by omega)) (SI_step htk hn hS0 hmo hc6 hI3 hD4 (by omega) (by omega)) (RXS_raise hR3 (by omega) c97) _ _ hP hD hS ls (lv_sub hl [3, 1, 4, 0] rfl)
                          · refine lv_goto (tgt := 118) hx hb dX0_solve_100 (by decide) ?_
                            refine nv_iinc (k := 4) (lv' := [(3, .int (nI (x + 1))), (4, .int (nI v)), (0, .ref (ad 0)), (1, .int (nI r3)), (2, .int (nI j))]) (v := (nI (x + 1))) hx hb dX0_solve_118 hl rfl (nI_inc _) (by decide) rfl (fun ls hl => ?_)
                            refine lv_goto (tgt := 70) hx hb dX0_solve_121 (by decide) ?_
                            exact ihLS (x + 1) me3 dg4 r3 (by omega) (by omega) hz3 hI3 (RXS_keep hR3 hI3 hD4 c97) _ _ hP hD hS ls (lv_sub hl [2, 3, 4, 0] rfl)
                    exact LS 7 0 me2 dg2 r2 (by omega) (by omega) hz2 hI2 (RXS_0 hR) _ _ hP hD hS ls (lv_sub hl [1, 2, 3, 0] rfl)
                exact LK n me1 dg1 0 (Nat.le_refl n) hz1 hI1 (Or.inl ⟨rfl, rfl, fun k s h1 h2 => by omega⟩) _ _ hP hD hS ls (lv_sub hl [2, 1, 0] rfl)
            exact LW 72000001 (fun _ => 0) dg (by omega) (fun _ _ => rfl) SI_0 _ _ hP hD hS ls (lv_sub hl [1, 0] rfl)
          · refine lv_aload_n hx hb dX0_solve_36 rfl (lv_at hl 0 rfl) ?_
            refine gX0 hx hb hts hown hK hP 0 rfl 12 (by decide) q49 rfl dX0_solve_37 ?_
            refine lv_iload_n hx hb dX0_solve_40 rfl (lv_at hl 1 rfl) ?_
            refine lv_iconst (v := nI 0) hx hb dX0_solve_41 (by decide) ?_
            refine nv_iast hx hb hK hP hD hS 8 0 rfl rfl (by omega) (by decide) dX0_solve_42 (fun H locs hP hD hS => ?_)
            have hP : va_P D vwCl (cwX ad di db st mk n tk 1 1 dp1 te1 sc1 bd1 de1 1 (upN (zf me i) i 0) mo1 dg) H := hP
            have hD : va_D A (cwX ad di db st mk n tk 1 1 dp1 te1 sc1 bd1 de1 1 (upN (zf me i) i 0) mo1 dg) := hD
            rw [zf_step] at hP hD
            refine nv_iinc (k := 1) (lv' := [(1, .int (nI (i + 1))), (0, .ref (ad 0))]) (v := (nI (i + 1))) hx hb dX0_solve_43 hl rfl (nI_inc _) (by decide) rfl (fun ls hl => ?_)
            refine lv_goto (tgt := 30) hx hb dX0_solve_46 (by decide) ?_
            exact ihLZ (i + 1) (by omega) (by omega) _ _ hP hD hS ls (lv_sub hl [1, 0] rfl)
      rw [← zf_0 me] at hP hD
      exact LZ 73 0 (by omega) (by omega) _ _ hP hD hS ls (lv_sub hl [1, 0] rfl)
    · refine lv_aload_n hx hb dX0_solve_4 rfl (lv_at hl 0 rfl) ?_
      refine gX0 hx hb hts hown hK hP 0 rfl 11 (by decide) q48 rfl dX0_solve_5 ?_
      refine nv_if_ne (tgt := 18) hx hb (by omega) dX0_solve_8 (by decide) (fun q => absurd q (by omega)) (fun c8 => ?_)
      refine lv_aload_n hx hb dX0_solve_11 rfl (lv_at hl 0 rfl) ?_
      refine gX0 hx hb hts hown hK hP 0 rfl 5 (by decide) q42 rfl dX0_solve_12 ?_
      refine nv_if_ne (tgt := 19) hx hb (by omega) dX0_solve_15 (by decide) (fun q => absurd q (by omega)) (fun c15 => ?_)
      exact hret _ _ _ _ (cwX ad di db st mk n tk 1 0 dp1 te1 sc1 bd1 de1 0 me mo dg) dX0_solve_18 (⟨0, dp1, te1, sc1, bd1, de1, 0, me, mo, dg, rfl, hBX1, Or.inr ⟨rfl, hno⟩, ⟨hz, hmL, Or.inl rfl⟩, fun q => absurd q (by omega)⟩) hP hD hS
  · refine lv_aload_n hx hb dX0_solve_0 rfl (lv_at hl 0 rfl) ?_
    refine xcall_v (As := []) (rest := []) (ci := 0) ⟨hx, hb, hml, hown, hts⟩ (metX0_parse l D ad di db st mk n tk ps so dp te sc bd de 1 me mo dg hn htk hBX hc) (cwV 0 hts (lw_V q117 q119 qs2 q27 q120) rfl rfl rfl (by decide +kernel) ⟨Nat.le_of_ble_eq_true rfl, Nat.le_of_ble_eq_true rfl⟩) rfl rfl hK hP hD hS hA rfl hl.1 rfl (Nat.le_of_ble_eq_true rfl) dX0_solve_1 ⟨Nat.zero_le _, Nat.zero_le _⟩ (fun u H locs hw hP hD hS => ?_)
    obtain ⟨so1, dp1, te1, sc1, bd1, de1, rfl, hBX1, hPX⟩ := hw
    refine lv_aload_n hx hb dX0_solve_4 rfl (lv_at hl 0 rfl) ?_
    refine gX0 hx hb hts hown hK hP 0 rfl 11 (by decide) q48 rfl dX0_solve_5 ?_
    refine nv_if_ne (tgt := 18) hx hb (by omega) dX0_solve_8 (by decide) (fun c8 => ?_) (fun q => absurd q (by omega))
    exact hret _ _ _ _ (cwX ad di db st mk n tk 1 so1 dp1 te1 sc1 bd1 de1 1 me mo dg) dX0_solve_18 (⟨so1, dp1, te1, sc1, bd1, de1, 1, me, mo, dg, rfl, hBX1, hPX, ⟨hz, hmL, Or.inr ⟨rfl, hsnd, hans⟩⟩, fun _ => rfl⟩) hP hD hS
end
section
/-! ModalJudge: sound, depth, holds, set -/
/-- what holds of ModalJudge's own cells between calls -/
def CI (st mk tk : Nat → Nat) (n ps so dp : Nat) (te sc bd de : Nat → Nat) (sv : Nat) (me : Nat → Nat) : Prop := BX te bd de ∧ (ps = 0 ∨ (ps = 1 ∧ PX tk n so dp te sc bd de)) ∧ SX st mk tk n sv me
def UX (ad : Nat → Nat) (di db : ClassId) (st mk : Nat → Nat) (n : Nat) (tk : Nat → Nat) (u : va_W) : Prop := ∃ ps so dp te sc bd de sv me mo dg, u = cwX ad di db st mk n tk ps so dp te sc bd de sv me mo dg ∧ CI st mk tk n ps so dp te sc bd de sv me
/-! a set of states, bit by bit -/
theorem ms_0 {P : Nat → Prop} : ∀ i, Nat.testBit 0 i = true ↔ (i < 0 ∧ P i) := by intro i; simp
theorem ms_skip {P : Nat → Prop} {o x : Nat} (h : ∀ i, o.testBit i = true ↔ (i < x ∧ P i)) (hx : ¬ P x) : ∀ i, o.testBit i = true ↔ (i < x + 1 ∧ P i) := by
  intro i
  rw [h i]
  constructor
  · rintro ⟨h1, h2⟩; exact ⟨by omega, h2⟩
  · rintro ⟨h1, h2⟩
    by_cases e : i = x
    · subst e; exact absurd h2 hx
    · exact ⟨by omega, h2⟩
theorem ms_add {P : Nat → Prop} {o x : Nat} (h : ∀ i, o.testBit i = true ↔ (i < x ∧ P i)) (hx : P x) : ∀ i, (o ||| 1 * 2 ^ x).testBit i = true ↔ (i < x + 1 ∧ P i) := by
  intro i
  rw [Nat.testBit_or, Bool.or_eq_true, h i, Nat.one_mul, Nat.testBit_two_pow]
  constructor
  · rintro (⟨h1, h2⟩ | h1)
    · exact ⟨by omega, h2⟩
    · have e : x = i := by simpa using h1
      subst e; exact ⟨by omega, hx⟩
  · rintro ⟨h1, h2⟩
    by_cases e : x = i
    · right; simpa using e
    · exact Or.inl ⟨by omega, h2⟩
theorem ms_lt {o x : Nat} (h : o < 64) (hx : x < 6) : o ||| 1 * 2 ^ x < 64 := by
  rw [Nat.one_mul]
  exact Nat.or_lt_two_pow (n := 6) h (Nat.pow_lt_pow_right (by decide) hx)
set_option maxHeartbeats 4000000 in
set_option maxRecDepth 100000 in
/-- sound -/
theorem metX0_sound (l : Launch) (D : va_G) (ad : Nat → Nat) (di db : ClassId) (st mk : Nat → Nat) (n : Nat) (tk : Nat → Nat) (ps so dp : Nat) (te sc bd de : Nat → Nat) (sv : Nat) (me mo dg : Nat → Nat)  (hn : n ≤ 12) (htk : ∀ j, tk j ≤ 18) (hmk : ∀ j, mk j < 64) (hst : ∀ j, st j < 64) (hCI : CI st mk tk n ps so dp te sc bd de sv me) : xMi l yX0_sound cX0_sound 1 .boolean ({ frames := 3, cells := 0, slots := 0, locals := 71 }) D (tyX di db) (cwX ad di db st mk n tk ps so dp te sc bd de sv me mo dg) [.ref (ad 0)] (fun r u => ((r = nI 1 ∧ Snd tk n) ∨ (r = nI 0 ∧ ¬ Snd tk n)) ∧ UX ad di db st mk n tk u) := by
  refine xMi_intro (by decide) (Nat.le_of_ble_eq_true rfl) ?_
  intro p e s m args below meth c A Q hx hb hml hown hts hA hK hP hD hS hret ls hl
  have hl : lv_has ls 1 [(0, .ref (ad 0))] := hl
  obtain ⟨hBX, hc, hsv⟩ := hCI
  refine lv_aload_n hx hb dX0_sound_0 rfl (lv_at hl 0 rfl) ?_
  refine xcall_v (As := []) (rest := []) (ci := 0) ⟨hx, hb, hml, hown, hts⟩ (metX0_parse l D ad di db st mk n tk ps so dp te sc bd de sv me mo dg hn htk hBX hc) (cwV 0 hts (lw_V q117 q119 qs2 q27 q120) rfl rfl rfl (by decide +kernel) ⟨Nat.le_of_ble_eq_true rfl, Nat.le_of_ble_eq_true rfl⟩) rfl rfl hK hP hD hS hA rfl hl.1 rfl (Nat.le_of_ble_eq_true rfl) dX0_sound_1 ⟨Nat.zero_le _, Nat.zero_le _⟩ (fun u H locs hw hP hD hS => ?_)
  obtain ⟨so1, dp1, te1, sc1, bd1, de1, rfl, hBX1, hPX⟩ := hw
  rcases hPX with ⟨rfl, hrest⟩ | ⟨rfl, hno⟩
  · refine lv_aload_n hx hb dX0_sound_4 rfl (lv_at hl 0 rfl) ?_
    refine gX0 hx hb hts hown hK hP 0 rfl 5 (by decide) q42 rfl dX0_sound_5 ?_
    exact hret _ _ _ _ _ (cwX ad di db st mk n tk 1 1 dp1 te1 sc1 bd1 de1 sv me mo dg) rfl dX0_sound_8 (⟨Or.inl ⟨rfl, ⟨_, _, hrest.1⟩⟩, ⟨1, 1, dp1, te1, sc1, bd1, de1, sv, me, mo, dg, rfl, ⟨hBX1, Or.inr ⟨rfl, Or.inl ⟨rfl, hrest⟩⟩, hsv⟩⟩⟩) hP hD hS
  · refine lv_aload_n hx hb dX0_sound_4 rfl (lv_at hl 0 rfl) ?_
    refine gX0 hx hb hts hown hK hP 0 rfl 5 (by decide) q42 rfl dX0_sound_5 ?_
    exact hret _ _ _ _ _ (cwX ad di db st mk n tk 1 0 dp1 te1 sc1 bd1 de1 sv me mo dg) rfl dX0_sound_8 (⟨Or.inr ⟨rfl, hno⟩, ⟨1, 0, dp1, te1, sc1, bd1, de1, sv, me, mo, dg, rfl, ⟨hBX1, Or.inr ⟨rfl, Or.inr ⟨rfl, hno⟩⟩, hsv⟩⟩⟩) hP hD hS
set_option maxHeartbeats 4000000 in
set_option maxRecDepth 100000 in
/-- depth -/
theorem metX0_depth (l : Launch) (D : va_G) (ad : Nat → Nat) (di db : ClassId) (st mk : Nat → Nat) (n : Nat) (tk : Nat → Nat) (ps so dp : Nat) (te sc bd de : Nat → Nat) (sv : Nat) (me mo dg : Nat → Nat)  (hn : n ≤ 12) (htk : ∀ j, tk j ≤ 18) (hmk : ∀ j, mk j < 64) (hst : ∀ j, st j < 64) (hCI : CI st mk tk n ps so dp te sc bd de sv me) : xMi l yX0_depth cX0_depth 1 .int ({ frames := 3, cells := 0, slots := 0, locals := 71 }) D (tyX di db) (cwX ad di db st mk n tk ps so dp te sc bd de sv me mo dg) [.ref (ad 0)] (fun r u => ((∃ E B, Str tk n E B ∧ r = nI (mj_deep tk E n)) ∨ (¬ Snd tk n ∧ r = (-3))) ∧ UX ad di db st mk n tk u) := by
  refine xMi_intro (by decide) (Nat.le_of_ble_eq_true rfl) ?_
  intro p e s m args below meth c A Q hx hb hml hown hts hA hK hP hD hS hret ls hl
  have hl : lv_has ls 1 [(0, .ref (ad 0))] := hl
  obtain ⟨hBX, hc, hsv⟩ := hCI
  refine lv_aload_n hx hb dX0_depth_0 rfl (lv_at hl 0 rfl) ?_
  refine xcall_v (As := []) (rest := []) (ci := 0) ⟨hx, hb, hml, hown, hts⟩ (metX0_parse l D ad di db st mk n tk ps so dp te sc bd de sv me mo dg hn htk hBX hc) (cwV 0 hts (lw_V q117 q119 qs2 q27 q120) rfl rfl rfl (by decide +kernel) ⟨Nat.le_of_ble_eq_true rfl, Nat.le_of_ble_eq_true rfl⟩) rfl rfl hK hP hD hS hA rfl hl.1 rfl (Nat.le_of_ble_eq_true rfl) dX0_depth_1 ⟨Nat.zero_le _, Nat.zero_le _⟩ (fun u H locs hw hP hD hS => ?_)
  obtain ⟨so1, dp1, te1, sc1, bd1, de1, rfl, hBX1, hPX⟩ := hw
  rcases hPX with ⟨rfl, hrest⟩ | ⟨rfl, hno⟩
  · refine lv_aload_n hx hb dX0_depth_4 rfl (lv_at hl 0 rfl) ?_
    refine gX0 hx hb hts hown hK hP 0 rfl 5 (by decide) q42 rfl dX0_depth_5 ?_
    refine nv_if_eq (tgt := 18) hx hb (by omega) dX0_depth_8 (by decide) (fun q => absurd q (by omega)) (fun c8 => ?_)
    refine lv_aload_n hx hb dX0_depth_11 rfl (lv_at hl 0 rfl) ?_
    refine gX0 hx hb hts hown hK hP 0 rfl 6 (by decide) q43 rfl dX0_depth_12 ?_
    refine lv_goto (tgt := 20) hx hb dX0_depth_15 (by decide) ?_
    exact hret _ _ _ _ _ (cwX ad di db st mk n tk 1 1 dp1 te1 sc1 bd1 de1 sv me mo dg) rfl dX0_depth_20 (⟨Or.inl ⟨te1, _, hrest.1, by rw [hrest.2.2.2.2]⟩, ⟨1, 1, dp1, te1, sc1, bd1, de1, sv, me, mo, dg, rfl, ⟨hBX1, Or.inr ⟨rfl, Or.inl ⟨rfl, hrest⟩⟩, hsv⟩⟩⟩) hP hD hS
  · refine lv_aload_n hx hb dX0_depth_4 rfl (lv_at hl 0 rfl) ?_
    refine gX0 hx hb hts hown hK hP 0 rfl 5 (by decide) q42 rfl dX0_depth_5 ?_
    refine nv_if_eq (tgt := 18) hx hb (by omega) dX0_depth_8 (by decide) (fun c8 => ?_) (fun q => absurd q (by omega))
    refine lv_bipush (v := (-3)) hx hb dX0_depth_18 (by decide) ?_
    exact hret _ _ _ _ _ (cwX ad di db st mk n tk 1 0 dp1 te1 sc1 bd1 de1 sv me mo dg) rfl dX0_depth_20 (⟨Or.inr ⟨hno, rfl⟩, ⟨1, 0, dp1, te1, sc1, bd1, de1, sv, me, mo, dg, rfl, ⟨hBX1, Or.inr ⟨rfl, Or.inr ⟨rfl, hno⟩⟩, hsv⟩⟩⟩) hP hD hS
set_option maxHeartbeats 4000000 in
set_option maxRecDepth 100000 in
/-- holds -/
theorem metX0_holds (l : Launch) (D : va_G) (ad : Nat → Nat) (di db : ClassId) (st mk : Nat → Nat) (n : Nat) (tk : Nat → Nat) (ps so dp : Nat) (te sc bd de : Nat → Nat) (sv : Nat) (me mo dg : Nat → Nat) (p0 : Int32) (hn : n ≤ 12) (htk : ∀ j, tk j ≤ 18) (hmk : ∀ j, mk j < 64) (hst : ∀ j, st j < 64) (hCI : CI st mk tk n ps so dp te sc bd de sv me) : xMi l yX0_holds cX0_holds 2 .boolean ({ frames := 4, cells := 0, slots := 0, locals := 97 }) D (tyX di db) (cwX ad di db st mk n tk ps so dp te sc bd de sv me mo dg) [.ref (ad 0), .int p0] (fun r u => ((∃ i, i < 6 ∧ p0 = nI i ∧ Ans st mk tk n i ∧ r = nI 1) ∨ ((∀ i, i < 6 → p0 = nI i → ¬ Ans st mk tk n i) ∧ r = nI 0)) ∧ UX ad di db st mk n tk u) := by
  refine xMi_intro (by decide) (Nat.le_of_ble_eq_true rfl) ?_
  intro p e s m args below meth c A Q hx hb hml hown hts hA hK hP hD hS hret ls hl
  have hl : lv_has ls 2 [(0, .ref (ad 0)), (1, .int p0)] := hl
  rcases isN_cases p0 with ⟨e0, i, hi, rfl⟩ | ⟨e0, hno0⟩
  · obtain ⟨hBX, hc, hsv⟩ := id hCI
    refine lv_aload_n hx hb dX0_holds_0 rfl (lv_at hl 0 rfl) ?_
    refine lv_iload_n hx hb dX0_holds_1 rfl (lv_at hl 1 rfl) ?_
    refine pcall_i (As := [.int (nI i)]) (rest := []) (ci := 0) (q0 := 0) ⟨hx, hb, hml, hown, hts⟩ (metX0_isState l (ad 0) ((nI i))) (cwV 1 hts (lw_V q89 q91 qs0 q27 q92) rfl rfl rfl (by decide +kernel) ⟨Nat.le_of_ble_eq_true rfl, Nat.le_of_ble_eq_true rfl⟩) rfl rfl hK hP rfl hl.1 rfl (Nat.le_of_ble_eq_true rfl) dX0_holds_2 ⟨Nat.zero_le _, Nat.zero_le _⟩ (fun r hr => ?_)
    rw [e0] at hr
    subst hr
    refine nv_if_ne (tgt := 10) hx hb (by omega) dX0_holds_5 (by decide) (fun c5 => ?_) (fun q => absurd q (by omega))
    refine lv_aload_n hx hb dX0_holds_10 rfl (lv_at hl 0 rfl) ?_
    refine xcall_v (As := []) (rest := []) (ci := 0) ⟨hx, hb, hml, hown, hts⟩ (metX0_solve l D ad di db st mk n tk ps so dp te sc bd de sv me mo dg hn htk hmk hst hBX hc hsv) (cwV 0 hts (lw_V q141 q143 qs7 q27 q144) rfl rfl rfl (by decide +kernel) ⟨Nat.le_of_ble_eq_true rfl, Nat.le_of_ble_eq_true rfl⟩) rfl rfl hK hP hD hS hA rfl hl.1 rfl (Nat.le_of_ble_eq_true rfl) dX0_holds_11 ⟨Nat.zero_le _, Nat.zero_le _⟩ (fun u H locs hw hP hD hS => ?_)
    obtain ⟨so1, dp1, te1, sc1, bd1, de1, sv1, me1, mo1, dg1, rfl, hBX1, hPX, hSX, hs1⟩ := hw
    rcases hPX with ⟨rfl, hrest⟩ | ⟨rfl, hno⟩
    · have hs1 := hs1 rfl
      obtain ⟨hz, hmL, hSX0⟩ := id hSX
      rcases hSX0 with hbad | ⟨-, hsnd, hans⟩
      · omega
      refine lv_aload_n hx hb dX0_holds_14 rfl (lv_at hl 0 rfl) ?_
      refine gX0 hx hb hts hown hK hP 0 rfl 5 (by decide) q42 rfl dX0_holds_15 ?_
      refine nv_if_eq (tgt := 39) hx hb (by omega) dX0_holds_18 (by decide) (fun q => absurd q (by omega)) (fun c18 => ?_)
      refine lv_aload_n hx hb dX0_holds_21 rfl (lv_at hl 0 rfl) ?_
      refine gX0 hx hb hts hown hK hP 0 rfl 12 (by decide) q49 rfl dX0_holds_22 ?_
      refine lv_bipush (v := nI 12) hx hb dX0_holds_25 (by decide) ?_
      refine lv_iload_n hx hb dX0_holds_27 rfl (lv_at hl 1 rfl) ?_
      refine nv_imul hx hb dX0_holds_28 ?_
      refine nv_iald hx hb hK hP 8 0 rfl rfl (by omega) (by decide) dX0_holds_29 ?_
      have hme := hans i hi
      have hmb := hmL (12 * i)
      refine lv_ldc (own := RX0) (v := nI 1000000) hx hb hown (hts _ q153n) dX0_holds_30 ?_
      refine nv_icmp_ge (tgt := 39) hx hb (by omega) (by omega) dX0_holds_32 (by decide) (fun c32 => ?_) (fun c32 => ?_)
      · refine lv_iconst (v := nI 0) hx hb dX0_holds_39 (by decide) ?_
        exact hret _ _ _ _ _ (cwX ad di db st mk n tk 1 1 dp1 te1 sc1 bd1 de1 sv1 me1 mo1 dg1) rfl dX0_holds_40 (⟨Or.inr ⟨fun j hj e => by have e2 := (nI_eq (by omega) (by omega)).mp e; subst e2; exact fun q => by have := hme.mpr q; omega, rfl⟩, ⟨1, 1, dp1, te1, sc1, bd1, de1, sv1, me1, mo1, dg1, rfl, ⟨hBX1, Or.inr ⟨rfl, Or.inl ⟨rfl, hrest⟩⟩, hSX⟩⟩⟩) hP hD hS
      · refine lv_iconst (v := nI 1) hx hb dX0_holds_35 (by decide) ?_
        refine lv_goto (tgt := 40) hx hb dX0_holds_36 (by decide) ?_
        exact hret _ _ _ _ _ (cwX ad di db st mk n tk 1 1 dp1 te1 sc1 bd1 de1 sv1 me1 mo1 dg1) rfl dX0_holds_40 (⟨Or.inl ⟨i, hi, rfl, hme.mp c32, rfl⟩, ⟨1, 1, dp1, te1, sc1, bd1, de1, sv1, me1, mo1, dg1, rfl, ⟨hBX1, Or.inr ⟨rfl, Or.inl ⟨rfl, hrest⟩⟩, hSX⟩⟩⟩) hP hD hS
    · refine lv_aload_n hx hb dX0_holds_14 rfl (lv_at hl 0 rfl) ?_
      refine gX0 hx hb hts hown hK hP 0 rfl 5 (by decide) q42 rfl dX0_holds_15 ?_
      refine nv_if_eq (tgt := 39) hx hb (by omega) dX0_holds_18 (by decide) (fun c18 => ?_) (fun q => absurd q (by omega))
      refine lv_iconst (v := nI 0) hx hb dX0_holds_39 (by decide) ?_
      exact hret _ _ _ _ _ (cwX ad di db st mk n tk 1 0 dp1 te1 sc1 bd1 de1 sv1 me1 mo1 dg1) rfl dX0_holds_40 (⟨Or.inr ⟨fun j hj e q => hno ⟨q.choose, q.choose_spec.choose, q.choose_spec.choose_spec.1⟩, rfl⟩, ⟨1, 0, dp1, te1, sc1, bd1, de1, sv1, me1, mo1, dg1, rfl, ⟨hBX1, Or.inr ⟨rfl, Or.inr ⟨rfl, hno⟩⟩, hSX⟩⟩⟩) hP hD hS
  · refine lv_aload_n hx hb dX0_holds_0 rfl (lv_at hl 0 rfl) ?_
    refine lv_iload_n hx hb dX0_holds_1 rfl (lv_at hl 1 rfl) ?_
    refine pcall_i (As := [.int p0]) (rest := []) (ci := 0) (q0 := 0) ⟨hx, hb, hml, hown, hts⟩ (metX0_isState l (ad 0) (p0)) (cwV 1 hts (lw_V q89 q91 qs0 q27 q92) rfl rfl rfl (by decide +kernel) ⟨Nat.le_of_ble_eq_true rfl, Nat.le_of_ble_eq_true rfl⟩) rfl rfl hK hP rfl hl.1 rfl (Nat.le_of_ble_eq_true rfl) dX0_holds_2 ⟨Nat.zero_le _, Nat.zero_le _⟩ (fun r hr => ?_)
    rw [e0] at hr
    subst hr
    refine nv_if_ne (tgt := 10) hx hb (by omega) dX0_holds_5 (by decide) (fun q => absurd q (by omega)) (fun c5 => ?_)
    refine lv_iconst (v := nI 0) hx hb dX0_holds_8 (by decide) ?_
    exact hret _ _ _ _ _ (cwX ad di db st mk n tk ps so dp te sc bd de sv me mo dg) rfl dX0_holds_9 (⟨Or.inr ⟨fun j hj e => absurd e (hno0 j hj), rfl⟩, ⟨ps, so, dp, te, sc, bd, de, sv, me, mo, dg, rfl, hCI⟩⟩) hP hD hS
set_option maxHeartbeats 4000000 in
set_option maxRecDepth 100000 in
/-- set -/
theorem metX0_set (l : Launch) (D : va_G) (ad : Nat → Nat) (di db : ClassId) (st mk : Nat → Nat) (n : Nat) (tk : Nat → Nat) (ps so dp : Nat) (te sc bd de : Nat → Nat) (sv : Nat) (me mo dg : Nat → Nat)  (hn : n ≤ 12) (htk : ∀ j, tk j ≤ 18) (hmk : ∀ j, mk j < 64) (hst : ∀ j, st j < 64) (hCI : CI st mk tk n ps so dp te sc bd de sv me) : xMi l yX0_set cX0_set 3 .int ({ frames := 4, cells := 0, slots := 0, locals := 97 }) D (tyX di db) (cwX ad di db st mk n tk ps so dp te sc bd de sv me mo dg) [.ref (ad 0)] (fun r u => ((Snd tk n ∧ ∃ o, o < 64 ∧ r = nI o ∧ ∀ i, o.testBit i = true ↔ (i < 6 ∧ Ans st mk tk n i)) ∨ (¬ Snd tk n ∧ r = (-3))) ∧ UX ad di db st mk n tk u) := by
  refine xMi_intro (by decide) (Nat.le_of_ble_eq_true rfl) ?_
  intro p e s m args below meth c A Q hx hb hml hown hts hA hK hP hD hS hret ls hl
  have hl : lv_has ls 3 [(0, .ref (ad 0))] := hl
  obtain ⟨hBX, hc, hsv⟩ := id hCI
  refine lv_aload_n hx hb dX0_set_0 rfl (lv_at hl 0 rfl) ?_
  refine xcall_v (As := []) (rest := []) (ci := 0) ⟨hx, hb, hml, hown, hts⟩ (metX0_solve l D ad di db st mk n tk ps so dp te sc bd de sv me mo dg hn htk hmk hst hBX hc hsv) (cwV 0 hts (lw_V q141 q143 qs7 q27 q144) rfl rfl rfl (by decide +kernel) ⟨Nat.le_of_ble_eq_true rfl, Nat.le_of_ble_eq_true rfl⟩) rfl rfl hK hP hD hS hA rfl hl.1 rfl (Nat.le_of_ble_eq_true rfl) dX0_set_1 ⟨Nat.zero_le _, Nat.zero_le _⟩ (fun u H locs hw hP hD hS => ?_)
  obtain ⟨so1, dp1, te1, sc1, bd1, de1, sv1, me1, mo1, dg1, rfl, hBX1, hPX, hSX, hs1⟩ := hw
  rcases hPX with ⟨rfl, hrest⟩ | ⟨rfl, hno⟩
  · have hs1 := hs1 rfl
    obtain ⟨hz, hmL, hSX0⟩ := id hSX
    rcases hSX0 with hbad | ⟨-, hsnd, hans⟩
    · omega
    refine lv_aload_n hx hb dX0_set_4 rfl (lv_at hl 0 rfl) ?_
    refine gX0 hx hb hts hown hK hP 0 rfl 5 (by decide) q42 rfl dX0_set_5 ?_
    refine nv_if_ne (tgt := 14) hx hb (by omega) dX0_set_8 (by decide) (fun c8 => ?_) (fun q => absurd q (by omega))
    refine lv_iconst (v := nI 0) hx hb dX0_set_14 (by decide) ?_
    refine lv_istore_n (lv' := [(1, .int (nI 0)), (0, .ref (ad 0))]) hx hb dX0_set_15 rfl hl (by decide) rfl (fun ls hl => ?_)
    refine lv_iconst (v := nI 0) hx hb dX0_set_16 (by decide) ?_
    refine lv_istore_n (lv' := [(2, .int (nI 0)), (1, .int (nI 0)), (0, .ref (ad 0))]) hx hb dX0_set_17 rfl hl (by decide) rfl (fun ls hl => ?_)
    have L : ∀ (d x : Nat) (o : Nat), 6 < x + d → x ≤ 6 → o < 64 → (∀ i, o.testBit i = true ↔ (i < x ∧ Ans st mk tk n i)) → ∀ (H : Heap) (locs : List Loc), va_P D vwCl (cwX ad di db st mk n tk 1 1 dp1 te1 sc1 bd1 de1 sv1 me1 mo1 dg1) H → va_D A (cwX ad di db st mk n tk 1 1 dp1 te1 sc1 bd1 de1 sv1 me1 mo1 dg1) → va_S A s.heap H locs → ∀ ls : Array Slot, lv_has ls 3 [(0, .ref (ad 0)), (1, .int (nI o)), (2, .int (nI x))] → W p l e ({ frames := 4, cells := 0, slots := 0, locals := 97 }) s m args below meth c H locs 0 0 Q (F0 m 18 ls []) := by
      intro d
      induction d with
      | zero =>
        intro x o h1_ h2_
        exfalso; omega
      | succ d ihL =>
        intro x o h1_ h2_ ho hm H locs hP hD hS ls hl
        refine lv_iload_n hx hb dX0_set_18 rfl (lv_at hl 2 rfl) ?_
        refine lv_bipush (v := nI 6) hx hb dX0_set_19 (by decide) ?_
        refine nv_icmp_ge (tgt := 50) hx hb (by omega) (by omega) dX0_set_21 (by decide) (fun c21 => ?_) (fun c21 => ?_)
        · refine lv_iload_n hx hb dX0_set_50 rfl (lv_at hl 1 rfl) ?_
          have hx6 : x = 6 := by omega
          rw [hx6] at hm
          exact hret _ _ _ _ _ (cwX ad di db st mk n tk 1 1 dp1 te1 sc1 bd1 de1 sv1 me1 mo1 dg1) rfl dX0_set_51 (⟨Or.inl ⟨hsnd, o, ho, rfl, hm⟩, ⟨1, 1, dp1, te1, sc1, bd1, de1, sv1, me1, mo1, dg1, rfl, ⟨hBX1, Or.inr ⟨rfl, Or.inl ⟨rfl, hrest⟩⟩, hSX⟩⟩⟩) hP hD hS
        · refine lv_aload_n hx hb dX0_set_24 rfl (lv_at hl 0 rfl) ?_
          refine gX0 hx hb hts hown hK hP 0 rfl 12 (by decide) q49 rfl dX0_set_25 ?_
          refine lv_bipush (v := nI 12) hx hb dX0_set_28 (by decide) ?_
          refine lv_iload_n hx hb dX0_set_30 rfl (lv_at hl 2 rfl) ?_
          refine nv_imul hx hb dX0_set_31 ?_
          refine nv_iald hx hb hK hP 8 0 rfl rfl (by omega) (by decide) dX0_set_32 ?_
          have hme := hans x (by omega)
          have hmb := hmL (12 * x)
          refine lv_ldc (own := RX0) (v := nI 1000000) hx hb hown (hts _ q153n) dX0_set_33 ?_
          refine nv_icmp_ge (tgt := 44) hx hb (by omega) (by omega) dX0_set_35 (by decide) (fun c35 => ?_) (fun c35 => ?_)
          · refine nv_iinc (k := 2) (lv' := [(2, .int (nI (x + 1))), (0, .ref (ad 0)), (1, .int (nI o))]) (v := (nI (x + 1))) hx hb dX0_set_44 hl rfl (nI_inc _) (by decide) rfl (fun ls hl => ?_)
            refine lv_goto (tgt := 18) hx hb dX0_set_47 (by decide) ?_
            exact ihL (x + 1) o (by omega) (by omega) ho (ms_skip hm (fun q => by have := hme.mpr q; omega)) _ _ hP hD hS ls (lv_sub hl [1, 2, 0] rfl)
          · refine lv_iload_n hx hb dX0_set_38 rfl (lv_at hl 1 rfl) ?_
            refine lv_iconst (v := nI 1) hx hb dX0_set_39 (by decide) ?_
            refine lv_iload_n hx hb dX0_set_40 rfl (lv_at hl 2 rfl) ?_
            refine nv_ishl hx hb (by omega) (p2lt (by omega)) dX0_set_41 ?_
            refine nv_ior hx hb dX0_set_42 ?_
            refine lv_istore_n (lv' := [(1, .int (nI (o ||| (1 * 2 ^ x)))), (0, .ref (ad 0)), (2, .int (nI x))]) hx hb dX0_set_43 rfl hl (by decide) rfl (fun ls hl => ?_)
            refine nv_iinc (k := 2) (lv' := [(2, .int (nI (x + 1))), (1, .int (nI (o ||| (1 * 2 ^ x)))), (0, .ref (ad 0))]) (v := (nI (x + 1))) hx hb dX0_set_44 hl rfl (nI_inc _) (by decide) rfl (fun ls hl => ?_)
            refine lv_goto (tgt := 18) hx hb dX0_set_47 (by decide) ?_
            exact ihL (x + 1) _ (by omega) (by omega) (ms_lt ho (by omega)) (ms_add hm (hme.mp c35)) _ _ hP hD hS ls (lv_sub hl [2, 1, 0] rfl)
    exact L 7 0 0 (by omega) (by omega) (by omega) ms_0 _ _ hP hD hS ls (lv_sub hl [2, 1, 0] rfl)
  · refine lv_aload_n hx hb dX0_set_4 rfl (lv_at hl 0 rfl) ?_
    refine gX0 hx hb hts hown hK hP 0 rfl 5 (by decide) q42 rfl dX0_set_5 ?_
    refine nv_if_ne (tgt := 14) hx hb (by omega) dX0_set_8 (by decide) (fun q => absurd q (by omega)) (fun c8 => ?_)
    refine lv_bipush (v := (-3)) hx hb dX0_set_11 (by decide) ?_
    exact hret _ _ _ _ _ (cwX ad di db st mk n tk 1 0 dp1 te1 sc1 bd1 de1 sv1 me1 mo1 dg1) rfl dX0_set_13 (⟨Or.inr ⟨hno, rfl⟩, ⟨1, 0, dp1, te1, sc1, bd1, de1, sv1, me1, mo1, dg1, rfl, ⟨hBX1, Or.inr ⟨rfl, Or.inr ⟨rfl, hno⟩⟩, hSX⟩⟩⟩) hP hD hS
end
section
/-! ModalJudgeModel, the leaves: isState, in, binds, arity, counterpart, first, step, mark, token, wipe, steps, turn -/
theorem isN_1 {x : Int32} (h0 : ¬ x < 0) (h1 : ¬ nI 5 < x) : isN x = 1 := by
  obtain ⟨j, hj, e⟩ := rng_gt (by omega) h0 h1
  rcases isN_cases x with ⟨h, _⟩ | ⟨_, h⟩
  · exact h
  · exact absurd e (h j (by omega))
theorem isN_0a {x : Int32} (h0 : x < 0) : isN x = 0 := by unfold isN; rw [if_pos h0]
theorem isN_0b {x : Int32} (h1 : nI 5 < x) : isN x = 0 := by
  rcases isN_cases x with ⟨_, j, hj, e⟩ | ⟨h, _⟩
  · subst e
    rw [nI_ltI (by omega) (by omega)] at h1
    omega
  · exact h
theorem cpt_c1 {t : Nat} (h : 6 ≤ t) (h2 : t < 10) (h3 : t % 2 = 0) : cpt t = t + 1 := by
  rw [cpt_c h h2]
  rcases (show t = 6 ∨ t = 8 by omega) with rfl | rfl <;> decide
theorem cpt_c0 {t : Nat} (h : 6 ≤ t) (h2 : t < 10) (h3 : 0 < t % 2) : cpt t = t - 1 := by
  rw [cpt_c h h2]
  rcases (show t = 7 ∨ t = 9 by omega) with rfl | rfl <;> decide
theorem cpt_le (t : Nat) (h : t ≤ 18) : cpt t ≤ 18 := by
  revert t
  decide
theorem cpt_16 {t : Nat} (h : cpt t = t) : 16 ≤ t := by
  unfold cpt at h
  by_cases c1 : t < 3
  · rw [if_pos c1] at h; omega
  · rw [if_neg c1] at h
    by_cases c2 : t < 6
    · rw [if_pos c2] at h; omega
    · rw [if_neg c2] at h
      by_cases c3 : t < 10
      · rw [if_pos c3] at h
        rcases (show t = 6 ∨ t = 7 ∨ t = 8 ∨ t = 9 by omega) with rfl | rfl | rfl | rfl <;> exact absurd h (by decide)
      · rw [if_neg c3] at h
        by_cases c4 : t < 13
        · rw [if_pos c4] at h; omega
        · rw [if_neg c4] at h
          by_cases c5 : t < 16
          · rw [if_pos c5] at h; omega
          · omega
theorem cpt_15 {t : Nat} (h : cpt t ≠ t) : t < 16 := by
  rcases Nat.lt_or_ge t 16 with q | q
  · exact q
  · exact absurd (cpt_f q) h
/-- what a binder's set begins with -/
def fst13 (t : Nat) : Nat := if t < 13 then 0 else 63
theorem fst13_0 {t : Nat} (h : t < 13) : fst13 t = 0 := by unfold fst13; rw [if_pos h]
theorem fst13_63 {t : Nat} (h : 13 ≤ t) : fst13 t = 63 := by unfold fst13; rw [if_neg (by omega)]
set_option maxHeartbeats 4000000 in
set_option maxRecDepth 100000 in
theorem metX1_isState (l : Launch) (h0 : Nat) (x : Int32) : pMi l yX1_isState cX1_isState 2 .boolean ({ frames := 0, cells := 0, slots := 0, locals := 0 }) [.ref h0, .int x] (fun r => r = nI (isN x)) := by
  refine pMi_intro (by decide) (Nat.le_of_ble_eq_true rfl) ?_
  intro p e s m args below meth c Q hx hb hml hown hts hret ls hl
  have hl : lv_has ls 2 [(0, .ref h0), (1, .int x)] := hl
  refine lv_iload_n hx hb dX1_isState_0 rfl (lv_at hl 1 rfl) ?_
  refine lv_if_lt (tgt := 13) hx hb dX1_isState_1 (by decide) (fun c1 => ?_) (fun c1 => ?_)
  · refine lv_iconst (v := nI 0) hx hb dX1_isState_13 (by decide) ?_
    exact hret _ _ _ rfl dX1_isState_14 (by first | rw [isN_0a c1] | rw [isN_0b c6])
  · refine lv_iload_n hx hb dX1_isState_4 rfl (lv_at hl 1 rfl) ?_
    refine lv_iconst (v := nI 5) hx hb dX1_isState_5 (by decide) ?_
    refine lv_icmp_gt (tgt := 13) hx hb dX1_isState_6 (by decide) (fun c6 => ?_) (fun c6 => ?_)
    · refine lv_iconst (v := nI 0) hx hb dX1_isState_13 (by decide) ?_
      exact hret _ _ _ rfl dX1_isState_14 (by first | rw [isN_0a c1] | rw [isN_0b c6])
    · refine lv_iconst (v := nI 1) hx hb dX1_isState_9 (by decide) ?_
      refine lv_goto (tgt := 14) hx hb dX1_isState_10 (by decide) ?_
      exact hret _ _ _ rfl dX1_isState_14 (by rw [isN_1 c1 c6])
set_option maxHeartbeats 4000000 in
set_option maxRecDepth 100000 in
theorem metX1_in (l : Launch) (h0 : Nat) (a sx : Nat) (ha : a < 64) (hs : sx < 6) : pMi l yX1_in cX1_in 3 .boolean ({ frames := 0, cells := 0, slots := 0, locals := 0 }) [.ref h0, .int (nI a), .int (nI sx)] (fun r => (r = nI 1 ∧ a.testBit sx = true) ∨ (r = nI 0 ∧ a.testBit sx = false)) := by
  refine pMi_intro (by decide) (Nat.le_of_ble_eq_true rfl) ?_
  intro p e s m args below meth c Q hx hb hml hown hts hret ls hl
  have hl : lv_has ls 3 [(0, .ref h0), (1, .int (nI a)), (2, .int (nI sx))] := hl
  have ha1 := and1_le (a / 2 ^ sx)
  refine lv_iload_n hx hb dX1_in_0 rfl (lv_at hl 1 rfl) ?_
  refine lv_iload_n hx hb dX1_in_1 rfl (lv_at hl 2 rfl) ?_
  refine nv_ishr hx hb (by omega) (by omega) dX1_in_2 ?_
  refine lv_iconst (v := nI 1) hx hb dX1_in_3 (by decide) ?_
  refine nv_iand hx hb dX1_in_4 ?_
  refine lv_iconst (v := nI 1) hx hb dX1_in_5 (by decide) ?_
  refine nv_icmp_ne (tgt := 13) hx hb (by omega) (by omega) dX1_in_6 (by decide) (fun c6 => ?_) (fun c6 => ?_)
  · refine lv_iconst (v := nI 0) hx hb dX1_in_13 (by decide) ?_
    exact hret _ _ _ rfl dX1_in_14 (Or.inr ⟨rfl, tb_zero (by omega)⟩)
  · refine lv_iconst (v := nI 1) hx hb dX1_in_9 (by decide) ?_
    refine lv_goto (tgt := 14) hx hb dX1_in_10 (by decide) ?_
    exact hret _ _ _ rfl dX1_in_14 (Or.inl ⟨rfl, tb_pos (by omega)⟩)
set_option maxHeartbeats 4000000 in
set_option maxRecDepth 100000 in
theorem metX1_binds (l : Launch) (h0 : Nat) (t : Nat) (ht : t < 128) : pMi l yX1_binds cX1_binds 2 .boolean ({ frames := 0, cells := 0, slots := 0, locals := 0 }) [.ref h0, .int (nI t)] (fun r => r = nI (bi t)) := by
  refine pMi_intro (by decide) (Nat.le_of_ble_eq_true rfl) ?_
  intro p e s m args below meth c Q hx hb hml hown hts hret ls hl
  have hl : lv_has ls 2 [(0, .ref h0), (1, .int (nI t))] := hl
  refine lv_iload_n hx hb dX1_binds_0 rfl (lv_at hl 1 rfl) ?_
  refine lv_bipush (v := nI 10) hx hb dX1_binds_1 (by decide) ?_
  refine nv_icmp_lt (tgt := 16) hx hb (by omega) (by omega) dX1_binds_3 (by decide) (fun c3 => ?_) (fun c3 => ?_)
  · refine lv_iconst (v := nI 0) hx hb dX1_binds_16 (by decide) ?_
    exact hret _ _ _ rfl dX1_binds_17 (by rw [bi_0 (by omega)])
  · refine lv_iload_n hx hb dX1_binds_6 rfl (lv_at hl 1 rfl) ?_
    refine lv_bipush (v := nI 15) hx hb dX1_binds_7 (by decide) ?_
    refine nv_icmp_gt (tgt := 16) hx hb (by omega) (by omega) dX1_binds_9 (by decide) (fun c9 => ?_) (fun c9 => ?_)
    · refine lv_iconst (v := nI 0) hx hb dX1_binds_16 (by decide) ?_
      exact hret _ _ _ rfl dX1_binds_17 (by rw [bi_0 (by omega)])
    · refine lv_iconst (v := nI 1) hx hb dX1_binds_12 (by decide) ?_
      refine lv_goto (tgt := 17) hx hb dX1_binds_13 (by decide) ?_
      exact hret _ _ _ rfl dX1_binds_17 (by rw [bi_1 (by omega)])
set_option maxHeartbeats 4000000 in
set_option maxRecDepth 100000 in
theorem metX1_arity (l : Launch) (h0 : Nat) (t : Nat) (ht : t < 128) : pMi l yX1_arity cX1_arity 2 .int ({ frames := 0, cells := 0, slots := 0, locals := 0 }) [.ref h0, .int (nI t)] (fun r => r = nI (mj_ar t)) := by
  refine pMi_intro (by decide) (Nat.le_of_ble_eq_true rfl) ?_
  intro p e s m args below meth c Q hx hb hml hown hts hret ls hl
  have hl : lv_has ls 2 [(0, .ref h0), (1, .int (nI t))] := hl
  refine lv_iload_n hx hb dX1_arity_0 rfl (lv_at hl 1 rfl) ?_
  refine lv_bipush (v := nI 6) hx hb dX1_arity_1 (by decide) ?_
  refine nv_icmp_eq (tgt := 12) hx hb (by omega) (by omega) dX1_arity_3 (by decide) (fun c3 => ?_) (fun c3 => ?_)
  · refine lv_iconst (v := nI 2) hx hb dX1_arity_12 (by decide) ?_
    refine lv_goto (tgt := 33) hx hb dX1_arity_13 (by decide) ?_
    exact hret _ _ _ rfl dX1_arity_33 (by rw [mj_ar2.mpr (by omega)])
  · refine lv_iload_n hx hb dX1_arity_6 rfl (lv_at hl 1 rfl) ?_
    refine lv_bipush (v := nI 7) hx hb dX1_arity_7 (by decide) ?_
    refine nv_icmp_ne (tgt := 16) hx hb (by omega) (by omega) dX1_arity_9 (by decide) (fun c9 => ?_) (fun c9 => ?_)
    · refine lv_iload_n hx hb dX1_arity_16 rfl (lv_at hl 1 rfl) ?_
      refine lv_bipush (v := nI 8) hx hb dX1_arity_17 (by decide) ?_
      refine nv_icmp_lt (tgt := 32) hx hb (by omega) (by omega) dX1_arity_19 (by decide) (fun c19 => ?_) (fun c19 => ?_)
      · refine lv_iconst (v := nI 0) hx hb dX1_arity_32 (by decide) ?_
        exact hret _ _ _ rfl dX1_arity_33 (by rw [mj_ar0.mpr (by omega)])
      · refine lv_iload_n hx hb dX1_arity_22 rfl (lv_at hl 1 rfl) ?_
        refine lv_bipush (v := nI 15) hx hb dX1_arity_23 (by decide) ?_
        refine nv_icmp_gt (tgt := 32) hx hb (by omega) (by omega) dX1_arity_25 (by decide) (fun c25 => ?_) (fun c25 => ?_)
        · refine lv_iconst (v := nI 0) hx hb dX1_arity_32 (by decide) ?_
          exact hret _ _ _ rfl dX1_arity_33 (by rw [mj_ar0.mpr (by omega)])
        · refine lv_iconst (v := nI 1) hx hb dX1_arity_28 (by decide) ?_
          refine lv_goto (tgt := 33) hx hb dX1_arity_29 (by decide) ?_
          exact hret _ _ _ rfl dX1_arity_33 (by rw [mj_ar1.mpr (by omega)])
    · refine lv_iconst (v := nI 2) hx hb dX1_arity_12 (by decide) ?_
      refine lv_goto (tgt := 33) hx hb dX1_arity_13 (by decide) ?_
      exact hret _ _ _ rfl dX1_arity_33 (by rw [mj_ar2.mpr (by omega)])
set_option maxHeartbeats 4000000 in
set_option maxRecDepth 100000 in
theorem metX1_counterpart (l : Launch) (h0 : Nat) (t : Nat) (ht : t < 128) : pMi l yX1_counterpart cX1_counterpart 2 .int ({ frames := 0, cells := 0, slots := 0, locals := 0 }) [.ref h0, .int (nI t)] (fun r => r = nI (cpt t)) := by
  refine pMi_intro (by decide) (Nat.le_of_ble_eq_true rfl) ?_
  intro p e s m args below meth c Q hx hb hml hown hts hret ls hl
  have hl : lv_has ls 2 [(0, .ref h0), (1, .int (nI t))] := hl
  refine lv_iload_n hx hb dX1_counterpart_0 rfl (lv_at hl 1 rfl) ?_
  refine lv_iconst (v := nI 5) hx hb dX1_counterpart_1 (by decide) ?_
  refine nv_icmp_gt (tgt := 20) hx hb (by omega) (by omega) dX1_counterpart_2 (by decide) (fun c2 => ?_) (fun c2 => ?_)
  · refine lv_iload_n hx hb dX1_counterpart_20 rfl (lv_at hl 1 rfl) ?_
    refine lv_bipush (v := nI 9) hx hb dX1_counterpart_21 (by decide) ?_
    refine nv_icmp_gt (tgt := 42) hx hb (by omega) (by omega) dX1_counterpart_23 (by decide) (fun c23 => ?_) (fun c23 => ?_)
    · refine lv_iload_n hx hb dX1_counterpart_42 rfl (lv_at hl 1 rfl) ?_
      refine lv_bipush (v := nI 15) hx hb dX1_counterpart_43 (by decide) ?_
      refine nv_icmp_gt (tgt := 64) hx hb (by omega) (by omega) dX1_counterpart_45 (by decide) (fun c45 => ?_) (fun c45 => ?_)
      · refine lv_iload_n hx hb dX1_counterpart_64 rfl (lv_at hl 1 rfl) ?_
        exact hret _ _ _ rfl dX1_counterpart_65 (by first | rw [cpt_a (by omega)] | rw [cpt_b (by omega) (by omega)] | rw [cpt_c1 (by omega) (by omega) (by omega)] | rw [cpt_c0 (by omega) (by omega) (by omega)] | rw [cpt_d (by omega) (by omega)] | rw [cpt_e (by omega) (by omega)] | rw [cpt_f (by omega)])
      · refine lv_iload_n hx hb dX1_counterpart_48 rfl (lv_at hl 1 rfl) ?_
        refine lv_bipush (v := nI 13) hx hb dX1_counterpart_49 (by decide) ?_
        refine nv_icmp_ge (tgt := 60) hx hb (by omega) (by omega) dX1_counterpart_51 (by decide) (fun c51 => ?_) (fun c51 => ?_)
        · refine lv_iload_n hx hb dX1_counterpart_60 rfl (lv_at hl 1 rfl) ?_
          refine lv_iconst (v := nI 3) hx hb dX1_counterpart_61 (by decide) ?_
          refine nv_isub hx hb (by omega) dX1_counterpart_62 ?_
          exact hret _ _ _ rfl dX1_counterpart_63 (by first | rw [cpt_a (by omega)] | rw [cpt_b (by omega) (by omega)] | rw [cpt_c1 (by omega) (by omega) (by omega)] | rw [cpt_c0 (by omega) (by omega) (by omega)] | rw [cpt_d (by omega) (by omega)] | rw [cpt_e (by omega) (by omega)] | rw [cpt_f (by omega)])
        · refine lv_iload_n hx hb dX1_counterpart_54 rfl (lv_at hl 1 rfl) ?_
          refine lv_iconst (v := nI 3) hx hb dX1_counterpart_55 (by decide) ?_
          refine nv_iadd hx hb dX1_counterpart_56 ?_
          refine lv_goto (tgt := 63) hx hb dX1_counterpart_57 (by decide) ?_
          exact hret _ _ _ rfl dX1_counterpart_63 (by first | rw [cpt_a (by omega)] | rw [cpt_b (by omega) (by omega)] | rw [cpt_c1 (by omega) (by omega) (by omega)] | rw [cpt_c0 (by omega) (by omega) (by omega)] | rw [cpt_d (by omega) (by omega)] | rw [cpt_e (by omega) (by omega)] | rw [cpt_f (by omega)])
    · refine lv_iload_n hx hb dX1_counterpart_26 rfl (lv_at hl 1 rfl) ?_
      refine lv_iconst (v := nI 2) hx hb dX1_counterpart_27 (by decide) ?_
      refine nv_irem hx hb (by omega) (by omega) (by omega) dX1_counterpart_28 ?_
      refine nv_if_ne (tgt := 38) hx hb (by omega) dX1_counterpart_29 (by decide) (fun c29 => ?_) (fun c29 => ?_)
      · refine lv_iload_n hx hb dX1_counterpart_38 rfl (lv_at hl 1 rfl) ?_
        refine lv_iconst (v := nI 1) hx hb dX1_counterpart_39 (by decide) ?_
        refine nv_isub hx hb (by omega) dX1_counterpart_40 ?_
        exact hret _ _ _ rfl dX1_counterpart_41 (by first | rw [cpt_a (by omega)] | rw [cpt_b (by omega) (by omega)] | rw [cpt_c1 (by omega) (by omega) (by omega)] | rw [cpt_c0 (by omega) (by omega) (by omega)] | rw [cpt_d (by omega) (by omega)] | rw [cpt_e (by omega) (by omega)] | rw [cpt_f (by omega)])
      · refine lv_iload_n hx hb dX1_counterpart_32 rfl (lv_at hl 1 rfl) ?_
        refine lv_iconst (v := nI 1) hx hb dX1_counterpart_33 (by decide) ?_
        refine nv_iadd hx hb dX1_counterpart_34 ?_
        refine lv_goto (tgt := 41) hx hb dX1_counterpart_35 (by decide) ?_
        exact hret _ _ _ rfl dX1_counterpart_41 (by first | rw [cpt_a (by omega)] | rw [cpt_b (by omega) (by omega)] | rw [cpt_c1 (by omega) (by omega) (by omega)] | rw [cpt_c0 (by omega) (by omega) (by omega)] | rw [cpt_d (by omega) (by omega)] | rw [cpt_e (by omega) (by omega)] | rw [cpt_f (by omega)])
  · refine lv_iload_n hx hb dX1_counterpart_5 rfl (lv_at hl 1 rfl) ?_
    refine lv_iconst (v := nI 3) hx hb dX1_counterpart_6 (by decide) ?_
    refine nv_icmp_ge (tgt := 16) hx hb (by omega) (by omega) dX1_counterpart_7 (by decide) (fun c7 => ?_) (fun c7 => ?_)
    · refine lv_iload_n hx hb dX1_counterpart_16 rfl (lv_at hl 1 rfl) ?_
      refine lv_iconst (v := nI 3) hx hb dX1_counterpart_17 (by decide) ?_
      refine nv_isub hx hb (by omega) dX1_counterpart_18 ?_
      exact hret _ _ _ rfl dX1_counterpart_19 (by first | rw [cpt_a (by omega)] | rw [cpt_b (by omega) (by omega)] | rw [cpt_c1 (by omega) (by omega) (by omega)] | rw [cpt_c0 (by omega) (by omega) (by omega)] | rw [cpt_d (by omega) (by omega)] | rw [cpt_e (by omega) (by omega)] | rw [cpt_f (by omega)])
    · refine lv_iload_n hx hb dX1_counterpart_10 rfl (lv_at hl 1 rfl) ?_
      refine lv_iconst (v := nI 3) hx hb dX1_counterpart_11 (by decide) ?_
      refine nv_iadd hx hb dX1_counterpart_12 ?_
      refine lv_goto (tgt := 19) hx hb dX1_counterpart_13 (by decide) ?_
      exact hret _ _ _ rfl dX1_counterpart_19 (by first | rw [cpt_a (by omega)] | rw [cpt_b (by omega) (by omega)] | rw [cpt_c1 (by omega) (by omega) (by omega)] | rw [cpt_c0 (by omega) (by omega) (by omega)] | rw [cpt_d (by omega) (by omega)] | rw [cpt_e (by omega) (by omega)] | rw [cpt_f (by omega)])
set_option maxHeartbeats 4000000 in
set_option maxRecDepth 100000 in
/-- first -/
theorem metX1_first (l : Launch) (D : va_G) (ad : Nat → Nat) (di db : ClassId) (nx mk : Nat → Nat) (n : Nat) (tk en bd fx bo sk : Nat → Nat) (k : Nat) (hk : k < 12) (htk : ∀ j, tk j ≤ 18) : xMi l yX1_first cX1_first 2 .int ({ frames := 0, cells := 0, slots := 0, locals := 0 }) D (tyX di db) (mwX ad di nx mk n tk en bd fx bo sk) [.ref (ad 0), .int (nI k)] (fun r u => r = nI (fst13 (tk k)) ∧ u = mwX ad di nx mk n tk en bd fx bo sk) := by
  refine xMi_intro (by decide) (Nat.le_of_ble_eq_true rfl) ?_
  intro p e s m args below meth c A Q hx hb hml hown hts hA hK hP hD hS hret ls hl
  have hl : lv_has ls 2 [(0, .ref (ad 0)), (1, .int (nI k))] := hl
  refine lv_aload_n hx hb dX1_first_0 rfl (lv_at hl 0 rfl) ?_
  refine gX1 hx hb hts hown hK hP 0 rfl 3 (by decide) q191 rfl dX1_first_1 ?_
  refine lv_iload_n hx hb dX1_first_4 rfl (lv_at hl 1 rfl) ?_
  refine nv_iald hx hb hK hP 3 0 rfl rfl (by omega) (by decide) dX1_first_5 ?_
  have hld := htk k
  refine lv_bipush (v := nI 13) hx hb dX1_first_6 (by decide) ?_
  refine nv_icmp_ge (tgt := 15) hx hb (by omega) (by omega) dX1_first_8 (by decide) (fun c8 => ?_) (fun c8 => ?_)
  · refine lv_bipush (v := nI 63) hx hb dX1_first_15 (by decide) ?_
    exact hret _ _ _ _ _ (mwX ad di nx mk n tk en bd fx bo sk) rfl dX1_first_17 (⟨by rw [fst13_63 (by omega)], rfl⟩) hP hD hS
  · refine lv_iconst (v := nI 0) hx hb dX1_first_11 (by decide) ?_
    refine lv_goto (tgt := 17) hx hb dX1_first_12 (by decide) ?_
    exact hret _ _ _ _ _ (mwX ad di nx mk n tk en bd fx bo sk) rfl dX1_first_17 (⟨by rw [fst13_0 (by omega)], rfl⟩) hP hD hS
set_option maxHeartbeats 4000000 in
set_option maxRecDepth 100000 in
/-- step -/
theorem metX1_step (l : Launch) (D : va_G) (ad : Nat → Nat) (di db : ClassId) (nx mk : Nat → Nat) (n : Nat) (tk en bd fx bo sk : Nat → Nat) (p0 p1 : Int32) (b : Nat) (hb2 : b < 2) (hst : ∀ j, nx j < 64) : xMi l yX1_step cX1_step 4 .boolean ({ frames := 1, cells := 0, slots := 0, locals := 21 }) D (tyX di db) (mwX ad di nx mk n tk en bd fx bo sk) [.ref (ad 0), .int p0, .int p1, .int (nI b)] (fun r u => (∃ i j, i < 6 ∧ j < 6 ∧ p0 = nI i ∧ p1 = nI j ∧ r = nI 1 ∧ u = mwX ad di (upN nx i (tog (nx i) j b)) mk n tk en bd fx bo sk) ∨ ((∀ i j, i < 6 → j < 6 → ¬ (p0 = nI i ∧ p1 = nI j)) ∧ r = nI 0 ∧ u = mwX ad di nx mk n tk en bd fx bo sk)) := by
  refine xMi_intro (by decide) (Nat.le_of_ble_eq_true rfl) ?_
  intro p e s m args below meth c A Q hx hb hml hown hts hA hK hP hD hS hret ls hl
  have hl : lv_has ls 4 [(0, .ref (ad 0)), (1, .int p0), (2, .int p1), (3, .int (nI b))] := hl
  rcases isN_cases p0 with ⟨e0, i, hi, rfl⟩ | ⟨e0, hno⟩
  · rcases isN_cases p1 with ⟨e1, j, hj, rfl⟩ | ⟨e1, hno⟩
    · rcases (show b = 0 ∨ b = 1 by omega) with rfl | rfl
      · have h64 := p2_64 hj
        have h6 := hst i
        refine lv_aload_n hx hb dX1_step_0 rfl (lv_at hl 0 rfl) ?_
        refine lv_iload_n hx hb dX1_step_1 rfl (lv_at hl 1 rfl) ?_
        refine pcall_i (As := [.int (nI i)]) (rest := []) (ci := 1) (q0 := 0) ⟨hx, hb, hml, hown, hts⟩ (metX1_isState l (ad 0) ((nI i))) (cwV 1 hts (lw_V q220 q222 qs14 q28 q223) rfl rfl rfl (by decide +kernel) ⟨Nat.le_of_ble_eq_true rfl, Nat.le_of_ble_eq_true rfl⟩) rfl rfl hK hP rfl hl.1 rfl (Nat.le_of_ble_eq_true rfl) dX1_step_2 ⟨Nat.zero_le _, Nat.zero_le _⟩ (fun r hr => ?_)
        rw [e0] at hr
        subst hr
        refine nv_if_eq (tgt := 16) hx hb (by omega) dX1_step_5 (by decide) (fun q => absurd q (by omega)) (fun c5 => ?_)
        refine lv_aload_n hx hb dX1_step_8 rfl (lv_at hl 0 rfl) ?_
        refine lv_iload_n hx hb dX1_step_9 rfl (lv_at hl 2 rfl) ?_
        refine pcall_i (As := [.int (nI j)]) (rest := []) (ci := 1) (q0 := 0) ⟨hx, hb, hml, hown, hts⟩ (metX1_isState l (ad 0) ((nI j))) (cwV 1 hts (lw_V q220 q222 qs14 q28 q223) rfl rfl rfl (by decide +kernel) ⟨Nat.le_of_ble_eq_true rfl, Nat.le_of_ble_eq_true rfl⟩) rfl rfl hK hP rfl hl.1 rfl (Nat.le_of_ble_eq_true rfl) dX1_step_10 ⟨Nat.zero_le _, Nat.zero_le _⟩ (fun r hr => ?_)
        rw [e1] at hr
        subst hr
        refine nv_if_ne (tgt := 18) hx hb (by omega) dX1_step_13 (by decide) (fun c13 => ?_) (fun q => absurd q (by omega))
        refine lv_aload_n hx hb dX1_step_18 rfl (lv_at hl 0 rfl) ?_
        refine gX1 hx hb hts hown hK hP 0 rfl 0 (by decide) q188 rfl dX1_step_19 ?_
        refine lv_iload_n hx hb dX1_step_22 rfl (lv_at hl 1 rfl) ?_
        refine lv_iload_n hx hb dX1_step_23 rfl (lv_at hl 3 rfl) ?_
        refine nv_if_eq (tgt := 40) hx hb (by omega) dX1_step_24 (by decide) (fun c24 => ?_) (fun q => absurd q (by omega))
        refine lv_aload_n hx hb dX1_step_40 rfl (lv_at hl 0 rfl) ?_
        refine gX1 hx hb hts hown hK hP 0 rfl 0 (by decide) q188 rfl dX1_step_41 ?_
        refine lv_iload_n hx hb dX1_step_44 rfl (lv_at hl 1 rfl) ?_
        refine nv_iald hx hb hK hP 1 0 rfl rfl (by omega) (by decide) dX1_step_45 ?_
        refine lv_iconst (v := nI 1) hx hb dX1_step_46 (by decide) ?_
        refine lv_iload_n hx hb dX1_step_47 rfl (lv_at hl 2 rfl) ?_
        refine nv_ishl hx hb (by omega) (p2lt (by omega)) dX1_step_48 ?_
        refine lv_iconst (v := (-1)) hx hb dX1_step_49 (by decide) ?_
        refine lv_ixor hx hb dX1_step_50 ?_
        refine nv_iandn hx hb (by omega) (by omega) dX1_step_51 ?_
        refine nv_iast hx hb hK hP hD hS 1 0 rfl rfl (by omega) (by decide) dX1_step_52 (fun H locs hP hD hS => ?_)
        have hP : va_P D vwCl (mwX ad di (upN nx i ((nx i) &&& ((1 * 2 ^ j) ^^^ 63))) mk n tk en bd fx bo sk) H := hP
        have hD : va_D A (mwX ad di (upN nx i ((nx i) &&& ((1 * 2 ^ j) ^^^ 63))) mk n tk en bd fx bo sk) := hD
        refine lv_iconst (v := nI 1) hx hb dX1_step_53 (by decide) ?_
        exact hret _ _ _ _ _ (mwX ad di (upN nx i ((nx i) &&& ((1 * 2 ^ j) ^^^ 63))) mk n tk en bd fx bo sk) rfl dX1_step_54 (Or.inl ⟨i, j, hi, hj, rfl, rfl, rfl, rfl⟩) hP hD hS
      · have h64 := p2_64 hj
        have h6 := hst i
        refine lv_aload_n hx hb dX1_step_0 rfl (lv_at hl 0 rfl) ?_
        refine lv_iload_n hx hb dX1_step_1 rfl (lv_at hl 1 rfl) ?_
        refine pcall_i (As := [.int (nI i)]) (rest := []) (ci := 1) (q0 := 0) ⟨hx, hb, hml, hown, hts⟩ (metX1_isState l (ad 0) ((nI i))) (cwV 1 hts (lw_V q220 q222 qs14 q28 q223) rfl rfl rfl (by decide +kernel) ⟨Nat.le_of_ble_eq_true rfl, Nat.le_of_ble_eq_true rfl⟩) rfl rfl hK hP rfl hl.1 rfl (Nat.le_of_ble_eq_true rfl) dX1_step_2 ⟨Nat.zero_le _, Nat.zero_le _⟩ (fun r hr => ?_)
        rw [e0] at hr
        subst hr
        refine nv_if_eq (tgt := 16) hx hb (by omega) dX1_step_5 (by decide) (fun q => absurd q (by omega)) (fun c5 => ?_)
        refine lv_aload_n hx hb dX1_step_8 rfl (lv_at hl 0 rfl) ?_
        refine lv_iload_n hx hb dX1_step_9 rfl (lv_at hl 2 rfl) ?_
        refine pcall_i (As := [.int (nI j)]) (rest := []) (ci := 1) (q0 := 0) ⟨hx, hb, hml, hown, hts⟩ (metX1_isState l (ad 0) ((nI j))) (cwV 1 hts (lw_V q220 q222 qs14 q28 q223) rfl rfl rfl (by decide +kernel) ⟨Nat.le_of_ble_eq_true rfl, Nat.le_of_ble_eq_true rfl⟩) rfl rfl hK hP rfl hl.1 rfl (Nat.le_of_ble_eq_true rfl) dX1_step_10 ⟨Nat.zero_le _, Nat.zero_le _⟩ (fun r hr => ?_)
        rw [e1] at hr
        subst hr
        refine nv_if_ne (tgt := 18) hx hb (by omega) dX1_step_13 (by decide) (fun c13 => ?_) (fun q => absurd q (by omega))
        refine lv_aload_n hx hb dX1_step_18 rfl (lv_at hl 0 rfl) ?_
        refine gX1 hx hb hts hown hK hP 0 rfl 0 (by decide) q188 rfl dX1_step_19 ?_
        refine lv_iload_n hx hb dX1_step_22 rfl (lv_at hl 1 rfl) ?_
        refine lv_iload_n hx hb dX1_step_23 rfl (lv_at hl 3 rfl) ?_
        refine nv_if_eq (tgt := 40) hx hb (by omega) dX1_step_24 (by decide) (fun q => absurd q (by omega)) (fun c24 => ?_)
        refine lv_aload_n hx hb dX1_step_27 rfl (lv_at hl 0 rfl) ?_
        refine gX1 hx hb hts hown hK hP 0 rfl 0 (by decide) q188 rfl dX1_step_28 ?_
        refine lv_iload_n hx hb dX1_step_31 rfl (lv_at hl 1 rfl) ?_
        refine nv_iald hx hb hK hP 1 0 rfl rfl (by omega) (by decide) dX1_step_32 ?_
        refine lv_iconst (v := nI 1) hx hb dX1_step_33 (by decide) ?_
        refine lv_iload_n hx hb dX1_step_34 rfl (lv_at hl 2 rfl) ?_
        refine nv_ishl hx hb (by omega) (p2lt (by omega)) dX1_step_35 ?_
        refine nv_ior hx hb dX1_step_36 ?_
        refine lv_goto (tgt := 52) hx hb dX1_step_37 (by decide) ?_
        refine nv_iast hx hb hK hP hD hS 1 0 rfl rfl (by omega) (by decide) dX1_step_52 (fun H locs hP hD hS => ?_)
        have hP : va_P D vwCl (mwX ad di (upN nx i ((nx i) ||| (1 * 2 ^ j))) mk n tk en bd fx bo sk) H := hP
        have hD : va_D A (mwX ad di (upN nx i ((nx i) ||| (1 * 2 ^ j))) mk n tk en bd fx bo sk) := hD
        refine lv_iconst (v := nI 1) hx hb dX1_step_53 (by decide) ?_
        exact hret _ _ _ _ _ (mwX ad di (upN nx i ((nx i) ||| (1 * 2 ^ j))) mk n tk en bd fx bo sk) rfl dX1_step_54 (Or.inl ⟨i, j, hi, hj, rfl, rfl, rfl, rfl⟩) hP hD hS
    · refine lv_aload_n hx hb dX1_step_0 rfl (lv_at hl 0 rfl) ?_
      refine lv_iload_n hx hb dX1_step_1 rfl (lv_at hl 1 rfl) ?_
      refine pcall_i (As := [.int (nI i)]) (rest := []) (ci := 1) (q0 := 0) ⟨hx, hb, hml, hown, hts⟩ (metX1_isState l (ad 0) ((nI i))) (cwV 1 hts (lw_V q220 q222 qs14 q28 q223) rfl rfl rfl (by decide +kernel) ⟨Nat.le_of_ble_eq_true rfl, Nat.le_of_ble_eq_true rfl⟩) rfl rfl hK hP rfl hl.1 rfl (Nat.le_of_ble_eq_true rfl) dX1_step_2 ⟨Nat.zero_le _, Nat.zero_le _⟩ (fun r hr => ?_)
      rw [e0] at hr
      subst hr
      refine nv_if_eq (tgt := 16) hx hb (by omega) dX1_step_5 (by decide) (fun q => absurd q (by omega)) (fun c5 => ?_)
      refine lv_aload_n hx hb dX1_step_8 rfl (lv_at hl 0 rfl) ?_
      refine lv_iload_n hx hb dX1_step_9 rfl (lv_at hl 2 rfl) ?_
      refine pcall_i (As := [.int p1]) (rest := []) (ci := 1) (q0 := 0) ⟨hx, hb, hml, hown, hts⟩ (metX1_isState l (ad 0) (p1)) (cwV 1 hts (lw_V q220 q222 qs14 q28 q223) rfl rfl rfl (by decide +kernel) ⟨Nat.le_of_ble_eq_true rfl, Nat.le_of_ble_eq_true rfl⟩) rfl rfl hK hP rfl hl.1 rfl (Nat.le_of_ble_eq_true rfl) dX1_step_10 ⟨Nat.zero_le _, Nat.zero_le _⟩ (fun r hr => ?_)
      rw [e1] at hr
      subst hr
      refine nv_if_ne (tgt := 18) hx hb (by omega) dX1_step_13 (by decide) (fun q => absurd q (by omega)) (fun c13 => ?_)
      refine lv_iconst (v := nI 0) hx hb dX1_step_16 (by decide) ?_
      exact hret _ _ _ _ _ (mwX ad di nx mk n tk en bd fx bo sk) rfl dX1_step_17 (Or.inr ⟨fun _ j _ hj q => hno j hj q.2, rfl, rfl⟩) hP hD hS
  · refine lv_aload_n hx hb dX1_step_0 rfl (lv_at hl 0 rfl) ?_
    refine lv_iload_n hx hb dX1_step_1 rfl (lv_at hl 1 rfl) ?_
    refine pcall_i (As := [.int p0]) (rest := []) (ci := 1) (q0 := 0) ⟨hx, hb, hml, hown, hts⟩ (metX1_isState l (ad 0) (p0)) (cwV 1 hts (lw_V q220 q222 qs14 q28 q223) rfl rfl rfl (by decide +kernel) ⟨Nat.le_of_ble_eq_true rfl, Nat.le_of_ble_eq_true rfl⟩) rfl rfl hK hP rfl hl.1 rfl (Nat.le_of_ble_eq_true rfl) dX1_step_2 ⟨Nat.zero_le _, Nat.zero_le _⟩ (fun r hr => ?_)
    rw [e0] at hr
    subst hr
    refine nv_if_eq (tgt := 16) hx hb (by omega) dX1_step_5 (by decide) (fun c5 => ?_) (fun q => absurd q (by omega))
    refine lv_iconst (v := nI 0) hx hb dX1_step_16 (by decide) ?_
    exact hret _ _ _ _ _ (mwX ad di nx mk n tk en bd fx bo sk) rfl dX1_step_17 (Or.inr ⟨fun i _ hi _ q => hno i hi q.1, rfl, rfl⟩) hP hD hS
set_option maxHeartbeats 4000000 in
set_option maxRecDepth 100000 in
/-- mark -/
theorem metX1_mark (l : Launch) (D : va_G) (ad : Nat → Nat) (di db : ClassId) (nx mk : Nat → Nat) (n : Nat) (tk en bd fx bo sk : Nat → Nat) (p0 p1 : Int32)  : xMi l yX1_mark cX1_mark 3 .boolean ({ frames := 0, cells := 0, slots := 0, locals := 0 }) D (tyX di db) (mwX ad di nx mk n tk en bd fx bo sk) [.ref (ad 0), .int p0, .int p1] (fun r u => (∃ i v, i < 3 ∧ v < 64 ∧ p0 = nI i ∧ p1 = nI v ∧ r = nI 1 ∧ u = mwX ad di nx (upN mk i v) n tk en bd fx bo sk) ∨ ((∀ i v, i < 3 → v < 64 → ¬ (p0 = nI i ∧ p1 = nI v)) ∧ r = nI 0 ∧ u = mwX ad di nx mk n tk en bd fx bo sk)) := by
  refine xMi_intro (by decide) (Nat.le_of_ble_eq_true rfl) ?_
  intro p e s m args below meth c A Q hx hb hml hown hts hA hK hP hD hS hret ls hl
  have hl : lv_has ls 3 [(0, .ref (ad 0)), (1, .int p0), (2, .int p1)] := hl
  rcases rngN p0 (N := 2) (by omega) with ⟨i, hi, rfl⟩ | hno
  · rcases rngN p1 (N := 63) (by omega) with ⟨v, hv, rfl⟩ | hno
    · refine lv_iload_n hx hb dX1_mark_0 rfl (lv_at hl 1 rfl) ?_
      refine nv_if_lt (tgt := 19) hx hb (by omega) dX1_mark_1 (by decide) ?_
      refine lv_iload_n hx hb dX1_mark_4 rfl (lv_at hl 1 rfl) ?_
      refine lv_iconst (v := nI 2) hx hb dX1_mark_5 (by decide) ?_
      refine nv_icmp_gt (tgt := 19) hx hb (by omega) (by omega) dX1_mark_6 (by decide) (fun q => absurd q (by omega)) (fun c6 => ?_)
      refine lv_iload_n hx hb dX1_mark_9 rfl (lv_at hl 2 rfl) ?_
      refine nv_if_lt (tgt := 19) hx hb (by omega) dX1_mark_10 (by decide) ?_
      refine lv_iload_n hx hb dX1_mark_13 rfl (lv_at hl 2 rfl) ?_
      refine lv_bipush (v := nI 63) hx hb dX1_mark_14 (by decide) ?_
      refine nv_icmp_le (tgt := 21) hx hb (by omega) (by omega) dX1_mark_16 (by decide) (fun c16 => ?_) (fun q => absurd q (by omega))
      refine lv_aload_n hx hb dX1_mark_21 rfl (lv_at hl 0 rfl) ?_
      refine gX1 hx hb hts hown hK hP 0 rfl 1 (by decide) q189 rfl dX1_mark_22 ?_
      refine lv_iload_n hx hb dX1_mark_25 rfl (lv_at hl 1 rfl) ?_
      refine lv_iload_n hx hb dX1_mark_26 rfl (lv_at hl 2 rfl) ?_
      refine nv_iast hx hb hK hP hD hS 2 0 rfl rfl (by omega) (by decide) dX1_mark_27 (fun H locs hP hD hS => ?_)
      have hP : va_P D vwCl (mwX ad di nx (upN mk i v) n tk en bd fx bo sk) H := hP
      have hD : va_D A (mwX ad di nx (upN mk i v) n tk en bd fx bo sk) := hD
      refine lv_iconst (v := nI 1) hx hb dX1_mark_28 (by decide) ?_
      exact hret _ _ _ _ _ (mwX ad di nx (upN mk i v) n tk en bd fx bo sk) rfl dX1_mark_29 (Or.inl ⟨i, v, by omega, by omega, rfl, rfl, rfl, rfl⟩) hP hD hS
    · refine lv_iload_n hx hb dX1_mark_0 rfl (lv_at hl 1 rfl) ?_
      refine nv_if_lt (tgt := 19) hx hb (by omega) dX1_mark_1 (by decide) ?_
      refine lv_iload_n hx hb dX1_mark_4 rfl (lv_at hl 1 rfl) ?_
      refine lv_iconst (v := nI 2) hx hb dX1_mark_5 (by decide) ?_
      refine nv_icmp_gt (tgt := 19) hx hb (by omega) (by omega) dX1_mark_6 (by decide) (fun q => absurd q (by omega)) (fun c6 => ?_)
      refine lv_iload_n hx hb dX1_mark_9 rfl (lv_at hl 2 rfl) ?_
      refine lv_if_lt (tgt := 19) hx hb dX1_mark_10 (by decide) (fun c10 => ?_) (fun c10 => ?_)
      · refine lv_iconst (v := nI 0) hx hb dX1_mark_19 (by decide) ?_
        exact hret _ _ _ _ _ (mwX ad di nx mk n tk en bd fx bo sk) rfl dX1_mark_20 (Or.inr ⟨fun _ v _ hv q => hno v (by omega) q.2, rfl, rfl⟩) hP hD hS
      · refine lv_iload_n hx hb dX1_mark_13 rfl (lv_at hl 2 rfl) ?_
        refine lv_bipush (v := nI 63) hx hb dX1_mark_14 (by decide) ?_
        refine lv_icmp_le (tgt := 21) hx hb dX1_mark_16 (by decide) (fun c16 => ?_) (fun c16 => ?_)
        · obtain ⟨v, hv, e⟩ := rng_le (by omega) c10 c16
          exact absurd e (hno v hv)
        · refine lv_iconst (v := nI 0) hx hb dX1_mark_19 (by decide) ?_
          exact hret _ _ _ _ _ (mwX ad di nx mk n tk en bd fx bo sk) rfl dX1_mark_20 (Or.inr ⟨fun _ v _ hv q => hno v (by omega) q.2, rfl, rfl⟩) hP hD hS
  · refine lv_iload_n hx hb dX1_mark_0 rfl (lv_at hl 1 rfl) ?_
    refine lv_if_lt (tgt := 19) hx hb dX1_mark_1 (by decide) (fun c1 => ?_) (fun c1 => ?_)
    · refine lv_iconst (v := nI 0) hx hb dX1_mark_19 (by decide) ?_
      exact hret _ _ _ _ _ (mwX ad di nx mk n tk en bd fx bo sk) rfl dX1_mark_20 (Or.inr ⟨fun i _ hi _ q => hno i (by omega) q.1, rfl, rfl⟩) hP hD hS
    · refine lv_iload_n hx hb dX1_mark_4 rfl (lv_at hl 1 rfl) ?_
      refine lv_iconst (v := nI 2) hx hb dX1_mark_5 (by decide) ?_
      refine lv_icmp_gt (tgt := 19) hx hb dX1_mark_6 (by decide) (fun c6 => ?_) (fun c6 => ?_)
      · refine lv_iconst (v := nI 0) hx hb dX1_mark_19 (by decide) ?_
        exact hret _ _ _ _ _ (mwX ad di nx mk n tk en bd fx bo sk) rfl dX1_mark_20 (Or.inr ⟨fun i _ hi _ q => hno i (by omega) q.1, rfl, rfl⟩) hP hD hS
      · obtain ⟨i, hi, e⟩ := rng_gt (by omega) c1 c6
        exact absurd e (hno i hi)
set_option maxHeartbeats 4000000 in
set_option maxRecDepth 100000 in
/-- token -/
theorem metX1_token (l : Launch) (D : va_G) (ad : Nat → Nat) (di db : ClassId) (nx mk : Nat → Nat) (n : Nat) (tk en bd fx bo sk : Nat → Nat) (p0 : Int32) (hn : n ≤ 12) : xMi l yX1_token cX1_token 2 .int ({ frames := 0, cells := 0, slots := 0, locals := 0 }) D (tyX di db) (mwX ad di nx mk n tk en bd fx bo sk) [.ref (ad 0), .int p0] (fun r u => (n = 12 ∧ r = (-2) ∧ u = mwX ad di nx mk n tk en bd fx bo sk) ∨ (n < 12 ∧ (∀ t, t ≤ 18 → p0 ≠ nI t) ∧ r = nP 0 ∧ u = mwX ad di nx mk n tk en bd fx bo sk) ∨ (∃ t, n < 12 ∧ t ≤ 18 ∧ p0 = nI t ∧ r = nI (n + 1) ∧ u = mwX ad di nx mk (n + 1) (upN tk n t) en bd fx bo sk)) := by
  refine xMi_intro (by decide) (Nat.le_of_ble_eq_true rfl) ?_
  intro p e s m args below meth c A Q hx hb hml hown hts hA hK hP hD hS hret ls hl
  have hl : lv_has ls 2 [(0, .ref (ad 0)), (1, .int p0)] := hl
  refine lv_aload_n hx hb dX1_token_0 rfl (lv_at hl 0 rfl) ?_
  refine gX1 hx hb hts hown hK hP 0 rfl 2 (by decide) q190 rfl dX1_token_1 ?_
  refine lv_bipush (v := nI 12) hx hb dX1_token_4 (by decide) ?_
  refine nv_icmp_ne (tgt := 12) hx hb (by omega) (by omega) dX1_token_6 (by decide) (fun c6 => ?_) (fun c6 => ?_)
  · have hlt : n < 12 := by omega
    rcases rngN p0 (N := 18) (by omega) with ⟨t, ht, rfl⟩ | hno
    · refine lv_iload_n hx hb dX1_token_12 rfl (lv_at hl 1 rfl) ?_
      refine nv_if_lt (tgt := 22) hx hb (by omega) dX1_token_13 (by decide) ?_
      refine lv_iload_n hx hb dX1_token_16 rfl (lv_at hl 1 rfl) ?_
      refine lv_bipush (v := nI 18) hx hb dX1_token_17 (by decide) ?_
      refine nv_icmp_le (tgt := 24) hx hb (by omega) (by omega) dX1_token_19 (by decide) (fun c19 => ?_) (fun q => absurd q (by omega))
      refine lv_aload_n hx hb dX1_token_24 rfl (lv_at hl 0 rfl) ?_
      refine gX1 hx hb hts hown hK hP 0 rfl 3 (by decide) q191 rfl dX1_token_25 ?_
      refine lv_aload_n hx hb dX1_token_28 rfl (lv_at hl 0 rfl) ?_
      refine gX1 hx hb hts hown hK hP 0 rfl 2 (by decide) q190 rfl dX1_token_29 ?_
      refine lv_iload_n hx hb dX1_token_32 rfl (lv_at hl 1 rfl) ?_
      refine nv_iast hx hb hK hP hD hS 3 0 rfl rfl (by omega) (by decide) dX1_token_33 (fun H locs hP hD hS => ?_)
      have hP : va_P D vwCl (mwX ad di nx mk n (upN tk n t) en bd fx bo sk) H := hP
      have hD : va_D A (mwX ad di nx mk n (upN tk n t) en bd fx bo sk) := hD
      refine lv_aload_n hx hb dX1_token_34 rfl (lv_at hl 0 rfl) ?_
      refine lv_dup hx hb dX1_token_35 rfl ?_
      refine gX1 hx hb hts hown hK hP 0 rfl 2 (by decide) q190 rfl dX1_token_36 ?_
      refine lv_iconst (v := nI 1) hx hb dX1_token_39 (by decide) ?_
      refine nv_iadd hx hb dX1_token_40 ?_
      refine pX1 hx hb hts hown hK hP hD hS 0 rfl 2 (by decide) q190 rfl rfl rfl (Nat.le_of_ble_eq_true rfl) dX1_token_41 (fun H locs hP hD hS => ?_)
      have hP : va_P D vwCl (mwX ad di nx mk (n + 1) (upN tk n t) en bd fx bo sk) H := hP
      have hD : va_D A (mwX ad di nx mk (n + 1) (upN tk n t) en bd fx bo sk) := hD
      refine lv_aload_n hx hb dX1_token_44 rfl (lv_at hl 0 rfl) ?_
      refine gX1 hx hb hts hown hK hP 0 rfl 2 (by decide) q190 rfl dX1_token_45 ?_
      exact hret _ _ _ _ _ (mwX ad di nx mk (n + 1) (upN tk n t) en bd fx bo sk) rfl dX1_token_48 (Or.inr (Or.inr ⟨t, by omega, ht, rfl, rfl, rfl⟩)) hP hD hS
    · refine lv_iload_n hx hb dX1_token_12 rfl (lv_at hl 1 rfl) ?_
      refine lv_if_lt (tgt := 22) hx hb dX1_token_13 (by decide) (fun c13 => ?_) (fun c13 => ?_)
      · refine lv_iconst (v := nP 0) hx hb dX1_token_22 (by decide) ?_
        exact hret _ _ _ _ _ (mwX ad di nx mk n tk en bd fx bo sk) rfl dX1_token_23 (Or.inr (Or.inl ⟨by omega, hno, rfl, rfl⟩)) hP hD hS
      · refine lv_iload_n hx hb dX1_token_16 rfl (lv_at hl 1 rfl) ?_
        refine lv_bipush (v := nI 18) hx hb dX1_token_17 (by decide) ?_
        refine lv_icmp_le (tgt := 24) hx hb dX1_token_19 (by decide) (fun c19 => ?_) (fun c19 => ?_)
        · obtain ⟨t, ht, e⟩ := rng_le (by omega) c13 c19
          exact absurd e (hno t ht)
        · refine lv_iconst (v := nP 0) hx hb dX1_token_22 (by decide) ?_
          exact hret _ _ _ _ _ (mwX ad di nx mk n tk en bd fx bo sk) rfl dX1_token_23 (Or.inr (Or.inl ⟨by omega, hno, rfl, rfl⟩)) hP hD hS
  · refine lv_bipush (v := (-2)) hx hb dX1_token_9 (by decide) ?_
    exact hret _ _ _ _ _ (mwX ad di nx mk n tk en bd fx bo sk) rfl dX1_token_11 (Or.inl ⟨by omega, rfl, rfl⟩) hP hD hS
set_option maxHeartbeats 4000000 in
set_option maxRecDepth 100000 in
/-- wipe -/
theorem metX1_wipe (l : Launch) (D : va_G) (ad : Nat → Nat) (di db : ClassId) (nx mk : Nat → Nat) (n : Nat) (tk en bd fx bo sk : Nat → Nat)   : xMi l yX1_wipe cX1_wipe 2 .int ({ frames := 0, cells := 0, slots := 0, locals := 0 }) D (tyX di db) (mwX ad di nx mk n tk en bd fx bo sk) [.ref (ad 0)] (fun r u => r = nI n ∧ u = mwX ad di nx mk 0 tk en bd fx bo sk) := by
  refine xMi_intro (by decide) (Nat.le_of_ble_eq_true rfl) ?_
  intro p e s m args below meth c A Q hx hb hml hown hts hA hK hP hD hS hret ls hl
  have hl : lv_has ls 2 [(0, .ref (ad 0))] := hl
  refine lv_aload_n hx hb dX1_wipe_0 rfl (lv_at hl 0 rfl) ?_
  refine gX1 hx hb hts hown hK hP 0 rfl 2 (by decide) q190 rfl dX1_wipe_1 ?_
  refine lv_istore_n (lv' := [(1, .int (nI n)), (0, .ref (ad 0))]) hx hb dX1_wipe_4 rfl hl (by decide) rfl (fun ls hl => ?_)
  refine lv_aload_n hx hb dX1_wipe_5 rfl (lv_at hl 1 rfl) ?_
  refine lv_iconst (v := nI 0) hx hb dX1_wipe_6 (by decide) ?_
  refine pX1 hx hb hts hown hK hP hD hS 0 rfl 2 (by decide) q190 rfl rfl rfl (Nat.le_of_ble_eq_true rfl) dX1_wipe_7 (fun H locs hP hD hS => ?_)
  have hP : va_P D vwCl (mwX ad di nx mk 0 tk en bd fx bo sk) H := hP
  have hD : va_D A (mwX ad di nx mk 0 tk en bd fx bo sk) := hD
  refine lv_iload_n hx hb dX1_wipe_10 rfl (lv_at hl 0 rfl) ?_
  exact hret _ _ _ _ _ (mwX ad di nx mk 0 tk en bd fx bo sk) rfl dX1_wipe_11 (⟨rfl, rfl⟩) hP hD hS
set_option maxHeartbeats 4000000 in
set_option maxRecDepth 100000 in
/-- steps -/
theorem metX1_steps (l : Launch) (D : va_G) (ad : Nat → Nat) (di db : ClassId) (nx mk : Nat → Nat) (n : Nat) (tk en bd fx bo sk : Nat → Nat) (p0 : Int32)  : xMi l yX1_steps cX1_steps 2 .int ({ frames := 1, cells := 0, slots := 0, locals := 21 }) D (tyX di db) (mwX ad di nx mk n tk en bd fx bo sk) [.ref (ad 0), .int p0] (fun r u => ((∃ i, i < 6 ∧ p0 = nI i ∧ r = nI (nx i)) ∨ ((∀ i, i < 6 → p0 ≠ nI i) ∧ r = nP 0)) ∧ u = mwX ad di nx mk n tk en bd fx bo sk) := by
  refine xMi_intro (by decide) (Nat.le_of_ble_eq_true rfl) ?_
  intro p e s m args below meth c A Q hx hb hml hown hts hA hK hP hD hS hret ls hl
  have hl : lv_has ls 2 [(0, .ref (ad 0)), (1, .int p0)] := hl
  rcases isN_cases p0 with ⟨e0, i, hi, rfl⟩ | ⟨e0, hno⟩
  · refine lv_aload_n hx hb dX1_steps_0 rfl (lv_at hl 0 rfl) ?_
    refine lv_iload_n hx hb dX1_steps_1 rfl (lv_at hl 1 rfl) ?_
    refine pcall_i (As := [.int (nI i)]) (rest := []) (ci := 1) (q0 := 0) ⟨hx, hb, hml, hown, hts⟩ (metX1_isState l (ad 0) ((nI i))) (cwV 1 hts (lw_V q220 q222 qs14 q28 q223) rfl rfl rfl (by decide +kernel) ⟨Nat.le_of_ble_eq_true rfl, Nat.le_of_ble_eq_true rfl⟩) rfl rfl hK hP rfl hl.1 rfl (Nat.le_of_ble_eq_true rfl) dX1_steps_2 ⟨Nat.zero_le _, Nat.zero_le _⟩ (fun r hr => ?_)
    rw [e0] at hr
    subst hr
    refine nv_if_eq (tgt := 17) hx hb (by omega) dX1_steps_5 (by decide) (fun q => absurd q (by omega)) (fun c5 => ?_)
    refine lv_aload_n hx hb dX1_steps_8 rfl (lv_at hl 0 rfl) ?_
    refine gX1 hx hb hts hown hK hP 0 rfl 0 (by decide) q188 rfl dX1_steps_9 ?_
    refine lv_iload_n hx hb dX1_steps_12 rfl (lv_at hl 1 rfl) ?_
    refine nv_iald hx hb hK hP 1 0 rfl rfl (by omega) (by decide) dX1_steps_13 ?_
    refine lv_goto (tgt := 18) hx hb dX1_steps_14 (by decide) ?_
    exact hret _ _ _ _ _ (mwX ad di nx mk n tk en bd fx bo sk) rfl dX1_steps_18 (⟨Or.inl ⟨i, hi, rfl, rfl⟩, rfl⟩) hP hD hS
  · refine lv_aload_n hx hb dX1_steps_0 rfl (lv_at hl 0 rfl) ?_
    refine lv_iload_n hx hb dX1_steps_1 rfl (lv_at hl 1 rfl) ?_
    refine pcall_i (As := [.int p0]) (rest := []) (ci := 1) (q0 := 0) ⟨hx, hb, hml, hown, hts⟩ (metX1_isState l (ad 0) (p0)) (cwV 1 hts (lw_V q220 q222 qs14 q28 q223) rfl rfl rfl (by decide +kernel) ⟨Nat.le_of_ble_eq_true rfl, Nat.le_of_ble_eq_true rfl⟩) rfl rfl hK hP rfl hl.1 rfl (Nat.le_of_ble_eq_true rfl) dX1_steps_2 ⟨Nat.zero_le _, Nat.zero_le _⟩ (fun r hr => ?_)
    rw [e0] at hr
    subst hr
    refine nv_if_eq (tgt := 17) hx hb (by omega) dX1_steps_5 (by decide) (fun c5 => ?_) (fun q => absurd q (by omega))
    refine lv_iconst (v := nP 0) hx hb dX1_steps_17 (by decide) ?_
    exact hret _ _ _ _ _ (mwX ad di nx mk n tk en bd fx bo sk) rfl dX1_steps_18 (⟨Or.inr ⟨hno, rfl⟩, rfl⟩) hP hD hS
set_option maxHeartbeats 4000000 in
set_option maxRecDepth 100000 in
/-- turn -/
theorem metX1_turn (l : Launch) (D : va_G) (ad : Nat → Nat) (di db : ClassId) (nx mk : Nat → Nat) (n : Nat) (tk en bd fx bo sk : Nat → Nat)  (hn : n ≤ 12) (htk : ∀ j, tk j ≤ 18) : xMi l yX1_turn cX1_turn 4 .int ({ frames := 1, cells := 0, slots := 0, locals := 21 }) D (tyX di db) (mwX ad di nx mk n tk en bd fx bo sk) [.ref (ad 0)] (fun r u => r = nI (mj_cnt (fun j => decide (tk j < 16)) n) ∧ u = mwX ad di nx mk n (cptA tk n) en bd fx bo sk) := by
  refine xMi_intro (by decide) (Nat.le_of_ble_eq_true rfl) ?_
  intro p e s m args below meth c A Q hx hb hml hown hts hA hK hP hD hS hret ls hl
  have hl : lv_has ls 4 [(0, .ref (ad 0))] := hl
  refine lv_iconst (v := nI 0) hx hb dX1_turn_0 (by decide) ?_
  refine lv_istore_n (lv' := [(1, .int (nI 0)), (0, .ref (ad 0))]) hx hb dX1_turn_1 rfl hl (by decide) rfl (fun ls hl => ?_)
  refine lv_iconst (v := nI 0) hx hb dX1_turn_2 (by decide) ?_
  refine lv_istore_n (lv' := [(2, .int (nI 0)), (1, .int (nI 0)), (0, .ref (ad 0))]) hx hb dX1_turn_3 rfl hl (by decide) rfl (fun ls hl => ?_)
  have L : ∀ (d k : Nat) , n < k + d → k ≤ n → ∀ (H : Heap) (locs : List Loc), va_P D vwCl (mwX ad di nx mk n (cptA tk k) en bd fx bo sk) H → va_D A (mwX ad di nx mk n (cptA tk k) en bd fx bo sk) → va_S A s.heap H locs → ∀ ls : Array Slot, lv_has ls 4 [(0, .ref (ad 0)), (1, .int (nI (mj_cnt (fun j => decide (tk j < 16)) k))), (2, .int (nI k))] → W p l e ({ frames := 1, cells := 0, slots := 0, locals := 21 }) s m args below meth c H locs 0 0 Q (F0 m 4 ls []) := by
    intro d
    induction d with
    | zero =>
      intro k  h1_ h2_
      exfalso; omega
    | succ d ihL =>
      intro k  h1_ h2_  H locs hP hD hS ls hl
      have hcb := mj_cnt_bound (fun j => decide (tk j < 16)) k
      have h18 := htk k
      refine lv_iload_n hx hb dX1_turn_4 rfl (lv_at hl 2 rfl) ?_
      refine lv_aload_n hx hb dX1_turn_5 rfl (lv_at hl 0 rfl) ?_
      refine gX1 hx hb hts hown hK hP 0 rfl 2 (by decide) q190 rfl dX1_turn_6 ?_
      refine nv_icmp_ge (tgt := 49) hx hb (by omega) (by omega) dX1_turn_9 (by decide) (fun c9 => ?_) (fun c9 => ?_)
      · refine lv_iload_n hx hb dX1_turn_49 rfl (lv_at hl 1 rfl) ?_
        have hkn : k = n := by omega
        exact hret _ _ _ _ _ (mwX ad di nx mk n (cptA tk k) en bd fx bo sk) rfl dX1_turn_50 (⟨by rw [hkn], by rw [hkn]⟩) hP hD hS
      · refine lv_aload_n hx hb dX1_turn_12 rfl (lv_at hl 0 rfl) ?_
        refine lv_aload_n hx hb dX1_turn_13 rfl (lv_at hl 0 rfl) ?_
        refine gX1 hx hb hts hown hK hP 0 rfl 3 (by decide) q191 rfl dX1_turn_14 ?_
        refine lv_iload_n hx hb dX1_turn_17 rfl (lv_at hl 2 rfl) ?_
        refine nv_iald hx hb hK hP 3 0 rfl rfl (by omega) (by decide) dX1_turn_18 ?_
        rw [cptA_at]
        refine pcall_i (As := [.int (nI (tk k))]) (rest := []) (ci := 1) (q0 := 0) ⟨hx, hb, hml, hown, hts⟩ (metX1_counterpart l (ad 0) (tk k) (by omega)) (cwV 1 hts (lw_V q240 q242 qs15 q28 q243) rfl rfl rfl (by decide +kernel) ⟨Nat.le_of_ble_eq_true rfl, Nat.le_of_ble_eq_true rfl⟩) rfl rfl hK hP rfl hl.1 rfl (Nat.le_of_ble_eq_true rfl) dX1_turn_19 ⟨Nat.zero_le _, Nat.zero_le _⟩ (fun r hr => ?_)
        subst hr
        have hcl := cpt_le (tk k) (by omega)
        refine lv_istore_n (lv' := [(3, .int (nI (cpt (tk k)))), (0, .ref (ad 0)), (1, .int (nI (mj_cnt (fun j => decide (tk j < 16)) k))), (2, .int (nI k))]) hx hb dX1_turn_22 rfl hl (by decide) rfl (fun ls hl => ?_)
        refine lv_iload_n hx hb dX1_turn_23 rfl (lv_at hl 0 rfl) ?_
        refine lv_aload_n hx hb dX1_turn_24 rfl (lv_at hl 1 rfl) ?_
        refine gX1 hx hb hts hown hK hP 0 rfl 3 (by decide) q191 rfl dX1_turn_25 ?_
        refine lv_iload_n hx hb dX1_turn_28 rfl (lv_at hl 3 rfl) ?_
        refine nv_iald hx hb hK hP 3 0 rfl rfl (by omega) (by decide) dX1_turn_29 ?_
        rw [cptA_at]
        refine nv_icmp_eq (tgt := 36) hx hb (by omega) (by omega) dX1_turn_30 (by decide) (fun c30 => ?_) (fun c30 => ?_)
        · rw [← mj_cnt_f (p := fun j => decide (tk j < 16)) (k := k) (by simp; exact cpt_16 c30)] at hl
          refine lv_aload_n hx hb dX1_turn_36 rfl (lv_at hl 1 rfl) ?_
          refine gX1 hx hb hts hown hK hP 0 rfl 3 (by decide) q191 rfl dX1_turn_37 ?_
          refine lv_iload_n hx hb dX1_turn_40 rfl (lv_at hl 3 rfl) ?_
          refine lv_iload_n hx hb dX1_turn_41 rfl (lv_at hl 0 rfl) ?_
          refine nv_iast hx hb hK hP hD hS 3 0 rfl rfl (by omega) (by decide) dX1_turn_42 (fun H locs hP hD hS => ?_)
          have hP : va_P D vwCl (mwX ad di nx mk n (upN (cptA tk k) k (cpt (tk k))) en bd fx bo sk) H := hP
          have hD : va_D A (mwX ad di nx mk n (upN (cptA tk k) k (cpt (tk k))) en bd fx bo sk) := hD
          rw [cptA_step] at hP hD
          refine nv_iinc (k := 3) (lv' := [(2, .int (nI (k + 1))), (3, .int (nI (cpt (tk k)))), (0, .ref (ad 0)), (1, .int (nI (mj_cnt (fun j => decide (tk j < 16)) (k + 1))))]) (v := (nI (k + 1))) hx hb dX1_turn_43 hl rfl (nI_inc _) (by decide) rfl (fun ls hl => ?_)
          refine lv_goto (tgt := 4) hx hb dX1_turn_46 (by decide) ?_
          exact ihL (k + 1) (by omega) (by omega) _ _ hP hD hS ls (lv_sub hl [2, 3, 0] rfl)
        · refine nv_iinc (k := 2) (lv' := [(1, .int (nI ((mj_cnt (fun j => decide (tk j < 16)) k) + 1))), (3, .int (nI (cpt (tk k)))), (0, .ref (ad 0)), (2, .int (nI k))]) (v := (nI ((mj_cnt (fun j => decide (tk j < 16)) k) + 1))) hx hb dX1_turn_33 hl rfl (nI_inc _) (by decide) rfl (fun ls hl => ?_)
          rw [← mj_cnt_t (p := fun j => decide (tk j < 16)) (k := k) (by simp; exact cpt_15 c30)] at hl
          refine lv_aload_n hx hb dX1_turn_36 rfl (lv_at hl 2 rfl) ?_
          refine gX1 hx hb hts hown hK hP 0 rfl 3 (by decide) q191 rfl dX1_turn_37 ?_
          refine lv_iload_n hx hb dX1_turn_40 rfl (lv_at hl 3 rfl) ?_
          refine lv_iload_n hx hb dX1_turn_41 rfl (lv_at hl 1 rfl) ?_
          refine nv_iast hx hb hK hP hD hS 3 0 rfl rfl (by omega) (by decide) dX1_turn_42 (fun H locs hP hD hS => ?_)
          have hP : va_P D vwCl (mwX ad di nx mk n (upN (cptA tk k) k (cpt (tk k))) en bd fx bo sk) H := hP
          have hD : va_D A (mwX ad di nx mk n (upN (cptA tk k) k (cpt (tk k))) en bd fx bo sk) := hD
          rw [cptA_step] at hP hD
          refine nv_iinc (k := 3) (lv' := [(2, .int (nI (k + 1))), (1, .int (nI (mj_cnt (fun j => decide (tk j < 16)) (k + 1)))), (3, .int (nI (cpt (tk k)))), (0, .ref (ad 0))]) (v := (nI (k + 1))) hx hb dX1_turn_43 hl rfl (nI_inc _) (by decide) rfl (fun ls hl => ?_)
          refine lv_goto (tgt := 4) hx hb dX1_turn_46 (by decide) ?_
          exact ihL (k + 1) (by omega) (by omega) _ _ hP hD hS ls (lv_sub hl [3, 1, 0] rfl)
  rw [← cptA_0 tk] at hP hD
  exact L (n + 1) 0 (by omega) (by omega) _ _ hP hD hS ls (lv_sub hl [2, 1, 0] rfl)
end
section
/-! ModalJudgeModel: findEnds, binderOf, sound, depth -/
theorem bo_skip {tk en : Nat → Nat} {j k : Nat} (h : ∀ c, j + 1 ≤ c → c < k → mtc (tk c) (tk k) → en c ≤ k) (hj : mtc (tk j) (tk k) → en j ≤ k) : ∀ c, j ≤ c → c < k → mtc (tk c) (tk k) → en c ≤ k := by
  intro c h1 h2 h3
  by_cases e : c = j
  · subst e; exact hj h3
  · exact h c (by omega) h2 h3
theorem bA_otherN {tk te bd1 : Nat → Nat} {k : Nat} (h : ∀ j, j < k → 16 ≤ tk j → 0 < bd1 j ∧ IsB tk te (bd1 j - 1) j) (hk : tk k < 16) : ∀ j, j < k + 1 → 16 ≤ tk j → 0 < bd1 j ∧ IsB tk te (bd1 j - 1) j := by
  intro j hj h16
  by_cases e : j = k
  · subst e; omega
  · exact h j (by omega) h16
/-- the binders at or around the binder k, among the first b -/
def mj_ao (tk E : Nat → Nat) (k b : Nat) : Nat := mj_cnt (fun b => mj_bd (tk b) && (mj_bd (tk k) && decide (k < E b))) b
theorem mj_ao_le (tk E : Nat → Nat) (k b : Nat) : mj_ao tk E k b ≤ b := mj_cnt_bound _ b
theorem ao_1 {tk E : Nat → Nat} {k b : Nat} (hb : 10 ≤ tk b ∧ tk b < 16) (hk : 10 ≤ tk k ∧ tk k < 16) (h : k < E b) : mj_ao tk E k b + 1 = mj_ao tk E k (b + 1) := (mj_cnt_t (p := fun b => mj_bd (tk b) && (mj_bd (tk k) && decide (k < E b))) (by simp only [Bool.and_eq_true, decide_eq_true_eq]; exact ⟨mj_bd_iff.mpr hb, mj_bd_iff.mpr hk, h⟩)).symm
theorem ao_0 {tk E : Nat → Nat} {k b : Nat} (h : ¬ (10 ≤ tk b ∧ tk b < 16) ∨ ¬ (10 ≤ tk k ∧ tk k < 16) ∨ E b ≤ k) : mj_ao tk E k b = mj_ao tk E k (b + 1) := (mj_cnt_f (p := fun b => mj_bd (tk b) && (mj_bd (tk k) && decide (k < E b))) (by
  rw [Bool.eq_false_iff]
  intro q
  simp only [Bool.and_eq_true, decide_eq_true_eq, mj_bd_iff] at q
  unfold mj_bnd at q
  omega)).symm
theorem mj_ao_all {tk : Nat → Nat} {n : Nat} {E : Nat → Nat} (h : mj_EndOK tk n E) {k : Nat} (hk : k < n) : mj_ao tk E k (k + 1) = if mj_bd (tk k) = true then mj_dep tk E k + 1 else 0 := by
  by_cases c : mj_bd (tk k) = true
  · rw [if_pos c, ← ao_1 (mj_bd_iff.mp c) (mj_bd_iff.mp c) (mj_gt h hk)]
    congr 1
    exact mj_cnt_congr k (fun j _ => by simp [c])
  · rw [if_neg c]
    have : ∀ b, mj_ao tk E k b = 0 := by
      intro b
      induction b with
      | zero => rfl
      | succ b ih => rw [← ao_0 (Or.inr (Or.inl (fun q => c (mj_bd_iff.mpr q)))), ih]
    exact this _
theorem dm_le {tk E : Nat → Nat} {k x : Nat} (hc : x = if mj_bd (tk k) = true then mj_dep tk E k + 1 else 0) (h : x ≤ mj_deep tk E k) : mj_deep tk E (k + 1) = mj_deep tk E k := by
  by_cases c : mj_bd (tk k) = true
  · rw [if_pos c] at hc
    exact (deep_b0 (mj_bd_iff.mp c) (by omega)).symm
  · exact (deep_n (fun q => c (mj_bd_iff.mpr q))).symm
theorem dm_gt {tk E : Nat → Nat} {k x : Nat} (hc : x = if mj_bd (tk k) = true then mj_dep tk E k + 1 else 0) (h : mj_deep tk E k < x) : mj_deep tk E (k + 1) = x := by
  by_cases c : mj_bd (tk k) = true
  · rw [if_pos c] at hc
    rw [hc]
    exact (deep_b1 (mj_bd_iff.mp c) (by omega)).symm
  · rw [if_neg c] at hc; omega
set_option maxHeartbeats 4000000 in
set_option maxRecDepth 100000 in
/-- findEnds -/
theorem metX1_findEnds (l : Launch) (D : va_G) (ad : Nat → Nat) (di db : ClassId) (nx mk : Nat → Nat) (n : Nat) (tk en bd fx bo sk : Nat → Nat)  (hn : n ≤ 12) (htk : ∀ j, tk j ≤ 18) (hen : ∀ j, en j < 128) : xMi l yX1_findEnds cX1_findEnds 4 .boolean ({ frames := 1, cells := 0, slots := 0, locals := 21 }) D (tyX di db) (mwX ad di nx mk n tk en bd fx bo sk) [.ref (ad 0)] (fun r u => ∃ en1, u = mwX ad di nx mk n tk en1 bd fx bo sk ∧ (∀ j, en1 j < 128) ∧ ((r = nI 1 ∧ 0 < n ∧ mj_EndOK tk n en1 ∧ en1 0 = n) ∨ (r = nI 0 ∧ ¬ Snd tk n))) := by
  refine xMi_intro (by decide) (Nat.le_of_ble_eq_true rfl) ?_
  intro p e s m args below meth c A Q hx hb hml hown hts hA hK hP hD hS hret ls hl
  have hl : lv_has ls 4 [(0, .ref (ad 0))] := hl
  refine lv_aload_n hx hb dX1_findEnds_0 rfl (lv_at hl 0 rfl) ?_
  refine gX1 hx hb hts hown hK hP 0 rfl 2 (by decide) q190 rfl dX1_findEnds_1 ?_
  refine lv_iconst (v := nI 1) hx hb dX1_findEnds_4 (by decide) ?_
  refine nv_isub1 hx hb dX1_findEnds_5 ?_
  refine lv_istore_n (lv' := [(1, .int (nP n)), (0, .ref (ad 0))]) hx hb dX1_findEnds_6 rfl hl (by decide) rfl (fun ls hl => ?_)
  have L : ∀ (j : Nat) (en1 : Nat → Nat), j ≤ n → (∀ i, j ≤ i → i < n → mj_EndAt tk n en1 i) → (∀ i, en1 i < 128) → ∀ (H : Heap) (locs : List Loc), va_P D vwCl (mwX ad di nx mk n tk en1 bd fx bo sk) H → va_D A (mwX ad di nx mk n tk en1 bd fx bo sk) → va_S A s.heap H locs → ∀ ls : Array Slot, lv_has ls 4 [(0, .ref (ad 0)), (1, .int (nP j))] → W p l e ({ frames := 1, cells := 0, slots := 0, locals := 21 }) s m args below meth c H locs 0 0 Q (F0 m 7 ls []) := by
    intro j
    induction j with
    | zero =>
      intro en1 hj I1 I3 H locs hP hD hS ls hl
      have hE : mj_EndOK tk n en1 := fun i hi => I1 i (Nat.zero_le i) hi
      refine lv_iload_n hx hb dX1_findEnds_7 rfl (lv_at hl 1 rfl) ?_
      refine nv_if_ltP (tgt := 67) hx hb dX1_findEnds_8 (by decide) ?_
      refine lv_aload_n hx hb dX1_findEnds_67 rfl (lv_at hl 0 rfl) ?_
      refine gX1 hx hb hts hown hK hP 0 rfl 2 (by decide) q190 rfl dX1_findEnds_68 ?_
      refine nv_if_le (tgt := 91) hx hb (by omega) dX1_findEnds_71 (by decide) (fun c71 => ?_) (fun c71 => ?_)
      · refine lv_iconst (v := nI 0) hx hb dX1_findEnds_91 (by decide) ?_
        exact hret _ _ _ _ _ (mwX ad di nx mk n tk en1 bd fx bo sk) rfl dX1_findEnds_92 (⟨en1, rfl, I3, Or.inr ⟨rfl, by rw [c71]; exact no_empty⟩⟩) hP hD hS
      · refine lv_aload_n hx hb dX1_findEnds_74 rfl (lv_at hl 0 rfl) ?_
        refine gX1 hx hb hts hown hK hP 0 rfl 4 (by decide) q192 rfl dX1_findEnds_75 ?_
        refine lv_iconst (v := nI 0) hx hb dX1_findEnds_78 (by decide) ?_
        refine nv_iald hx hb hK hP 4 0 rfl rfl (by omega) (by decide) dX1_findEnds_79 ?_
        have hld79 := I3 0
        refine lv_aload_n hx hb dX1_findEnds_80 rfl (lv_at hl 0 rfl) ?_
        refine gX1 hx hb hts hown hK hP 0 rfl 2 (by decide) q190 rfl dX1_findEnds_81 ?_
        refine nv_icmp_ne (tgt := 91) hx hb (by omega) (by omega) dX1_findEnds_84 (by decide) (fun c84 => ?_) (fun c84 => ?_)
        · refine lv_iconst (v := nI 0) hx hb dX1_findEnds_91 (by decide) ?_
          exact hret _ _ _ _ _ (mwX ad di nx mk n tk en1 bd fx bo sk) rfl dX1_findEnds_92 (⟨en1, rfl, I3, Or.inr ⟨rfl, no_whole hE c84⟩⟩) hP hD hS
        · refine lv_iconst (v := nI 1) hx hb dX1_findEnds_87 (by decide) ?_
          refine lv_goto (tgt := 92) hx hb dX1_findEnds_88 (by decide) ?_
          exact hret _ _ _ _ _ (mwX ad di nx mk n tk en1 bd fx bo sk) rfl dX1_findEnds_92 (⟨en1, rfl, I3, Or.inl ⟨rfl, c71, hE, c84⟩⟩) hP hD hS
    | succ j ih =>
      intro en1 hj I1 I3 H locs hP hD hS ls hl
      rw [nP_succ] at hl
      have h18j := htk j
      rcases (show mj_ar (tk j) = 0 ∨ mj_ar (tk j) = 1 ∨ mj_ar (tk j) = 2 by have := mj_ar_le (tk j); omega) with hwa | hwa | hwa
      · refine lv_iload_n hx hb dX1_findEnds_7 rfl (lv_at hl 1 rfl) ?_
        refine nv_if_lt (tgt := 67) hx hb (by omega) dX1_findEnds_8 (by decide) ?_
        refine lv_iload_n hx hb dX1_findEnds_11 rfl (lv_at hl 1 rfl) ?_
        refine lv_iconst (v := nI 1) hx hb dX1_findEnds_12 (by decide) ?_
        refine nv_iadd hx hb dX1_findEnds_13 ?_
        refine lv_istore_n (lv' := [(2, .int (nI (j + 1))), (0, .ref (ad 0)), (1, .int (nI j))]) hx hb dX1_findEnds_14 rfl hl (by decide) rfl (fun ls hl => ?_)
        refine lv_iconst (v := nI 0) hx hb dX1_findEnds_15 (by decide) ?_
        refine lv_istore_n (lv' := [(3, .int (nI 0)), (2, .int (nI (j + 1))), (0, .ref (ad 0)), (1, .int (nI j))]) hx hb dX1_findEnds_16 rfl hl (by decide) rfl (fun ls hl => ?_)
        refine lv_iload_n hx hb dX1_findEnds_17 rfl (lv_at hl 0 rfl) ?_
        refine lv_aload_n hx hb dX1_findEnds_18 rfl (lv_at hl 2 rfl) ?_
        refine lv_aload_n hx hb dX1_findEnds_19 rfl (lv_at hl 2 rfl) ?_
        refine gX1 hx hb hts hown hK hP 0 rfl 3 (by decide) q191 rfl dX1_findEnds_20 ?_
        refine lv_iload_n hx hb dX1_findEnds_23 rfl (lv_at hl 3 rfl) ?_
        refine nv_iald hx hb hK hP 3 0 rfl rfl (by omega) (by decide) dX1_findEnds_24 ?_
        refine pcall_i (As := [.int (nI (tk j))]) (rest := [.int (nI 0)]) (ci := 1) (q0 := 0) ⟨hx, hb, hml, hown, hts⟩ (metX1_arity l (ad 0) (tk j) (by omega)) (cwV 1 hts (lw_V q252 q254 qs17 q28 q255) rfl rfl rfl (by decide +kernel) ⟨Nat.le_of_ble_eq_true rfl, Nat.le_of_ble_eq_true rfl⟩) rfl rfl hK hP rfl hl.1 rfl (Nat.le_of_ble_eq_true rfl) dX1_findEnds_25 ⟨Nat.zero_le _, Nat.zero_le _⟩ (fun r hr => ?_)
        rw [hwa] at hr
        subst hr
        refine nv_icmp_ge (tgt := 54) hx hb (by omega) (by omega) dX1_findEnds_28 (by decide) (fun c28 => ?_) (fun q => absurd q (by omega))
        refine lv_aload_n hx hb dX1_findEnds_54 rfl (lv_at hl 2 rfl) ?_
        refine gX1 hx hb hts hown hK hP 0 rfl 4 (by decide) q192 rfl dX1_findEnds_55 ?_
        refine lv_iload_n hx hb dX1_findEnds_58 rfl (lv_at hl 3 rfl) ?_
        refine lv_iload_n hx hb dX1_findEnds_59 rfl (lv_at hl 1 rfl) ?_
        refine nv_iast hx hb hK hP hD hS 4 0 rfl rfl (by omega) (by decide) dX1_findEnds_60 (fun H locs hP hD hS => ?_)
        have hP : va_P D vwCl (mwX ad di nx mk n tk (upN en1 j (j + 1)) bd fx bo sk) H := hP
        have hD : va_D A (mwX ad di nx mk n tk (upN en1 j (j + 1)) bd fx bo sk) := hD
        refine nv_iinc (k := 3) (lv' := [(1, .int (nP j)), (3, .int (nI 0)), (2, .int (nI (j + 1))), (0, .ref (ad 0))]) (v := (nP j)) hx hb dX1_findEnds_61 hl rfl (nI_dec _) (by decide) rfl (fun ls hl => ?_)
        refine lv_goto (tgt := 7) hx hb dX1_findEnds_64 (by decide) ?_
        exact ih (upN en1 j (j + 1)) (by omega) (end_step (by omega) I1 ⟨fun _ => rfl, fun h => by omega, fun h => by omega⟩) (upN_lt I3 (by omega)) _ _ hP hD hS ls (lv_sub hl [3, 0] rfl)
      · refine lv_iload_n hx hb dX1_findEnds_7 rfl (lv_at hl 1 rfl) ?_
        refine nv_if_lt (tgt := 67) hx hb (by omega) dX1_findEnds_8 (by decide) ?_
        refine lv_iload_n hx hb dX1_findEnds_11 rfl (lv_at hl 1 rfl) ?_
        refine lv_iconst (v := nI 1) hx hb dX1_findEnds_12 (by decide) ?_
        refine nv_iadd hx hb dX1_findEnds_13 ?_
        refine lv_istore_n (lv' := [(2, .int (nI (j + 1))), (0, .ref (ad 0)), (1, .int (nI j))]) hx hb dX1_findEnds_14 rfl hl (by decide) rfl (fun ls hl => ?_)
        refine lv_iconst (v := nI 0) hx hb dX1_findEnds_15 (by decide) ?_
        refine lv_istore_n (lv' := [(3, .int (nI 0)), (2, .int (nI (j + 1))), (0, .ref (ad 0)), (1, .int (nI j))]) hx hb dX1_findEnds_16 rfl hl (by decide) rfl (fun ls hl => ?_)
        refine lv_iload_n hx hb dX1_findEnds_17 rfl (lv_at hl 0 rfl) ?_
        refine lv_aload_n hx hb dX1_findEnds_18 rfl (lv_at hl 2 rfl) ?_
        refine lv_aload_n hx hb dX1_findEnds_19 rfl (lv_at hl 2 rfl) ?_
        refine gX1 hx hb hts hown hK hP 0 rfl 3 (by decide) q191 rfl dX1_findEnds_20 ?_
        refine lv_iload_n hx hb dX1_findEnds_23 rfl (lv_at hl 3 rfl) ?_
        refine nv_iald hx hb hK hP 3 0 rfl rfl (by omega) (by decide) dX1_findEnds_24 ?_
        refine pcall_i (As := [.int (nI (tk j))]) (rest := [.int (nI 0)]) (ci := 1) (q0 := 0) ⟨hx, hb, hml, hown, hts⟩ (metX1_arity l (ad 0) (tk j) (by omega)) (cwV 1 hts (lw_V q252 q254 qs17 q28 q255) rfl rfl rfl (by decide +kernel) ⟨Nat.le_of_ble_eq_true rfl, Nat.le_of_ble_eq_true rfl⟩) rfl rfl hK hP rfl hl.1 rfl (Nat.le_of_ble_eq_true rfl) dX1_findEnds_25 ⟨Nat.zero_le _, Nat.zero_le _⟩ (fun r hr => ?_)
        rw [hwa] at hr
        subst hr
        refine nv_icmp_ge (tgt := 54) hx hb (by omega) (by omega) dX1_findEnds_28 (by decide) (fun q => absurd q (by omega)) (fun c28 => ?_)
        refine lv_iload_n hx hb dX1_findEnds_31 rfl (lv_at hl 1 rfl) ?_
        refine lv_aload_n hx hb dX1_findEnds_32 rfl (lv_at hl 2 rfl) ?_
        refine gX1 hx hb hts hown hK hP 0 rfl 2 (by decide) q190 rfl dX1_findEnds_33 ?_
        refine nv_icmp_lt (tgt := 41) hx hb (by omega) (by omega) dX1_findEnds_36 (by decide) (fun c36 => ?_) (fun c36 => ?_)
        · refine lv_aload_n hx hb dX1_findEnds_41 rfl (lv_at hl 2 rfl) ?_
          refine gX1 hx hb hts hown hK hP 0 rfl 4 (by decide) q192 rfl dX1_findEnds_42 ?_
          refine lv_iload_n hx hb dX1_findEnds_45 rfl (lv_at hl 1 rfl) ?_
          refine nv_iald hx hb hK hP 4 0 rfl rfl (by omega) (by decide) dX1_findEnds_46 ?_
          have hld46 := I3 (j + 1)
          refine lv_istore_n (lv' := [(2, .int (nI (en1 (j + 1)))), (3, .int (nI 0)), (0, .ref (ad 0)), (1, .int (nI j))]) hx hb dX1_findEnds_47 rfl hl (by decide) rfl (fun ls hl => ?_)
          refine nv_iinc (k := 1) (lv' := [(3, .int (nI 1)), (2, .int (nI (en1 (j + 1)))), (0, .ref (ad 0)), (1, .int (nI j))]) (v := (nI 1)) hx hb dX1_findEnds_48 hl rfl (nI_inc _) (by decide) rfl (fun ls hl => ?_)
          refine lv_goto (tgt := 17) hx hb dX1_findEnds_51 (by decide) ?_
          refine lv_iload_n hx hb dX1_findEnds_17 rfl (lv_at hl 0 rfl) ?_
          refine lv_aload_n hx hb dX1_findEnds_18 rfl (lv_at hl 2 rfl) ?_
          refine lv_aload_n hx hb dX1_findEnds_19 rfl (lv_at hl 2 rfl) ?_
          refine gX1 hx hb hts hown hK hP 0 rfl 3 (by decide) q191 rfl dX1_findEnds_20 ?_
          refine lv_iload_n hx hb dX1_findEnds_23 rfl (lv_at hl 3 rfl) ?_
          refine nv_iald hx hb hK hP 3 0 rfl rfl (by omega) (by decide) dX1_findEnds_24 ?_
          refine pcall_i (As := [.int (nI (tk j))]) (rest := [.int (nI 1)]) (ci := 1) (q0 := 0) ⟨hx, hb, hml, hown, hts⟩ (metX1_arity l (ad 0) (tk j) (by omega)) (cwV 1 hts (lw_V q252 q254 qs17 q28 q255) rfl rfl rfl (by decide +kernel) ⟨Nat.le_of_ble_eq_true rfl, Nat.le_of_ble_eq_true rfl⟩) rfl rfl hK hP rfl hl.1 rfl (Nat.le_of_ble_eq_true rfl) dX1_findEnds_25 ⟨Nat.zero_le _, Nat.zero_le _⟩ (fun r hr => ?_)
          rw [hwa] at hr
          subst hr
          refine nv_icmp_ge (tgt := 54) hx hb (by omega) (by omega) dX1_findEnds_28 (by decide) (fun c28 => ?_) (fun q => absurd q (by omega))
          refine lv_aload_n hx hb dX1_findEnds_54 rfl (lv_at hl 2 rfl) ?_
          refine gX1 hx hb hts hown hK hP 0 rfl 4 (by decide) q192 rfl dX1_findEnds_55 ?_
          refine lv_iload_n hx hb dX1_findEnds_58 rfl (lv_at hl 3 rfl) ?_
          refine lv_iload_n hx hb dX1_findEnds_59 rfl (lv_at hl 1 rfl) ?_
          refine nv_iast hx hb hK hP hD hS 4 0 rfl rfl (by omega) (by decide) dX1_findEnds_60 (fun H locs hP hD hS => ?_)
          have hP : va_P D vwCl (mwX ad di nx mk n tk (upN en1 j (en1 (j + 1))) bd fx bo sk) H := hP
          have hD : va_D A (mwX ad di nx mk n tk (upN en1 j (en1 (j + 1))) bd fx bo sk) := hD
          refine nv_iinc (k := 3) (lv' := [(1, .int (nP j)), (3, .int (nI 1)), (2, .int (nI (en1 (j + 1)))), (0, .ref (ad 0))]) (v := (nP j)) hx hb dX1_findEnds_61 hl rfl (nI_dec _) (by decide) rfl (fun ls hl => ?_)
          refine lv_goto (tgt := 7) hx hb dX1_findEnds_64 (by decide) ?_
          exact ih (upN en1 j (en1 (j + 1))) (by omega) (end_step (by omega) I1 ⟨fun h => by omega, fun _ => ⟨by omega, rfl⟩, fun h => by omega⟩) (upN_lt I3 (by omega)) _ _ hP hD hS ls (lv_sub hl [3, 0] rfl)
        · refine lv_iconst (v := nI 0) hx hb dX1_findEnds_39 (by decide) ?_
          exact hret _ _ _ _ _ (mwX ad di nx mk n tk en1 bd fx bo sk) rfl dX1_findEnds_40 (⟨en1, rfl, I3, Or.inr ⟨rfl, no_end1 (show j < n by omega) (by omega) c36⟩⟩) hP hD hS
      · refine lv_iload_n hx hb dX1_findEnds_7 rfl (lv_at hl 1 rfl) ?_
        refine nv_if_lt (tgt := 67) hx hb (by omega) dX1_findEnds_8 (by decide) ?_
        refine lv_iload_n hx hb dX1_findEnds_11 rfl (lv_at hl 1 rfl) ?_
        refine lv_iconst (v := nI 1) hx hb dX1_findEnds_12 (by decide) ?_
        refine nv_iadd hx hb dX1_findEnds_13 ?_
        refine lv_istore_n (lv' := [(2, .int (nI (j + 1))), (0, .ref (ad 0)), (1, .int (nI j))]) hx hb dX1_findEnds_14 rfl hl (by decide) rfl (fun ls hl => ?_)
        refine lv_iconst (v := nI 0) hx hb dX1_findEnds_15 (by decide) ?_
        refine lv_istore_n (lv' := [(3, .int (nI 0)), (2, .int (nI (j + 1))), (0, .ref (ad 0)), (1, .int (nI j))]) hx hb dX1_findEnds_16 rfl hl (by decide) rfl (fun ls hl => ?_)
        refine lv_iload_n hx hb dX1_findEnds_17 rfl (lv_at hl 0 rfl) ?_
        refine lv_aload_n hx hb dX1_findEnds_18 rfl (lv_at hl 2 rfl) ?_
        refine lv_aload_n hx hb dX1_findEnds_19 rfl (lv_at hl 2 rfl) ?_
        refine gX1 hx hb hts hown hK hP 0 rfl 3 (by decide) q191 rfl dX1_findEnds_20 ?_
        refine lv_iload_n hx hb dX1_findEnds_23 rfl (lv_at hl 3 rfl) ?_
        refine nv_iald hx hb hK hP 3 0 rfl rfl (by omega) (by decide) dX1_findEnds_24 ?_
        refine pcall_i (As := [.int (nI (tk j))]) (rest := [.int (nI 0)]) (ci := 1) (q0 := 0) ⟨hx, hb, hml, hown, hts⟩ (metX1_arity l (ad 0) (tk j) (by omega)) (cwV 1 hts (lw_V q252 q254 qs17 q28 q255) rfl rfl rfl (by decide +kernel) ⟨Nat.le_of_ble_eq_true rfl, Nat.le_of_ble_eq_true rfl⟩) rfl rfl hK hP rfl hl.1 rfl (Nat.le_of_ble_eq_true rfl) dX1_findEnds_25 ⟨Nat.zero_le _, Nat.zero_le _⟩ (fun r hr => ?_)
        rw [hwa] at hr
        subst hr
        refine nv_icmp_ge (tgt := 54) hx hb (by omega) (by omega) dX1_findEnds_28 (by decide) (fun q => absurd q (by omega)) (fun c28 => ?_)
        refine lv_iload_n hx hb dX1_findEnds_31 rfl (lv_at hl 1 rfl) ?_
        refine lv_aload_n hx hb dX1_findEnds_32 rfl (lv_at hl 2 rfl) ?_
        refine gX1 hx hb hts hown hK hP 0 rfl 2 (by decide) q190 rfl dX1_findEnds_33 ?_
        refine nv_icmp_lt (tgt := 41) hx hb (by omega) (by omega) dX1_findEnds_36 (by decide) (fun c36 => ?_) (fun c36 => ?_)
        · refine lv_aload_n hx hb dX1_findEnds_41 rfl (lv_at hl 2 rfl) ?_
          refine gX1 hx hb hts hown hK hP 0 rfl 4 (by decide) q192 rfl dX1_findEnds_42 ?_
          refine lv_iload_n hx hb dX1_findEnds_45 rfl (lv_at hl 1 rfl) ?_
          refine nv_iald hx hb hK hP 4 0 rfl rfl (by omega) (by decide) dX1_findEnds_46 ?_
          have hld46 := I3 (j + 1)
          refine lv_istore_n (lv' := [(2, .int (nI (en1 (j + 1)))), (3, .int (nI 0)), (0, .ref (ad 0)), (1, .int (nI j))]) hx hb dX1_findEnds_47 rfl hl (by decide) rfl (fun ls hl => ?_)
          refine nv_iinc (k := 1) (lv' := [(3, .int (nI 1)), (2, .int (nI (en1 (j + 1)))), (0, .ref (ad 0)), (1, .int (nI j))]) (v := (nI 1)) hx hb dX1_findEnds_48 hl rfl (nI_inc _) (by decide) rfl (fun ls hl => ?_)
          refine lv_goto (tgt := 17) hx hb dX1_findEnds_51 (by decide) ?_
          refine lv_iload_n hx hb dX1_findEnds_17 rfl (lv_at hl 0 rfl) ?_
          refine lv_aload_n hx hb dX1_findEnds_18 rfl (lv_at hl 2 rfl) ?_
          refine lv_aload_n hx hb dX1_findEnds_19 rfl (lv_at hl 2 rfl) ?_
          refine gX1 hx hb hts hown hK hP 0 rfl 3 (by decide) q191 rfl dX1_findEnds_20 ?_
          refine lv_iload_n hx hb dX1_findEnds_23 rfl (lv_at hl 3 rfl) ?_
          refine nv_iald hx hb hK hP 3 0 rfl rfl (by omega) (by decide) dX1_findEnds_24 ?_
          refine pcall_i (As := [.int (nI (tk j))]) (rest := [.int (nI 1)]) (ci := 1) (q0 := 0) ⟨hx, hb, hml, hown, hts⟩ (metX1_arity l (ad 0) (tk j) (by omega)) (cwV 1 hts (lw_V q252 q254 qs17 q28 q255) rfl rfl rfl (by decide +kernel) ⟨Nat.le_of_ble_eq_true rfl, Nat.le_of_ble_eq_true rfl⟩) rfl rfl hK hP rfl hl.1 rfl (Nat.le_of_ble_eq_true rfl) dX1_findEnds_25 ⟨Nat.zero_le _, Nat.zero_le _⟩ (fun r hr => ?_)
          rw [hwa] at hr
          subst hr
          refine nv_icmp_ge (tgt := 54) hx hb (by omega) (by omega) dX1_findEnds_28 (by decide) (fun q => absurd q (by omega)) (fun c28 => ?_)
          refine lv_iload_n hx hb dX1_findEnds_31 rfl (lv_at hl 1 rfl) ?_
          refine lv_aload_n hx hb dX1_findEnds_32 rfl (lv_at hl 2 rfl) ?_
          refine gX1 hx hb hts hown hK hP 0 rfl 2 (by decide) q190 rfl dX1_findEnds_33 ?_
          refine nv_icmp_lt (tgt := 41) hx hb (by omega) (by omega) dX1_findEnds_36 (by decide) (fun c36 => ?_) (fun c36 => ?_)
          · refine lv_aload_n hx hb dX1_findEnds_41 rfl (lv_at hl 2 rfl) ?_
            refine gX1 hx hb hts hown hK hP 0 rfl 4 (by decide) q192 rfl dX1_findEnds_42 ?_
            refine lv_iload_n hx hb dX1_findEnds_45 rfl (lv_at hl 1 rfl) ?_
            refine nv_iald hx hb hK hP 4 0 rfl rfl (by omega) (by decide) dX1_findEnds_46 ?_
            have hld46 := I3 (en1 (j + 1))
            refine lv_istore_n (lv' := [(2, .int (nI (en1 (en1 (j + 1))))), (3, .int (nI 1)), (0, .ref (ad 0)), (1, .int (nI j))]) hx hb dX1_findEnds_47 rfl hl (by decide) rfl (fun ls hl => ?_)
            refine nv_iinc (k := 1) (lv' := [(3, .int (nI 2)), (2, .int (nI (en1 (en1 (j + 1))))), (0, .ref (ad 0)), (1, .int (nI j))]) (v := (nI 2)) hx hb dX1_findEnds_48 hl rfl (nI_inc _) (by decide) rfl (fun ls hl => ?_)
            refine lv_goto (tgt := 17) hx hb dX1_findEnds_51 (by decide) ?_
            refine lv_iload_n hx hb dX1_findEnds_17 rfl (lv_at hl 0 rfl) ?_
            refine lv_aload_n hx hb dX1_findEnds_18 rfl (lv_at hl 2 rfl) ?_
            refine lv_aload_n hx hb dX1_findEnds_19 rfl (lv_at hl 2 rfl) ?_
            refine gX1 hx hb hts hown hK hP 0 rfl 3 (by decide) q191 rfl dX1_findEnds_20 ?_
            refine lv_iload_n hx hb dX1_findEnds_23 rfl (lv_at hl 3 rfl) ?_
            refine nv_iald hx hb hK hP 3 0 rfl rfl (by omega) (by decide) dX1_findEnds_24 ?_
            refine pcall_i (As := [.int (nI (tk j))]) (rest := [.int (nI 2)]) (ci := 1) (q0 := 0) ⟨hx, hb, hml, hown, hts⟩ (metX1_arity l (ad 0) (tk j) (by omega)) (cwV 1 hts (lw_V q252 q254 qs17 q28 q255) rfl rfl rfl (by decide +kernel) ⟨Nat.le_of_ble_eq_true rfl, Nat.le_of_ble_eq_true rfl⟩) rfl rfl hK hP rfl hl.1 rfl (Nat.le_of_ble_eq_true rfl) dX1_findEnds_25 ⟨Nat.zero_le _, Nat.zero_le _⟩ (fun r hr => ?_)
            rw [hwa] at hr
            subst hr
            refine nv_icmp_ge (tgt := 54) hx hb (by omega) (by omega) dX1_findEnds_28 (by decide) (fun c28 => ?_) (fun q => absurd q (by omega))
            refine lv_aload_n hx hb dX1_findEnds_54 rfl (lv_at hl 2 rfl) ?_
            refine gX1 hx hb hts hown hK hP 0 rfl 4 (by decide) q192 rfl dX1_findEnds_55 ?_
            refine lv_iload_n hx hb dX1_findEnds_58 rfl (lv_at hl 3 rfl) ?_
            refine lv_iload_n hx hb dX1_findEnds_59 rfl (lv_at hl 1 rfl) ?_
            refine nv_iast hx hb hK hP hD hS 4 0 rfl rfl (by omega) (by decide) dX1_findEnds_60 (fun H locs hP hD hS => ?_)
            have hP : va_P D vwCl (mwX ad di nx mk n tk (upN en1 j (en1 (en1 (j + 1)))) bd fx bo sk) H := hP
            have hD : va_D A (mwX ad di nx mk n tk (upN en1 j (en1 (en1 (j + 1)))) bd fx bo sk) := hD
            refine nv_iinc (k := 3) (lv' := [(1, .int (nP j)), (3, .int (nI 2)), (2, .int (nI (en1 (en1 (j + 1))))), (0, .ref (ad 0))]) (v := (nP j)) hx hb dX1_findEnds_61 hl rfl (nI_dec _) (by decide) rfl (fun ls hl => ?_)
            refine lv_goto (tgt := 7) hx hb dX1_findEnds_64 (by decide) ?_
            exact ih (upN en1 j (en1 (en1 (j + 1)))) (by omega) (end_step (by omega) I1 ⟨fun h => by omega, fun h => by omega, fun _ => ⟨by omega, by omega, rfl⟩⟩) (upN_lt I3 (by omega)) _ _ hP hD hS ls (lv_sub hl [3, 0] rfl)
          · refine lv_iconst (v := nI 0) hx hb dX1_findEnds_39 (by decide) ?_
            exact hret _ _ _ _ _ (mwX ad di nx mk n tk en1 bd fx bo sk) rfl dX1_findEnds_40 (⟨en1, rfl, I3, Or.inr ⟨rfl, no_end2 (show j < n by omega) I1 hwa c36⟩⟩) hP hD hS
        · refine lv_iconst (v := nI 0) hx hb dX1_findEnds_39 (by decide) ?_
          exact hret _ _ _ _ _ (mwX ad di nx mk n tk en1 bd fx bo sk) rfl dX1_findEnds_40 (⟨en1, rfl, I3, Or.inr ⟨rfl, no_end1 (show j < n by omega) (by omega) c36⟩⟩) hP hD hS
  exact L n en (Nat.le_refl n) (fun i h1 h2 => by omega) hen _ _ hP hD hS ls (lv_sub hl [1, 0] rfl)
set_option maxHeartbeats 4000000 in
set_option maxRecDepth 100000 in
/-- binderOf -/
theorem metX1_binderOf (l : Launch) (D : va_G) (ad : Nat → Nat) (di db : ClassId) (nx mk : Nat → Nat) (n : Nat) (tk en bd fx bo sk : Nat → Nat) (k : Nat) (hk : k < 12) (h16 : 16 ≤ tk k) (htk : ∀ j, tk j ≤ 18) (hen : ∀ j, en j < 128) : xMi l yX1_binderOf cX1_binderOf 3 .int ({ frames := 1, cells := 0, slots := 0, locals := 21 }) D (tyX di db) (mwX ad di nx mk n tk en bd fx bo sk) [.ref (ad 0), .int (nI k)] (fun r u => ∃ v, v ≤ k ∧ r = nP v ∧ u = mwX ad di nx mk n tk en bd fx bo sk ∧ ((v = 0 ∧ ∀ b, b < k → mtc (tk b) (tk k) → en b ≤ k) ∨ (0 < v ∧ IsB tk en (v - 1) k))) := by
  refine xMi_intro (by decide) (Nat.le_of_ble_eq_true rfl) ?_
  intro p e s m args below meth c A Q hx hb hml hown hts hA hK hP hD hS hret ls hl
  have hl : lv_has ls 3 [(0, .ref (ad 0)), (1, .int (nI k))] := hl
  have h18k := htk k
  refine lv_iload_n hx hb dX1_binderOf_0 rfl (lv_at hl 1 rfl) ?_
  refine lv_iconst (v := nI 1) hx hb dX1_binderOf_1 (by decide) ?_
  refine nv_isub1 hx hb dX1_binderOf_2 ?_
  refine lv_istore_n (lv' := [(2, .int (nP k)), (0, .ref (ad 0)), (1, .int (nI k))]) hx hb dX1_binderOf_3 rfl hl (by decide) rfl (fun ls hl => ?_)
  have L : ∀ (j : Nat), j ≤ k → (∀ c, j ≤ c → c < k → mtc (tk c) (tk k) → en c ≤ k) → ∀ (H : Heap) (locs : List Loc), va_P D vwCl (mwX ad di nx mk n tk en bd fx bo sk) H → va_D A (mwX ad di nx mk n tk en bd fx bo sk) → va_S A s.heap H locs → ∀ ls : Array Slot, lv_has ls 3 [(0, .ref (ad 0)), (1, .int (nI k)), (2, .int (nP j))] → W p l e ({ frames := 1, cells := 0, slots := 0, locals := 21 }) s m args below meth c H locs 0 0 Q (F0 m 4 ls []) := by
    intro j
    induction j with
    | zero =>
      intro hj I1 H locs hP hD hS ls hl
      refine lv_iload_n hx hb dX1_binderOf_4 rfl (lv_at hl 2 rfl) ?_
      refine nv_if_ltP (tgt := 62) hx hb dX1_binderOf_5 (by decide) ?_
      refine lv_iconst (v := nP 0) hx hb dX1_binderOf_62 (by decide) ?_
      exact hret _ _ _ _ _ (mwX ad di nx mk n tk en bd fx bo sk) rfl dX1_binderOf_63 (⟨0, Nat.zero_le _, rfl, rfl, Or.inl ⟨rfl, fun b hb => I1 b (Nat.zero_le b) hb⟩⟩) hP hD hS
    | succ j ih =>
      intro hj I1 H locs hP hD hS ls hl
      rw [nP_succ] at hl
      refine lv_iload_n hx hb dX1_binderOf_4 rfl (lv_at hl 2 rfl) ?_
      refine nv_if_lt (tgt := 62) hx hb (by omega) dX1_binderOf_5 (by decide) ?_
      refine lv_aload_n hx hb dX1_binderOf_8 rfl (lv_at hl 0 rfl) ?_
      refine lv_aload_n hx hb dX1_binderOf_9 rfl (lv_at hl 0 rfl) ?_
      refine gX1 hx hb hts hown hK hP 0 rfl 3 (by decide) q191 rfl dX1_binderOf_10 ?_
      refine lv_iload_n hx hb dX1_binderOf_13 rfl (lv_at hl 2 rfl) ?_
      refine nv_iald hx hb hK hP 3 0 rfl rfl (by omega) (by decide) dX1_binderOf_14 ?_
      have hld14 := htk j
      refine pcall_i (As := [.int (nI (tk j))]) (rest := []) (ci := 1) (q0 := 0) ⟨hx, hb, hml, hown, hts⟩ (metX1_binds l (ad 0) (tk j) (by omega)) (cwV 1 hts (lw_V q256 q258 qs18 q28 q259) rfl rfl rfl (by decide +kernel) ⟨Nat.le_of_ble_eq_true rfl, Nat.le_of_ble_eq_true rfl⟩) rfl rfl hK hP rfl hl.1 rfl (Nat.le_of_ble_eq_true rfl) dX1_binderOf_15 ⟨Nat.zero_le _, Nat.zero_le _⟩ (fun r hr => ?_)
      subst hr
      have hbl := bi_le (tk j)
      refine nv_if_eq (tgt := 56) hx hb (by omega) dX1_binderOf_18 (by decide) (fun c18 => ?_) (fun c18 => ?_)
      · try have hnb := bi_zero c18
        refine nv_iinc (k := 2) (lv' := [(2, .int (nP j)), (0, .ref (ad 0)), (1, .int (nI k))]) (v := (nP j)) hx hb dX1_binderOf_56 hl rfl (nI_dec _) (by decide) rfl (fun ls hl => ?_)
        refine lv_goto (tgt := 4) hx hb dX1_binderOf_59 (by decide) ?_
        exact ih (by omega) (bo_skip I1 (fun q => by unfold mtc at q; omega)) _ _ hP hD hS ls (lv_sub hl [1, 2, 0] rfl)
      · have hbb := bi_pos c18
        refine lv_aload_n hx hb dX1_binderOf_21 rfl (lv_at hl 0 rfl) ?_
        refine gX1 hx hb hts hown hK hP 0 rfl 3 (by decide) q191 rfl dX1_binderOf_22 ?_
        refine lv_iload_n hx hb dX1_binderOf_25 rfl (lv_at hl 2 rfl) ?_
        refine nv_iald hx hb hK hP 3 0 rfl rfl (by omega) (by decide) dX1_binderOf_26 ?_
        have hld26 := htk j
        refine lv_bipush (v := nI 10) hx hb dX1_binderOf_27 (by decide) ?_
        refine nv_isub hx hb (by omega) dX1_binderOf_29 ?_
        refine lv_iconst (v := nI 3) hx hb dX1_binderOf_30 (by decide) ?_
        refine nv_irem hx hb (by omega) (by omega) (by omega) dX1_binderOf_31 ?_
        refine lv_aload_n hx hb dX1_binderOf_32 rfl (lv_at hl 0 rfl) ?_
        refine gX1 hx hb hts hown hK hP 0 rfl 3 (by decide) q191 rfl dX1_binderOf_33 ?_
        refine lv_iload_n hx hb dX1_binderOf_36 rfl (lv_at hl 1 rfl) ?_
        refine nv_iald hx hb hK hP 3 0 rfl rfl (by omega) (by decide) dX1_binderOf_37 ?_
        have hld37 := htk k
        refine lv_bipush (v := nI 16) hx hb dX1_binderOf_38 (by decide) ?_
        refine nv_isub hx hb (by omega) dX1_binderOf_40 ?_
        refine nv_icmp_ne (tgt := 56) hx hb (by omega) (by omega) dX1_binderOf_41 (by decide) (fun c41 => ?_) (fun c41 => ?_)
        · try have hnb := bi_zero c18
          refine nv_iinc (k := 2) (lv' := [(2, .int (nP j)), (0, .ref (ad 0)), (1, .int (nI k))]) (v := (nP j)) hx hb dX1_binderOf_56 hl rfl (nI_dec _) (by decide) rfl (fun ls hl => ?_)
          refine lv_goto (tgt := 4) hx hb dX1_binderOf_59 (by decide) ?_
          exact ih (by omega) (bo_skip I1 (fun q => by unfold mtc at q; omega)) _ _ hP hD hS ls (lv_sub hl [1, 2, 0] rfl)
        · refine lv_iload_n hx hb dX1_binderOf_44 rfl (lv_at hl 1 rfl) ?_
          refine lv_aload_n hx hb dX1_binderOf_45 rfl (lv_at hl 0 rfl) ?_
          refine gX1 hx hb hts hown hK hP 0 rfl 4 (by decide) q192 rfl dX1_binderOf_46 ?_
          refine lv_iload_n hx hb dX1_binderOf_49 rfl (lv_at hl 2 rfl) ?_
          refine nv_iald hx hb hK hP 4 0 rfl rfl (by omega) (by decide) dX1_binderOf_50 ?_
          have hld50 := hen j
          refine nv_icmp_ge (tgt := 56) hx hb (by omega) (by omega) dX1_binderOf_51 (by decide) (fun c51 => ?_) (fun c51 => ?_)
          · try have hnb := bi_zero c18
            refine nv_iinc (k := 2) (lv' := [(2, .int (nP j)), (0, .ref (ad 0)), (1, .int (nI k))]) (v := (nP j)) hx hb dX1_binderOf_56 hl rfl (nI_dec _) (by decide) rfl (fun ls hl => ?_)
            refine lv_goto (tgt := 4) hx hb dX1_binderOf_59 (by decide) ?_
            exact ih (by omega) (bo_skip I1 (fun q => by unfold mtc at q; omega)) _ _ hP hD hS ls (lv_sub hl [1, 2, 0] rfl)
          · refine lv_iload_n hx hb dX1_binderOf_54 rfl (lv_at hl 2 rfl) ?_
            exact hret _ _ _ _ _ (mwX ad di nx mk n tk en bd fx bo sk) rfl dX1_binderOf_55 (⟨j + 1, hj, (nP_succ j).symm, rfl, Or.inr ⟨by omega, ⟨by omega, by unfold mtc; rw [show j + 1 - 1 = j by omega]; omega, c51, fun c hc => I1 c (by omega)⟩⟩⟩) hP hD hS
  exact L k (Nat.le_refl k) (fun c h1 h2 => by omega) _ _ hP hD hS ls (lv_sub hl [1, 2, 0] rfl)
set_option maxHeartbeats 4000000 in
set_option maxRecDepth 100000 in
/-- sound -/
theorem metX1_sound (l : Launch) (D : va_G) (ad : Nat → Nat) (di db : ClassId) (nx mk : Nat → Nat) (n : Nat) (tk en bd fx bo sk : Nat → Nat)  (hn : n ≤ 12) (htk : ∀ j, tk j ≤ 18) (hen : ∀ j, en j < 128) : xMi l yX1_sound cX1_sound 3 .boolean ({ frames := 2, cells := 0, slots := 0, locals := 44 }) D (tyX di db) (mwX ad di nx mk n tk en bd fx bo sk) [.ref (ad 0)] (fun r u => ∃ en1 bd1, u = mwX ad di nx mk n tk en1 bd1 fx bo sk ∧ (∀ j, en1 j < 128) ∧ ((r = nI 1 ∧ Str tk n en1 (fun k => bd1 k - 1) ∧ ∀ k, k < n → 16 ≤ tk k → 0 < bd1 k) ∨ (r = nI 0 ∧ ¬ Snd tk n))) := by
  refine xMi_intro (by decide) (Nat.le_of_ble_eq_true rfl) ?_
  intro p e s m args below meth c A Q hx hb hml hown hts hA hK hP hD hS hret ls hl
  have hl : lv_has ls 3 [(0, .ref (ad 0))] := hl
  refine lv_aload_n hx hb dX1_sound_0 rfl (lv_at hl 0 rfl) ?_
  refine xcall_i (As := []) (rest := []) (ci := 1) ⟨hx, hb, hml, hown, hts⟩ (metX1_findEnds l D ad di db nx mk n tk en bd fx bo sk hn htk hen) (cwV 0 hts (lw_V q248 q250 qs16 q28 q251) rfl rfl rfl (by decide +kernel) ⟨Nat.le_of_ble_eq_true rfl, Nat.le_of_ble_eq_true rfl⟩) rfl rfl hK hP hD hS hA rfl hl.1 rfl (Nat.le_of_ble_eq_true rfl) dX1_sound_1 ⟨Nat.zero_le _, Nat.zero_le _⟩ (fun r u H locs hw hP hD hS => ?_)
  obtain ⟨en1, rfl, hen1, hF⟩ := hw
  rcases hF with ⟨rfl, h0, hE, hE0⟩ | ⟨rfl, hno⟩
  · refine nv_if_ne (tgt := 9) hx hb (by omega) dX1_sound_4 (by decide) (fun c4 => ?_) (fun q => absurd q (by omega))
    refine lv_iconst (v := nI 0) hx hb dX1_sound_9 (by decide) ?_
    refine lv_istore_n (lv' := [(1, .int (nI 0)), (0, .ref (ad 0))]) hx hb dX1_sound_10 rfl hl (by decide) rfl (fun ls hl => ?_)
    refine lv_iconst (v := nI 0) hx hb dX1_sound_11 (by decide) ?_
    refine lv_istore_n (lv' := [(2, .int (nI 0)), (1, .int (nI 0)), (0, .ref (ad 0))]) hx hb dX1_sound_12 rfl hl (by decide) rfl (fun ls hl => ?_)
    have L : ∀ (d k : Nat) (bd1 : Nat → Nat), n < k + d → k ≤ n → (∀ j, j < k → 16 ≤ tk j → 0 < bd1 j ∧ IsB tk en1 (bd1 j - 1) j) → ∀ (H : Heap) (locs : List Loc), va_P D vwCl (mwX ad di nx mk n tk en1 bd1 fx bo sk) H → va_D A (mwX ad di nx mk n tk en1 bd1 fx bo sk) → va_S A s.heap H locs → ∀ ls : Array Slot, lv_has ls 3 [(0, .ref (ad 0)), (1, .int (nI (mj_nb tk k))), (2, .int (nI k))] → W p l e ({ frames := 2, cells := 0, slots := 0, locals := 44 }) s m args below meth c H locs 0 0 Q (F0 m 13 ls []) := by
      intro d
      induction d with
      | zero =>
        intro k bd1 h1_ h2_
        exfalso; omega
      | succ d ihL =>
        intro k bd1 h1_ h2_ I2 H locs hP hD hS ls hl
        have hnbk := mj_nb_le tk k
        refine lv_iload_n hx hb dX1_sound_13 rfl (lv_at hl 2 rfl) ?_
        refine lv_aload_n hx hb dX1_sound_14 rfl (lv_at hl 0 rfl) ?_
        refine gX1 hx hb hts hown hK hP 0 rfl 2 (by decide) q190 rfl dX1_sound_15 ?_
        refine nv_icmp_ge (tgt := 76) hx hb (by omega) (by omega) dX1_sound_18 (by decide) (fun c18 => ?_) (fun c18 => ?_)
        · refine lv_iload_n hx hb dX1_sound_76 rfl (lv_at hl 1 rfl) ?_
          refine lv_iconst (v := nI 4) hx hb dX1_sound_77 (by decide) ?_
          refine nv_icmp_gt (tgt := 85) hx hb (by omega) (by omega) dX1_sound_78 (by decide) (fun c78 => ?_) (fun c78 => ?_)
          · refine lv_iconst (v := nI 0) hx hb dX1_sound_85 (by decide) ?_
            have hkn : k = n := by omega
            rw [hkn] at I2 c78
            exact hret _ _ _ _ _ (mwX ad di nx mk n tk en1 bd1 fx bo sk) rfl dX1_sound_86 (⟨en1, bd1, rfl, hen1, Or.inr ⟨rfl, no_nb c78⟩⟩) hP hD hS
          · refine lv_iconst (v := nI 1) hx hb dX1_sound_81 (by decide) ?_
            refine lv_goto (tgt := 86) hx hb dX1_sound_82 (by decide) ?_
            have hkn : k = n := by omega
            rw [hkn] at I2 c78
            exact hret _ _ _ _ _ (mwX ad di nx mk n tk en1 bd1 fx bo sk) rfl dX1_sound_86 (⟨en1, bd1, rfl, hen1, Or.inl ⟨rfl, ⟨h0, hE, hE0, fun k hk h => (I2 k hk h).2, c78⟩, fun k hk h => (I2 k hk h).1⟩⟩) hP hD hS
        · refine lv_aload_n hx hb dX1_sound_21 rfl (lv_at hl 0 rfl) ?_
          refine lv_aload_n hx hb dX1_sound_22 rfl (lv_at hl 0 rfl) ?_
          refine gX1 hx hb hts hown hK hP 0 rfl 3 (by decide) q191 rfl dX1_sound_23 ?_
          refine lv_iload_n hx hb dX1_sound_26 rfl (lv_at hl 2 rfl) ?_
          refine nv_iald hx hb hK hP 3 0 rfl rfl (by omega) (by decide) dX1_sound_27 ?_
          have hld27 := htk k
          refine pcall_i (As := [.int (nI (tk k))]) (rest := []) (ci := 1) (q0 := 0) ⟨hx, hb, hml, hown, hts⟩ (metX1_binds l (ad 0) (tk k) (by omega)) (cwV 1 hts (lw_V q256 q258 qs18 q28 q259) rfl rfl rfl (by decide +kernel) ⟨Nat.le_of_ble_eq_true rfl, Nat.le_of_ble_eq_true rfl⟩) rfl rfl hK hP rfl hl.1 rfl (Nat.le_of_ble_eq_true rfl) dX1_sound_28 ⟨Nat.zero_le _, Nat.zero_le _⟩ (fun r hr => ?_)
          subst hr
          have hbl := bi_le (tk k)
          refine nv_if_eq (tgt := 37) hx hb (by omega) dX1_sound_31 (by decide) (fun c31 => ?_) (fun c31 => ?_)
          · rw [nb_0 (bi_zero c31)] at hl
            refine lv_aload_n hx hb dX1_sound_37 rfl (lv_at hl 0 rfl) ?_
            refine gX1 hx hb hts hown hK hP 0 rfl 3 (by decide) q191 rfl dX1_sound_38 ?_
            refine lv_iload_n hx hb dX1_sound_41 rfl (lv_at hl 2 rfl) ?_
            refine nv_iald hx hb hK hP 3 0 rfl rfl (by omega) (by decide) dX1_sound_42 ?_
            have hld42 := htk k
            refine lv_bipush (v := nI 16) hx hb dX1_sound_43 (by decide) ?_
            refine nv_icmp_lt (tgt := 70) hx hb (by omega) (by omega) dX1_sound_45 (by decide) (fun c45 => ?_) (fun c45 => ?_)
            · refine nv_iinc (k := 2) (lv' := [(2, .int (nI (k + 1))), (0, .ref (ad 0)), (1, .int (nI (mj_nb tk (k + 1))))]) (v := (nI (k + 1))) hx hb dX1_sound_70 hl rfl (nI_inc _) (by decide) rfl (fun ls hl => ?_)
              refine lv_goto (tgt := 13) hx hb dX1_sound_73 (by decide) ?_
              exact ihL (k + 1) _ (by omega) (by omega) (bA_otherN I2 (by omega)) _ _ hP hD hS ls (lv_sub hl [1, 2, 0] rfl)
            · refine lv_aload_n hx hb dX1_sound_48 rfl (lv_at hl 0 rfl) ?_
              refine gX1 hx hb hts hown hK hP 0 rfl 5 (by decide) q193 rfl dX1_sound_49 ?_
              refine lv_iload_n hx hb dX1_sound_52 rfl (lv_at hl 2 rfl) ?_
              refine lv_aload_n hx hb dX1_sound_53 rfl (lv_at hl 0 rfl) ?_
              refine lv_iload_n hx hb dX1_sound_54 rfl (lv_at hl 2 rfl) ?_
              refine xcall_i (As := [.int (nI k)]) (rest := [.int (nI k), .ref (ad 5)]) (ci := 1) ⟨hx, hb, hml, hown, hts⟩ (metX1_binderOf l D ad di db nx mk n tk en1 bd1 fx bo sk k (by omega) (by omega) htk hen1) (cwV 1 hts (lw_V q260 q262 qs19 q28 q263) rfl rfl rfl (by decide +kernel) ⟨Nat.le_of_ble_eq_true rfl, Nat.le_of_ble_eq_true rfl⟩) rfl rfl hK hP hD hS hA rfl hl.1 rfl (Nat.le_of_ble_eq_true rfl) dX1_sound_55 ⟨Nat.zero_le _, Nat.zero_le _⟩ (fun r u H locs hw hP hD hS => ?_)
              obtain ⟨v, hv, rfl, rfl, hF⟩ := hw
              refine nw_iast hx hb hK hP hD hS 5 0 rfl rfl (by omega) (by decide) dX1_sound_58 (fun H locs hP hD hS => ?_)
              have hP : va_P D vwCl (mwX ad di nx mk n tk en1 (upN bd1 k v) fx bo sk) H := hP
              have hD : va_D A (mwX ad di nx mk n tk en1 (upN bd1 k v) fx bo sk) := hD
              refine lv_aload_n hx hb dX1_sound_59 rfl (lv_at hl 0 rfl) ?_
              refine gX1 hx hb hts hown hK hP 0 rfl 5 (by decide) q193 rfl dX1_sound_60 ?_
              refine lv_iload_n hx hb dX1_sound_63 rfl (lv_at hl 2 rfl) ?_
              refine nw_iald hx hb hK hP 5 0 rfl rfl (by omega) (by decide) dX1_sound_64 ?_
              rw [upN_s]
              rcases hF with ⟨rfl, hB⟩ | ⟨hv0, hB⟩
              · refine nv_if_geP (tgt := 70) hx hb dX1_sound_65 (by decide) ?_
                refine lv_iconst (v := nI 0) hx hb dX1_sound_68 (by decide) ?_
                exact hret _ _ _ _ _ (mwX ad di nx mk n tk en1 (upN bd1 k 0) fx bo sk) rfl dX1_sound_69 (⟨en1, _, rfl, hen1, Or.inr ⟨rfl, no_binder hE (show k < n by omega) (by omega) hB⟩⟩) hP hD hS
              · obtain ⟨v, rfl⟩ : ∃ v', v = v' + 1 := ⟨v - 1, by omega⟩
                rw [nP_succ]
                refine nv_if_ge (tgt := 70) hx hb (by omega) dX1_sound_65 (by decide) ?_
                refine nv_iinc (k := 2) (lv' := [(2, .int (nI (k + 1))), (0, .ref (ad 0)), (1, .int (nI (mj_nb tk (k + 1))))]) (v := (nI (k + 1))) hx hb dX1_sound_70 hl rfl (nI_inc _) (by decide) rfl (fun ls hl => ?_)
                refine lv_goto (tgt := 13) hx hb dX1_sound_73 (by decide) ?_
                exact ihL (k + 1) _ (by omega) (by omega) (bA_name I2 hv0 hB) _ _ hP hD hS ls (lv_sub hl [1, 2, 0] rfl)
          · refine nv_iinc (k := 1) (lv' := [(1, .int (nI ((mj_nb tk k) + 1))), (0, .ref (ad 0)), (2, .int (nI k))]) (v := (nI ((mj_nb tk k) + 1))) hx hb dX1_sound_34 hl rfl (nI_inc _) (by decide) rfl (fun ls hl => ?_)
            rw [nb_1 (bi_pos c31)] at hl
            refine lv_aload_n hx hb dX1_sound_37 rfl (lv_at hl 1 rfl) ?_
            refine gX1 hx hb hts hown hK hP 0 rfl 3 (by decide) q191 rfl dX1_sound_38 ?_
            refine lv_iload_n hx hb dX1_sound_41 rfl (lv_at hl 2 rfl) ?_
            refine nv_iald hx hb hK hP 3 0 rfl rfl (by omega) (by decide) dX1_sound_42 ?_
            have hld42 := htk k
            refine lv_bipush (v := nI 16) hx hb dX1_sound_43 (by decide) ?_
            refine nv_icmp_lt (tgt := 70) hx hb (by omega) (by omega) dX1_sound_45 (by decide) (fun c45 => ?_) (fun c45 => ?_)
            · refine nv_iinc (k := 2) (lv' := [(2, .int (nI (k + 1))), (1, .int (nI (mj_nb tk (k + 1)))), (0, .ref (ad 0))]) (v := (nI (k + 1))) hx hb dX1_sound_70 hl rfl (nI_inc _) (by decide) rfl (fun ls hl => ?_)
              refine lv_goto (tgt := 13) hx hb dX1_sound_73 (by decide) ?_
              exact ihL (k + 1) _ (by omega) (by omega) (bA_otherN I2 (by omega)) _ _ hP hD hS ls (lv_sub hl [2, 1, 0] rfl)
            · refine lv_aload_n hx hb dX1_sound_48 rfl (lv_at hl 1 rfl) ?_
              refine gX1 hx hb hts hown hK hP 0 rfl 5 (by decide) q193 rfl dX1_sound_49 ?_
              refine lv_iload_n hx hb dX1_sound_52 rfl (lv_at hl 2 rfl) ?_
              refine lv_aload_n hx hb dX1_sound_53 rfl (lv_at hl 1 rfl) ?_
              refine lv_iload_n hx hb dX1_sound_54 rfl (lv_at hl 2 rfl) ?_
              refine xcall_i (As := [.int (nI k)]) (rest := [.int (nI k), .ref (ad 5)]) (ci := 1) ⟨hx, hb, hml, hown, hts⟩ (metX1_binderOf l D ad di db nx mk n tk en1 bd1 fx bo sk k (by omega) (by omega) htk hen1) (cwV 1 hts (lw_V q260 q262 qs19 q28 q263) rfl rfl rfl (by decide +kernel) ⟨Nat.le_of_ble_eq_true rfl, Nat.le_of_ble_eq_true rfl⟩) rfl rfl hK hP hD hS hA rfl hl.1 rfl (Nat.le_of_ble_eq_true rfl) dX1_sound_55 ⟨Nat.zero_le _, Nat.zero_le _⟩ (fun r u H locs hw hP hD hS => ?_)
              obtain ⟨v, hv, rfl, rfl, hF⟩ := hw
              refine nw_iast hx hb hK hP hD hS 5 0 rfl rfl (by omega) (by decide) dX1_sound_58 (fun H locs hP hD hS => ?_)
              have hP : va_P D vwCl (mwX ad di nx mk n tk en1 (upN bd1 k v) fx bo sk) H := hP
              have hD : va_D A (mwX ad di nx mk n tk en1 (upN bd1 k v) fx bo sk) := hD
              refine lv_aload_n hx hb dX1_sound_59 rfl (lv_at hl 1 rfl) ?_
              refine gX1 hx hb hts hown hK hP 0 rfl 5 (by decide) q193 rfl dX1_sound_60 ?_
              refine lv_iload_n hx hb dX1_sound_63 rfl (lv_at hl 2 rfl) ?_
              refine nw_iald hx hb hK hP 5 0 rfl rfl (by omega) (by decide) dX1_sound_64 ?_
              rw [upN_s]
              rcases hF with ⟨rfl, hB⟩ | ⟨hv0, hB⟩
              · refine nv_if_geP (tgt := 70) hx hb dX1_sound_65 (by decide) ?_
                refine lv_iconst (v := nI 0) hx hb dX1_sound_68 (by decide) ?_
                exact hret _ _ _ _ _ (mwX ad di nx mk n tk en1 (upN bd1 k 0) fx bo sk) rfl dX1_sound_69 (⟨en1, _, rfl, hen1, Or.inr ⟨rfl, no_binder hE (show k < n by omega) (by omega) hB⟩⟩) hP hD hS
              · obtain ⟨v, rfl⟩ : ∃ v', v = v' + 1 := ⟨v - 1, by omega⟩
                rw [nP_succ]
                refine nv_if_ge (tgt := 70) hx hb (by omega) dX1_sound_65 (by decide) ?_
                refine nv_iinc (k := 2) (lv' := [(2, .int (nI (k + 1))), (1, .int (nI (mj_nb tk (k + 1)))), (0, .ref (ad 0))]) (v := (nI (k + 1))) hx hb dX1_sound_70 hl rfl (nI_inc _) (by decide) rfl (fun ls hl => ?_)
                refine lv_goto (tgt := 13) hx hb dX1_sound_73 (by decide) ?_
                exact ihL (k + 1) _ (by omega) (by omega) (bA_name I2 hv0 hB) _ _ hP hD hS ls (lv_sub hl [2, 1, 0] rfl)
    exact L (n + 1) 0 bd (by omega) (by omega) (fun j h => absurd h (Nat.not_lt_zero j)) _ _ hP hD hS ls (lv_sub hl [2, 1, 0] rfl)
  · refine nv_if_ne (tgt := 9) hx hb (by omega) dX1_sound_4 (by decide) (fun q => absurd q (by omega)) (fun c4 => ?_)
    refine lv_iconst (v := nI 0) hx hb dX1_sound_7 (by decide) ?_
    exact hret _ _ _ _ _ (mwX ad di nx mk n tk en1 bd fx bo sk) rfl dX1_sound_8 (⟨en1, bd, rfl, hen1, Or.inr ⟨rfl, hno⟩⟩) hP hD hS
set_option maxHeartbeats 4000000 in
set_option maxRecDepth 100000 in
/-- depth -/
theorem metX1_depth (l : Launch) (D : va_G) (ad : Nat → Nat) (di db : ClassId) (nx mk : Nat → Nat) (n : Nat) (tk en bd fx bo sk : Nat → Nat)  (hn : n ≤ 12) (htk : ∀ j, tk j ≤ 18) (hen : ∀ j, en j < 128) : xMi l yX1_depth cX1_depth 5 .int ({ frames := 3, cells := 0, slots := 0, locals := 66 }) D (tyX di db) (mwX ad di nx mk n tk en bd fx bo sk) [.ref (ad 0)] (fun r u => ((∃ E B, Str tk n E B ∧ r = nI (mj_deep tk E n)) ∨ (¬ Snd tk n ∧ r = (-3))) ∧ ∃ en1 bd1, u = mwX ad di nx mk n tk en1 bd1 fx bo sk ∧ (∀ j, en1 j < 128)) := by
  refine xMi_intro (by decide) (Nat.le_of_ble_eq_true rfl) ?_
  intro p e s m args below meth c A Q hx hb hml hown hts hA hK hP hD hS hret ls hl
  have hl : lv_has ls 5 [(0, .ref (ad 0))] := hl
  refine lv_aload_n hx hb dX1_depth_0 rfl (lv_at hl 0 rfl) ?_
  refine xcall_i (As := []) (rest := []) (ci := 1) ⟨hx, hb, hml, hown, hts⟩ (metX1_sound l D ad di db nx mk n tk en bd fx bo sk hn htk hen) (cwV 0 hts (lw_V q268 q245 q246 q28 q247) rfl rfl rfl (by decide +kernel) ⟨Nat.le_of_ble_eq_true rfl, Nat.le_of_ble_eq_true rfl⟩) rfl rfl hK hP hD hS hA rfl hl.1 rfl (Nat.le_of_ble_eq_true rfl) dX1_depth_1 ⟨Nat.zero_le _, Nat.zero_le _⟩ (fun r u H locs hw hP hD hS => ?_)
  obtain ⟨en1, bd1, rfl, hen1, hF⟩ := hw
  rcases hF with ⟨rfl, hStr, hbp⟩ | ⟨rfl, hno⟩
  · refine nv_if_ne (tgt := 10) hx hb (by omega) dX1_depth_4 (by decide) (fun c4 => ?_) (fun q => absurd q (by omega))
    refine lv_iconst (v := nI 0) hx hb dX1_depth_10 (by decide) ?_
    refine lv_istore_n (lv' := [(1, .int (nI 0)), (0, .ref (ad 0))]) hx hb dX1_depth_11 rfl hl (by decide) rfl (fun ls hl => ?_)
    refine lv_iconst (v := nI 0) hx hb dX1_depth_12 (by decide) ?_
    refine lv_istore_n (lv' := [(2, .int (nI 0)), (1, .int (nI 0)), (0, .ref (ad 0))]) hx hb dX1_depth_13 rfl hl (by decide) rfl (fun ls hl => ?_)
    have L : ∀ (d k : Nat) , n < k + d → k ≤ n → ∀ (H : Heap) (locs : List Loc), va_P D vwCl (mwX ad di nx mk n tk en1 bd1 fx bo sk) H → va_D A (mwX ad di nx mk n tk en1 bd1 fx bo sk) → va_S A s.heap H locs → ∀ ls : Array Slot, lv_has ls 5 [(0, .ref (ad 0)), (1, .int (nI (mj_deep tk en1 k))), (2, .int (nI k))] → W p l e ({ frames := 3, cells := 0, slots := 0, locals := 66 }) s m args below meth c H locs 0 0 Q (F0 m 14 ls []) := by
      intro d
      induction d with
      | zero =>
        intro k  h1_ h2_
        exfalso; omega
      | succ d ihL =>
        intro k  h1_ h2_  H locs hP hD hS ls hl
        have hdpk := mj_deep_le tk en1 k
        have h18k := htk k
        have hdek := mj_dep_le tk en1 k
        refine lv_iload_n hx hb dX1_depth_14 rfl (lv_at hl 2 rfl) ?_
        refine lv_aload_n hx hb dX1_depth_15 rfl (lv_at hl 0 rfl) ?_
        refine gX1 hx hb hts hown hK hP 0 rfl 2 (by decide) q190 rfl dX1_depth_16 ?_
        refine nv_icmp_ge (tgt := 93) hx hb (by omega) (by omega) dX1_depth_19 (by decide) (fun c19 => ?_) (fun c19 => ?_)
        · refine lv_iload_n hx hb dX1_depth_93 rfl (lv_at hl 1 rfl) ?_
          have hkn : k = n := by omega
          exact hret _ _ _ _ _ (mwX ad di nx mk n tk en1 bd1 fx bo sk) rfl dX1_depth_94 (⟨Or.inl ⟨en1, _, hStr, by rw [hkn]⟩, ⟨en1, bd1, rfl, hen1⟩⟩) hP hD hS
        · refine lv_iconst (v := nI 0) hx hb dX1_depth_22 (by decide) ?_
          refine lv_istore_n (lv' := [(3, .int (nI 0)), (0, .ref (ad 0)), (1, .int (nI (mj_deep tk en1 k))), (2, .int (nI k))]) hx hb dX1_depth_23 rfl hl (by decide) rfl (fun ls hl => ?_)
          refine lv_iconst (v := nI 0) hx hb dX1_depth_24 (by decide) ?_
          refine lv_istore (lv' := [(4, .int (nI 0)), (3, .int (nI 0)), (0, .ref (ad 0)), (1, .int (nI (mj_deep tk en1 k))), (2, .int (nI k))]) hx hb dX1_depth_25 hl (by decide) rfl (fun ls hl => ?_)
          have LI : ∀ (d2 x : Nat) , (k + 1) < x + d2 → x ≤ (k + 1) → ∀ (H : Heap) (locs : List Loc), va_P D vwCl (mwX ad di nx mk n tk en1 bd1 fx bo sk) H → va_D A (mwX ad di nx mk n tk en1 bd1 fx bo sk) → va_S A s.heap H locs → ∀ ls : Array Slot, lv_has ls 5 [(0, .ref (ad 0)), (1, .int (nI (mj_deep tk en1 k))), (2, .int (nI k)), (3, .int (nI (mj_ao tk en1 k x))), (4, .int (nI x))] → W p l e ({ frames := 3, cells := 0, slots := 0, locals := 66 }) s m args below meth c H locs 0 0 Q (F0 m 27 ls []) := by
            intro d2
            induction d2 with
            | zero =>
              intro x  h1_ h2_
              exfalso; omega
            | succ d2 ihLI =>
              intro x  h1_ h2_  H locs hP hD hS ls hl
              have hao := mj_ao_le tk en1 k x
              refine lv_iload hx hb dX1_depth_27 (lv_at hl 4 rfl) ?_
              refine lv_iload_n hx hb dX1_depth_29 rfl (lv_at hl 2 rfl) ?_
              refine nv_icmp_gt (tgt := 80) hx hb (by omega) (by omega) dX1_depth_30 (by decide) (fun c30 => ?_) (fun c30 => ?_)
              · have hx1 : x = k + 1 := by omega
                rw [hx1] at hl
                have hc9 := mj_ao_all hStr.2.1 (show k < n by omega)
                have hao9 := mj_ao_le tk en1 k (k + 1)
                refine lv_iload_n hx hb dX1_depth_80 rfl (lv_at hl 3 rfl) ?_
                refine lv_iload_n hx hb dX1_depth_81 rfl (lv_at hl 1 rfl) ?_
                refine nv_icmp_le (tgt := 87) hx hb (by omega) (by omega) dX1_depth_82 (by decide) (fun c82 => ?_) (fun c82 => ?_)
                · refine nv_iinc (k := 2) (lv' := [(2, .int (nI (k + 1))), (0, .ref (ad 0)), (1, .int (nI (mj_deep tk en1 k))), (3, .int (nI (mj_ao tk en1 k (k + 1)))), (4, .int (nI (k + 1)))]) (v := (nI (k + 1))) hx hb dX1_depth_87 hl rfl (nI_inc _) (by decide) rfl (fun ls hl => ?_)
                  refine lv_goto (tgt := 14) hx hb dX1_depth_90 (by decide) ?_
                  rw [show mj_deep tk en1 k = mj_deep tk en1 (k + 1) by first | exact (dm_le hc9 c82).symm | exact (dm_gt hc9 c82).symm] at hl
                  exact ihL (k + 1) (by omega) (by omega) _ _ hP hD hS ls (lv_sub hl [1, 2, 0] rfl)
                · refine lv_iload_n hx hb dX1_depth_85 rfl (lv_at hl 3 rfl) ?_
                  refine lv_istore_n (lv' := [(1, .int (nI (mj_ao tk en1 k (k + 1)))), (0, .ref (ad 0)), (2, .int (nI k)), (3, .int (nI (mj_ao tk en1 k (k + 1)))), (4, .int (nI (k + 1)))]) hx hb dX1_depth_86 rfl hl (by decide) rfl (fun ls hl => ?_)
                  refine nv_iinc (k := 2) (lv' := [(2, .int (nI (k + 1))), (1, .int (nI (mj_ao tk en1 k (k + 1)))), (0, .ref (ad 0)), (3, .int (nI (mj_ao tk en1 k (k + 1)))), (4, .int (nI (k + 1)))]) (v := (nI (k + 1))) hx hb dX1_depth_87 hl rfl (nI_inc _) (by decide) rfl (fun ls hl => ?_)
                  refine lv_goto (tgt := 14) hx hb dX1_depth_90 (by decide) ?_
                  rw [show mj_ao tk en1 k (k + 1) = mj_deep tk en1 (k + 1) by first | exact (dm_le hc9 c82).symm | exact (dm_gt hc9 c82).symm] at hl
                  exact ihL (k + 1) (by omega) (by omega) _ _ hP hD hS ls (lv_sub hl [2, 1, 0] rfl)
              · refine lv_aload_n hx hb dX1_depth_33 rfl (lv_at hl 0 rfl) ?_
                refine lv_aload_n hx hb dX1_depth_34 rfl (lv_at hl 0 rfl) ?_
                refine gX1 hx hb hts hown hK hP 0 rfl 3 (by decide) q191 rfl dX1_depth_35 ?_
                refine lv_iload hx hb dX1_depth_38 (lv_at hl 4 rfl) ?_
                refine nv_iald hx hb hK hP 3 0 rfl rfl (by omega) (by decide) dX1_depth_40 ?_
                have hld40 := htk x
                refine pcall_i (As := [.int (nI (tk x))]) (rest := []) (ci := 1) (q0 := 0) ⟨hx, hb, hml, hown, hts⟩ (metX1_binds l (ad 0) (tk x) (by omega)) (cwV 1 hts (lw_V q256 q258 qs18 q28 q259) rfl rfl rfl (by decide +kernel) ⟨Nat.le_of_ble_eq_true rfl, Nat.le_of_ble_eq_true rfl⟩) rfl rfl hK hP rfl hl.1 rfl (Nat.le_of_ble_eq_true rfl) dX1_depth_41 ⟨Nat.zero_le _, Nat.zero_le _⟩ (fun r hr => ?_)
                subst hr
                have hbl := bi_le (tk x)
                refine nv_if_eq (tgt := 74) hx hb (by omega) dX1_depth_44 (by decide) (fun c44 => ?_) (fun c44 => ?_)
                · rw [ao_0 (b := x) (k := k) (E := en1) (by first | exact Or.inl (bi_zero c44) | exact Or.inr (Or.inl (bi_zero c57)) | exact Or.inr (Or.inr c68))] at hl
                  refine nv_iinc (k := 4) (lv' := [(4, .int (nI (x + 1))), (0, .ref (ad 0)), (1, .int (nI (mj_deep tk en1 k))), (2, .int (nI k)), (3, .int (nI (mj_ao tk en1 k (x + 1))))]) (v := (nI (x + 1))) hx hb dX1_depth_74 hl rfl (nI_inc _) (by decide) rfl (fun ls hl => ?_)
                  refine lv_goto (tgt := 27) hx hb dX1_depth_77 (by decide) ?_
                  exact ihLI (x + 1) (by omega) (by omega) _ _ hP hD hS ls (lv_sub hl [1, 2, 3, 4, 0] rfl)
                · refine lv_aload_n hx hb dX1_depth_47 rfl (lv_at hl 0 rfl) ?_
                  refine lv_aload_n hx hb dX1_depth_48 rfl (lv_at hl 0 rfl) ?_
                  refine gX1 hx hb hts hown hK hP 0 rfl 3 (by decide) q191 rfl dX1_depth_49 ?_
                  refine lv_iload_n hx hb dX1_depth_52 rfl (lv_at hl 2 rfl) ?_
                  refine nv_iald hx hb hK hP 3 0 rfl rfl (by omega) (by decide) dX1_depth_53 ?_
                  have hld53 := htk k
                  refine pcall_i (As := [.int (nI (tk k))]) (rest := []) (ci := 1) (q0 := 0) ⟨hx, hb, hml, hown, hts⟩ (metX1_binds l (ad 0) (tk k) (by omega)) (cwV 1 hts (lw_V q256 q258 qs18 q28 q259) rfl rfl rfl (by decide +kernel) ⟨Nat.le_of_ble_eq_true rfl, Nat.le_of_ble_eq_true rfl⟩) rfl rfl hK hP rfl hl.1 rfl (Nat.le_of_ble_eq_true rfl) dX1_depth_54 ⟨Nat.zero_le _, Nat.zero_le _⟩ (fun r hr => ?_)
                  subst hr
                  have hbl := bi_le (tk k)
                  refine nv_if_eq (tgt := 74) hx hb (by omega) dX1_depth_57 (by decide) (fun c57 => ?_) (fun c57 => ?_)
                  · rw [ao_0 (b := x) (k := k) (E := en1) (by first | exact Or.inl (bi_zero c44) | exact Or.inr (Or.inl (bi_zero c57)) | exact Or.inr (Or.inr c68))] at hl
                    refine nv_iinc (k := 4) (lv' := [(4, .int (nI (x + 1))), (0, .ref (ad 0)), (1, .int (nI (mj_deep tk en1 k))), (2, .int (nI k)), (3, .int (nI (mj_ao tk en1 k (x + 1))))]) (v := (nI (x + 1))) hx hb dX1_depth_74 hl rfl (nI_inc _) (by decide) rfl (fun ls hl => ?_)
                    refine lv_goto (tgt := 27) hx hb dX1_depth_77 (by decide) ?_
                    exact ihLI (x + 1) (by omega) (by omega) _ _ hP hD hS ls (lv_sub hl [1, 2, 3, 4, 0] rfl)
                  · refine lv_iload_n hx hb dX1_depth_60 rfl (lv_at hl 2 rfl) ?_
                    refine lv_aload_n hx hb dX1_depth_61 rfl (lv_at hl 0 rfl) ?_
                    refine gX1 hx hb hts hown hK hP 0 rfl 4 (by decide) q192 rfl dX1_depth_62 ?_
                    refine lv_iload hx hb dX1_depth_65 (lv_at hl 4 rfl) ?_
                    refine nv_iald hx hb hK hP 4 0 rfl rfl (by omega) (by decide) dX1_depth_67 ?_
                    have hld67 := hen1 x
                    refine nv_icmp_ge (tgt := 74) hx hb (by omega) (by omega) dX1_depth_68 (by decide) (fun c68 => ?_) (fun c68 => ?_)
                    · rw [ao_0 (b := x) (k := k) (E := en1) (by first | exact Or.inl (bi_zero c44) | exact Or.inr (Or.inl (bi_zero c57)) | exact Or.inr (Or.inr c68))] at hl
                      refine nv_iinc (k := 4) (lv' := [(4, .int (nI (x + 1))), (0, .ref (ad 0)), (1, .int (nI (mj_deep tk en1 k))), (2, .int (nI k)), (3, .int (nI (mj_ao tk en1 k (x + 1))))]) (v := (nI (x + 1))) hx hb dX1_depth_74 hl rfl (nI_inc _) (by decide) rfl (fun ls hl => ?_)
                      refine lv_goto (tgt := 27) hx hb dX1_depth_77 (by decide) ?_
                      exact ihLI (x + 1) (by omega) (by omega) _ _ hP hD hS ls (lv_sub hl [1, 2, 3, 4, 0] rfl)
                    · refine nv_iinc (k := 3) (lv' := [(3, .int (nI ((mj_ao tk en1 k x) + 1))), (0, .ref (ad 0)), (1, .int (nI (mj_deep tk en1 k))), (2, .int (nI k)), (4, .int (nI x))]) (v := (nI ((mj_ao tk en1 k x) + 1))) hx hb dX1_depth_71 hl rfl (nI_inc _) (by decide) rfl (fun ls hl => ?_)
                      rw [ao_1 (bi_pos c44) (bi_pos c57) c68] at hl
                      refine nv_iinc (k := 4) (lv' := [(4, .int (nI (x + 1))), (3, .int (nI (mj_ao tk en1 k (x + 1)))), (0, .ref (ad 0)), (1, .int (nI (mj_deep tk en1 k))), (2, .int (nI k))]) (v := (nI (x + 1))) hx hb dX1_depth_74 hl rfl (nI_inc _) (by decide) rfl (fun ls hl => ?_)
                      refine lv_goto (tgt := 27) hx hb dX1_depth_77 (by decide) ?_
                      exact ihLI (x + 1) (by omega) (by omega) _ _ hP hD hS ls (lv_sub hl [2, 3, 4, 1, 0] rfl)
          exact LI (k + 2) 0 (by omega) (by omega) _ _ hP hD hS ls (lv_sub hl [2, 3, 4, 1, 0] rfl)
    exact L (n + 1) 0 (by omega) (by omega) _ _ hP hD hS ls (lv_sub hl [2, 1, 0] rfl)
  · refine nv_if_ne (tgt := 10) hx hb (by omega) dX1_depth_4 (by decide) (fun q => absurd q (by omega)) (fun c4 => ?_)
    refine lv_bipush (v := (-3)) hx hb dX1_depth_7 (by decide) ?_
    exact hret _ _ _ _ _ (mwX ad di nx mk n tk en1 bd1 fx bo sk) rfl dX1_depth_9 (⟨Or.inr ⟨hno, rfl⟩, ⟨en1, bd1, rfl, hen1⟩⟩) hP hD hS
end
section
/-! PLAIN LAW, 8: sets of states as numbers below 64; the reference's stack; its rounds on arrays -/
theorem tb_big {a y : Nat} (h : a < 64) (hy : 6 ≤ y) : a.testBit y = false :=
  Nat.testBit_lt_two_pow (Nat.lt_of_lt_of_le h (Nat.le_trans (show 64 ≤ 2 ^ 6 by decide) (Nat.pow_le_pow_right (by decide) hy)))
theorem tb_63 : ∀ i, i < 6 → Nat.testBit 63 i = true := by decide
theorem eq64 {a b : Nat} (ha : a < 64) (hb : b < 64) (h : ∀ x, x < 6 → (a.testBit x = true ↔ b.testBit x = true)) : a = b := by
  apply Nat.eq_of_testBit_eq
  intro i
  by_cases hi : i < 6
  · have := h i hi
    cases h1 : a.testBit i <;> cases h2 : b.testBit i <;> simp_all
  · rw [tb_big ha (by omega), tb_big hb (by omega)]
theorem and_zero {a b : Nat} : a &&& b = 0 ↔ ∀ y, ¬ (a.testBit y = true ∧ b.testBit y = true) := by
  constructor
  · intro h y hy
    have h2 : (a &&& b).testBit y = true := by rw [Nat.testBit_and, hy.1, hy.2]; rfl
    rw [h, Nat.zero_testBit] at h2
    cases h2
  · intro h
    apply Nat.eq_of_testBit_eq
    intro y
    rw [Nat.zero_testBit, Nat.testBit_and]
    have := h y
    cases h1 : a.testBit y <;> cases h2 : b.testBit y <;> simp_all
theorem sub_all {a b : Nat} (ha : a < 64) (h : a &&& (b ^^^ 63) = 0) : ∀ y, y < 6 → a.testBit y = true → b.testBit y = true := by
  intro y hy h1
  have h2 := (and_zero.mp h) y
  rw [Nat.testBit_xor, tb_63 y hy] at h2
  cases h3 : b.testBit y
  · rw [h3] at h2; exact absurd ⟨h1, rfl⟩ h2
  · rfl
theorem sub_not {a b : Nat} (ha : a < 64) (h : 0 < a &&& (b ^^^ 63)) : ¬ ∀ y, y < 6 → a.testBit y = true → b.testBit y = true := by
  intro q
  have h0 : a &&& (b ^^^ 63) = 0 := and_zero.mpr (by
    intro y hy
    by_cases h6 : y < 6
    · have h2 := hy.2
      rw [Nat.testBit_xor, tb_63 y h6, q y h6 hy.1] at h2
      cases h2
    · have h2 := hy.1
      rw [tb_big ha (by omega)] at h2
      cases h2)
  omega
theorem ex_some {a b : Nat} (ha : a < 64) (h : 0 < a &&& b) : ∃ y, y < 6 ∧ a.testBit y = true ∧ b.testBit y = true := by
  by_cases q : ∃ y, y < 6 ∧ a.testBit y = true ∧ b.testBit y = true
  · exact q
  · have h0 : a &&& b = 0 := and_zero.mpr (by
      intro y hy
      by_cases h6 : y < 6
      · exact q ⟨y, h6, hy⟩
      · have h2 := hy.1
        rw [tb_big ha (by omega)] at h2
        cases h2)
    omega
theorem ex_none {a b : Nat} (h : a &&& b = 0) : ¬ ∃ y, y < 6 ∧ a.testBit y = true ∧ b.testBit y = true := by
  rintro ⟨y, _, hy⟩
  exact and_zero.mp h y hy
theorem and_lt64 {a b : Nat} (h : a < 64) : a &&& b < 64 := Nat.lt_of_le_of_lt Nat.and_le_left h
theorem or_lt64 {a b : Nat} (h : a < 64) (h2 : b < 64) : a ||| b < 64 := Nat.or_lt_two_pow (n := 6) h h2
theorem not_bit {m i : Nat} (hi : i < 6) : (63 &&& (m ^^^ 63)).testBit i = true ↔ m.testBit i = false := by
  rw [Nat.testBit_and, Nat.testBit_xor, tb_63 i hi]
  cases m.testBit i <;> simp
theorem fst13_bit {t i : Nat} (hi : i < 6) : (fst13 t).testBit i = true ↔ 13 ≤ t := by
  rcases Nat.lt_or_ge t 13 with h | h
  · rw [fst13_0 h, Nat.zero_testBit]; constructor
    · intro q; cases q
    · intro q; omega
  · rw [fst13_63 h, tb_63 i hi]; exact ⟨fun _ => h, fun _ => rfl⟩
theorem fst13_lt (t : Nat) : fst13 t < 64 := by unfold fst13; split <;> omega
/-- the kept sets -/
def fS (fx : Nat → Nat) : Nat → Nat → Prop := fun b s => (fx b).testBit s = true
/-- the places where the terms behind j begin -/
def mj_ch (E : Nat → Nat) (j : Nat) : Nat → Nat
  | 0 => j
  | x + 1 => E (mj_ch E j x)
theorem mj_ch_add (E : Nat → Nat) (j a : Nat) : ∀ x, mj_ch E (mj_ch E j a) x = mj_ch E j (a + x) := by
  intro x
  induction x with
  | zero => rfl
  | succ x ih =>
    show E (mj_ch E (mj_ch E j a) x) = E (mj_ch E j (a + x))
    rw [ih]
section VAL
variable {nx mk tk : Nat → Nat} {n : Nat} {en B : Nat → Nat} {f : Nat → Nat → Prop} {j top : Nat} {sk bo bo' : Nat → Nat}
def VI (nx mk tk : Nat → Nat) (n : Nat) (en B : Nat → Nat) (f : Nat → Nat → Prop) (j top : Nat) (sk bo : Nat → Nat) : Prop :=
  top + j ≤ n ∧ mj_ch en j top = n ∧ (∀ x, x < top → mj_ch en j x < n ∧ ∀ i, i < 6 → ((sk (top - 1 - x)).testBit i = true ↔ mj_val nx mk tk n en B (mj_ch en j x) f i)) ∧ ∀ k, j ≤ k → k < n → mj_bnd (tk k) → ∀ i, i < 6 → ((bo k).testBit i = true ↔ mj_val nx mk tk n en B (k + 1) f i)
theorem VI_n : VI nx mk tk n en B f n 0 sk bo := ⟨by omega, rfl, fun x h => by omega, fun k h1 h2 => by omega⟩
theorem VI_top1 (h : mj_EndOK tk n en) (hV : VI nx mk tk n en B f (j + 1) top sk bo) (hj : j < n) (ha : mj_ar (tk j) ≠ 0) : 0 < top ∧ ∀ i, i < 6 → ((sk (top - 1)).testBit i = true ↔ mj_val nx mk tk n en B (j + 1) f i) := by
  have h1 := (mj_ch1 h hj ha).1
  have h2 : 0 < top := by
    rcases Nat.eq_zero_or_pos top with q | q
    · have := hV.2.1
      rw [q] at this
      change j + 1 = n at this
      omega
    · exact q
  exact ⟨h2, (hV.2.2.1 0 h2).2⟩
theorem VI_top2 (h : mj_EndOK tk n en) (hV : VI nx mk tk n en B f (j + 1) top sk bo) (hj : j < n) (ha : mj_ar (tk j) = 2) : 1 < top ∧ ∀ i, i < 6 → ((sk (top - 2)).testBit i = true ↔ mj_val nx mk tk n en B (en (j + 1)) f i) := by
  have h1 := (mj_ch2 h hj ha).2.1
  have h0 := (VI_top1 h hV hj (by omega)).1
  have h2 : 1 < top := by
    rcases Nat.lt_or_ge 1 top with q | q
    · exact q
    · have := hV.2.1
      rw [show top = 1 by omega] at this
      change en (j + 1) = n at this
      omega
  have h3 := (hV.2.2.1 1 h2).2
  rw [show top - 1 - 1 = top - 2 by omega] at h3
  exact ⟨h2, h3⟩
theorem VI_ar (h : mj_EndOK tk n en) (hV : VI nx mk tk n en B f (j + 1) top sk bo) (hj : j < n) : mj_ar (tk j) ≤ top := by
  have hl := mj_ar_le (tk j)
  rcases (show mj_ar (tk j) = 0 ∨ mj_ar (tk j) = 1 ∨ mj_ar (tk j) = 2 by omega) with q | q | q
  · omega
  · have := (VI_top1 h hV hj (by omega)).1; omega
  · have := (VI_top2 h hV hj q).1; omega
theorem VI_step (h : mj_EndOK tk n en) (hV : VI nx mk tk n en B f (j + 1) top sk bo) (hj : j < n) {made : Nat} (hm : ∀ i, i < 6 → (made.testBit i = true ↔ mj_val nx mk tk n en B j f i)) (hb : ∀ k, j + 1 ≤ k → bo' k = bo k) (hb2 : mj_bnd (tk j) → ∀ i, i < 6 → ((bo' j).testBit i = true ↔ mj_val nx mk tk n en B (j + 1) f i)) :
    VI nx mk tk n en B f j (top - mj_ar (tk j) + 1) (upN sk (top - mj_ar (tk j) + 1 - 1) made) bo' := by
  have har := VI_ar h hV hj
  obtain ⟨v1, v2, v3, v4⟩ := hV
  have ej : en j = mj_ch en (j + 1) (mj_ar (tk j)) := by
    obtain ⟨a0, a1, a2⟩ := h j hj
    have hl := mj_ar_le (tk j)
    rcases (show mj_ar (tk j) = 0 ∨ mj_ar (tk j) = 1 ∨ mj_ar (tk j) = 2 by omega) with q | q | q
    · rw [q]; exact a0 q
    · rw [q]; exact (a1 q).2
    · rw [q]; exact (a2 q).2.2
  have sh : ∀ y, mj_ch en j (y + 1) = mj_ch en (j + 1) (mj_ar (tk j) + y) := by
    intro y
    have e1 : mj_ch en j (1 + y) = mj_ch en (mj_ch en j 1) y := (mj_ch_add en j 1 y).symm
    rw [Nat.add_comm y 1, e1]
    show mj_ch en (en j) y = _
    rw [ej, mj_ch_add]
  refine ⟨by omega, ?_, fun x hx => ?_, fun k h1 h2 h3 => ?_⟩
  · rw [sh, show mj_ar (tk j) + (top - mj_ar (tk j)) = top by omega]
    exact v2
  · cases x with
    | zero =>
      refine ⟨hj, fun i hi => ?_⟩
      rw [show top - mj_ar (tk j) + 1 - 1 - 0 = top - mj_ar (tk j) + 1 - 1 by omega, upN_s]
      exact hm i hi
    | succ y =>
      rw [sh]
      have h5 := v3 (mj_ar (tk j) + y) (by omega)
      refine ⟨h5.1, fun i hi => ?_⟩
      rw [upN_n _ _ (by omega), show top - mj_ar (tk j) + 1 - 1 - (y + 1) = top - 1 - (mj_ar (tk j) + y) by omega]
      exact h5.2 i hi
  · by_cases e : k = j
    · subst e; exact hb2 h3
    · rw [hb k (by omega)]
      exact v4 k (by omega) h2 h3
theorem VI_end (hV : VI nx mk tk n en B f 0 top sk bo) (h0 : 0 < n) (hE : en 0 = n) : ∀ i, i < 6 → ((sk 0).testBit i = true ↔ mj_val nx mk tk n en B 0 f i) := by
  have h1 : top = 1 := by
    rcases (show top = 0 ∨ top = 1 ∨ 2 ≤ top by omega) with q | q | q
    · have := hV.2.1
      rw [q] at this
      change 0 = n at this
      omega
    · exact q
    · have := (hV.2.2.1 1 (by omega)).1
      change en 0 < n at this
      omega
  have := (hV.2.2.1 0 (by omega)).2
  rw [h1] at this
  exact this
theorem made_a (h : mj_EndOK tk n en) (hj : j < n) (ht : tk j < 3) : ∀ i, i < 6 → ((mk (tk j)).testBit i = true ↔ mj_val nx mk tk n en B j f i) := by
  intro i hi
  rw [mj_val_node h hj (by omega), node_a ht]
theorem made_b (h : mj_EndOK tk n en) (hj : j < n) (ht : 3 ≤ tk j) (ht2 : tk j < 6) : ∀ i, i < 6 → ((63 &&& (mk (tk j - 3) ^^^ 63)).testBit i = true ↔ mj_val nx mk tk n en B j f i) := by
  intro i hi
  rw [mj_val_node h hj (by omega), node_b ht ht2, not_bit hi]
theorem made_6 {a b : Nat} (h : mj_EndOK tk n en) (hj : j < n) (ht : tk j = 6) (ha : ∀ i, i < 6 → (a.testBit i = true ↔ mj_val nx mk tk n en B (j + 1) f i)) (hb : ∀ i, i < 6 → (b.testBit i = true ↔ mj_val nx mk tk n en B (en (j + 1)) f i)) : ∀ i, i < 6 → ((a &&& b).testBit i = true ↔ mj_val nx mk tk n en B j f i) := by
  intro i hi
  rw [mj_val_node h hj (by omega), node_6 ht, Nat.testBit_and, Bool.and_eq_true, ha i hi, hb i hi]
theorem made_7 {a b : Nat} (h : mj_EndOK tk n en) (hj : j < n) (ht : tk j = 7) (ha : ∀ i, i < 6 → (a.testBit i = true ↔ mj_val nx mk tk n en B (j + 1) f i)) (hb : ∀ i, i < 6 → (b.testBit i = true ↔ mj_val nx mk tk n en B (en (j + 1)) f i)) : ∀ i, i < 6 → ((a ||| b).testBit i = true ↔ mj_val nx mk tk n en B j f i) := by
  intro i hi
  rw [mj_val_node h hj (by omega), node_7 ht, Nat.testBit_or, Bool.or_eq_true, ha i hi, hb i hi]
theorem made_8 {a o : Nat} (h : mj_EndOK tk n en) (hj : j < n) (ht : tk j = 8) (ha : ∀ i, i < 6 → (a.testBit i = true ↔ mj_val nx mk tk n en B (j + 1) f i)) (ho : ∀ i, o.testBit i = true ↔ (i < 6 ∧ ∃ y, y < 6 ∧ (nx i).testBit y = true ∧ a.testBit y = true)) : ∀ i, i < 6 → (o.testBit i = true ↔ mj_val nx mk tk n en B j f i) := by
  intro i hi
  rw [mj_val_node h hj (by omega), node_8 ht, ho i]
  constructor
  · rintro ⟨_, y, h1, h2, h3⟩
    exact ⟨y, h1, h2, (ha y h1).mp h3⟩
  · rintro ⟨y, h1, h2, h3⟩
    exact ⟨hi, y, h1, h2, (ha y h1).mpr h3⟩
theorem made_9 {a o : Nat} (h : mj_EndOK tk n en) (hj : j < n) (ht : tk j = 9) (ha : ∀ i, i < 6 → (a.testBit i = true ↔ mj_val nx mk tk n en B (j + 1) f i)) (ho : ∀ i, o.testBit i = true ↔ (i < 6 ∧ ∀ y, y < 6 → (nx i).testBit y = true → a.testBit y = true)) : ∀ i, i < 6 → (o.testBit i = true ↔ mj_val nx mk tk n en B j f i) := by
  intro i hi
  rw [mj_val_node h hj (by omega), node_9 ht, ho i]
  constructor
  · rintro ⟨_, q⟩ y h1 h2
    exact (ha y h1).mp (q y h1 h2)
  · intro q
    exact ⟨hi, fun y h1 h2 => (ha y h1).mpr (q y h1 h2)⟩
theorem made_bnd {fx : Nat → Nat} (hj : j < n) (ht : 10 ≤ tk j) (ht2 : tk j < 16) : ∀ i, i < 6 → ((fx j).testBit i = true ↔ mj_val nx mk tk n en B j (fS fx) i) := by
  intro i hi
  rw [mj_val_bnd hj ht ht2]
  rfl
theorem made_name {fx : Nat → Nat} (hj : j < n) (ht : 16 ≤ tk j) : ∀ i, i < 6 → ((fx (B j)).testBit i = true ↔ mj_val nx mk tk n en B j (fS fx) i) := by
  intro i hi
  rw [mj_val_name hj ht]
  rfl
end VAL
/-! the rounds on arrays -/
def ff (tk fx : Nat → Nat) (k : Nat) : Nat → Nat := fun j => if j < k then fst13 (tk j) else fx j
theorem ff_0 (tk fx : Nat → Nat) : ff tk fx 0 = fx := by funext j; simp [ff]
theorem ff_step (tk fx : Nat → Nat) (k : Nat) : upN (ff tk fx k) k (fst13 (tk k)) = ff tk fx (k + 1) := by
  funext j
  unfold upN ff
  by_cases h : j = k
  · subst h; rw [if_pos rfl, if_pos (by omega)]
  · rw [if_neg h]
    by_cases h2 : j < k
    · rw [if_pos h2, if_pos (by omega)]
    · rw [if_neg h2, if_neg (by omega)]
theorem ff_lt {tk fx : Nat → Nat} {k : Nat} (h : ∀ j, fx j < 64) : ∀ j, ff tk fx k j < 64 := by
  intro j
  unfold ff
  split
  · exact fst13_lt _
  · exact h j
/-- those within b, below q, begin anew -/
def rsF (tk f : Nat → Nat) (b q : Nat) : Nat → Nat := fun j => if b < j ∧ j < q then fst13 (tk j) else f j
theorem rsF_0 (tk f : Nat → Nat) (b : Nat) : rsF tk f b (b + 1) = f := by
  funext j
  unfold rsF
  rw [if_neg (by omega)]
theorem rsF_step {tk f : Nat → Nat} {b q : Nat} (h : b < q) : upN (rsF tk f b q) q (fst13 (tk q)) = rsF tk f b (q + 1) := by
  funext j
  unfold upN rsF
  by_cases e : j = q
  · subst e; rw [if_pos rfl, if_pos (by omega)]
  · rw [if_neg e]
    by_cases e2 : b < j ∧ j < q
    · rw [if_pos e2, if_pos (by omega)]
    · rw [if_neg e2, if_neg (by omega)]
theorem rsF_lt {tk f : Nat → Nat} {b q : Nat} (h : ∀ j, f j < 64) : ∀ j, rsF tk f b q j < 64 := by
  intro j
  unfold rsF
  split
  · exact fst13_lt _
  · exact h j
section FIND
variable {nx mk tk : Nat → Nat} {n : Nat} {en B : Nat → Nat} {fx bo : Nat → Nat}
/-- what stands after the terms' values are found: the bodies' sets -/
def BV (nx mk tk : Nat → Nat) (n : Nat) (en B : Nat → Nat) (fx bo : Nat → Nat) : Prop := ∀ k, k < n → mj_bnd (tk k) → ∀ i, i < 6 → ((bo k).testBit i = true ↔ mj_val nx mk tk n en B (k + 1) (fS fx) i)
theorem find_first : mj_MI nx mk tk n en B (fS (ff tk fx n)) := by
  refine mj_MI_first (fun p hp _ x hx => ?_)
  unfold fS ff
  rw [if_pos hp]
  exact fst13_bit hx
theorem find_step (h : mj_EndOK tk n en) (hB : ∀ k, k < n → 16 ≤ tk k → mj_Enc tk en (B k) k) (hI : mj_MI nx mk tk n en B (fS fx)) (hBV : BV nx mk tk n en B fx bo) (hf : ∀ j, fx j < 64) (hbo : ∀ j, bo j < 64) {b : Nat} (hbn : b < n) (hb : mj_bnd (tk b)) (hs : ∀ p, b + 1 ≤ p → p < n → mj_bnd (tk p) → bo p = fx p) (ho : bo b ≠ fx b) :
    mj_MI nx mk tk n en B (fS (rsF tk (upN fx b (bo b)) b (en b))) ∧ mj_Phi tk (fS (rsF tk (upN fx b (bo b)) b (en b))) n < mj_Phi tk (fS fx) n := by
  refine mj_MI_step h hB hI hbn hb (fun p hp hpn hpb x hx => ?_) (fun q => ?_) (fun x hx => ?_) (fun p h1 h2 h3 x hx => ?_) (fun p h1 h2 x hx => ?_)
  · rw [← hBV p hpn hpb x hx, hs p (by omega) hpn hpb]
    exact Iff.rfl
  · refine ho (eq64 (hbo b) (hf b) (fun x hx => ?_))
    rw [hBV b hbn hb x hx]
    exact q x hx
  · rw [← hBV b hbn hb x hx]
    unfold fS rsF
    rw [if_neg (by omega), upN_s]
  · unfold fS rsF
    rw [if_pos ⟨h1, h2⟩]
    exact fst13_bit hx
  · have hgt := mj_gt h hbn
    unfold fS rsF
    rw [if_neg (by omega), upN_n _ _ (by omega)]
theorem find_end (h18 : ∀ j, tk j ≤ 18) (hS : Str tk n en B) (hI : mj_MI nx mk tk n en B (fS fx)) (hBV : BV nx mk tk n en B fx bo) (hs : ∀ p, 0 ≤ p → p < n → mj_bnd (tk p) → bo p = fx p) : ∀ i, i < 6 → (mj_val nx mk tk n en B 0 (fS fx) i ↔ Ans nx mk tk n i) := by
  intro i hi
  rw [Ans_iff hS, mj_MI_end hS.2.1 hS.1 hI (fun p hp hpb x hx => by rw [← hBV p hp hpb x hx, hs p (Nat.zero_le p) hp hpb]; exact Iff.rfl) hi]
  exact ⟨mj_sem_le hS.2.1 (Str_enc h18 hS) hS.1 (fun b hb => by have := hb.1; omega) hi, mj_sem_le hS.2.1 (Str_enc h18 hS) hS.1 (fun b hb => by have := hb.1; omega) hi⟩
end FIND
end
section
/-! ModalJudgeModel: stepsInto, value, lastOpen, find, holds, set -/
/-- what lastOpen finds: o = 0: all are settled; o = b + 1: b is the last that is not -/
def OPN (tk : Nat → Nat) (n : Nat) (fx bo : Nat → Nat) (o : Nat) : Prop := (o = 0 ∧ ∀ p, 0 ≤ p → p < n → mj_bnd (tk p) → bo p = fx p) ∨ (∃ b, o = b + 1 ∧ b < n ∧ mj_bnd (tk b) ∧ bo b ≠ fx b ∧ ∀ p, b + 1 ≤ p → p < n → mj_bnd (tk p) → bo p = fx p)
theorem op_skip {tk fx bo : Nat → Nat} {n j : Nat} (h : ∀ p, j + 1 ≤ p → p < n → mj_bnd (tk p) → bo p = fx p) (hj : mj_bnd (tk j) → bo j = fx j) : ∀ p, j ≤ p → p < n → mj_bnd (tk p) → bo p = fx p := by
  intro p h1 h2 h3
  by_cases e : p = j
  · subst e; exact hj h3
  · exact h p (by omega) h2 h3
/-- what holds of the model's own cells between calls -/
def MB (en fx bo sk : Nat → Nat) : Prop := (∀ j, en j < 128) ∧ (∀ j, fx j < 64) ∧ (∀ j, bo j < 64) ∧ ∀ j, sk j < 64
def UM (ad : Nat → Nat) (di : ClassId) (nx mk : Nat → Nat) (n : Nat) (tk : Nat → Nat) (u : va_W) : Prop := ∃ en bd fx bo sk, u = mwX ad di nx mk n tk en bd fx bo sk ∧ MB en fx bo sk
set_option maxHeartbeats 4000000 in
set_option maxRecDepth 100000 in
/-- stepsInto -/
theorem metX1_stepsInto (l : Launch) (D : va_G) (ad : Nat → Nat) (di db : ClassId) (nx mk : Nat → Nat) (n : Nat) (tk en bd fx bo sk : Nat → Nat) (a sm : Nat) (ha : a < 64) (hsm : sm < 2) (hnx : ∀ j, nx j < 64) : xMi l yX1_stepsInto cX1_stepsInto 6 .int ({ frames := 0, cells := 0, slots := 0, locals := 0 }) D (tyX di db) (mwX ad di nx mk n tk en bd fx bo sk) [.ref (ad 0), .int (nI a), .int (nI sm)] (fun r u => ∃ o, o < 64 ∧ r = nI o ∧ u = mwX ad di nx mk n tk en bd fx bo sk ∧ (sm = 1 → ∀ i, o.testBit i = true ↔ (i < 6 ∧ ∀ y, y < 6 → (nx i).testBit y = true → a.testBit y = true)) ∧ (sm = 0 → ∀ i, o.testBit i = true ↔ (i < 6 ∧ ∃ y, y < 6 ∧ (nx i).testBit y = true ∧ a.testBit y = true))) := by
  refine xMi_intro (by decide) (Nat.le_of_ble_eq_true rfl) ?_
  intro p e s m args below meth c A Q hx hb hml hown hts hA hK hP hD hS hret ls hl
  have hl : lv_has ls 6 [(0, .ref (ad 0)), (1, .int (nI a)), (2, .int (nI sm))] := hl
  rcases (show sm = 0 ∨ sm = 1 by omega) with rfl | rfl
  · have hl : lv_has ls 6 [(0, .ref (ad 0)), (1, .int (nI a)), (2, .int (nI 0))] := hl
    refine lv_iconst (v := nI 0) hx hb dX1_stepsInto_0 (by decide) ?_
    refine lv_istore_n (lv' := [(3, .int (nI 0)), (0, .ref (ad 0)), (1, .int (nI a)), (2, .int (nI 0))]) hx hb dX1_stepsInto_1 rfl hl (by decide) rfl (fun ls hl => ?_)
    refine lv_iconst (v := nI 0) hx hb dX1_stepsInto_2 (by decide) ?_
    refine lv_istore (lv' := [(4, .int (nI 0)), (3, .int (nI 0)), (0, .ref (ad 0)), (1, .int (nI a)), (2, .int (nI 0))]) hx hb dX1_stepsInto_3 hl (by decide) rfl (fun ls hl => ?_)
    have L : ∀ (d x : Nat) (o : Nat), 6 < x + d → x ≤ 6 → o < 64 → (∀ i, o.testBit i = true ↔ (i < x ∧ ∃ y, y < 6 ∧ (nx i).testBit y = true ∧ a.testBit y = true)) → ∀ (H : Heap) (locs : List Loc), va_P D vwCl (mwX ad di nx mk n tk en bd fx bo sk) H → va_D A (mwX ad di nx mk n tk en bd fx bo sk) → va_S A s.heap H locs → ∀ ls : Array Slot, lv_has ls 6 [(0, .ref (ad 0)), (1, .int (nI a)), (2, .int (nI 0)), (3, .int (nI o)), (4, .int (nI x))] → W p l e ({ frames := 0, cells := 0, slots := 0, locals := 0 }) s m args below meth c H locs 0 0 Q (F0 m 5 ls []) := by
      intro d
      induction d with
      | zero =>
        intro x o h1_ h2_
        exfalso; omega
      | succ d ihL =>
        intro x o h1_ h2_ ho hm H locs hP hD hS ls hl
        refine lv_iload hx hb dX1_stepsInto_5 (lv_at hl 4 rfl) ?_
        refine lv_bipush (v := nI 6) hx hb dX1_stepsInto_7 (by decide) ?_
        refine nv_icmp_ge (tgt := 75) hx hb (by omega) (by omega) dX1_stepsInto_9 (by decide) (fun c9 => ?_) (fun c9 => ?_)
        · refine lv_iload_n hx hb dX1_stepsInto_75 rfl (lv_at hl 3 rfl) ?_
          have hx6 : x = 6 := by omega
          rw [hx6] at hm
          exact hret _ _ _ _ _ (mwX ad di nx mk n tk en bd fx bo sk) rfl dX1_stepsInto_76 (⟨o, ho, rfl, rfl, fun q => absurd q (by omega), fun _ => hm⟩) hP hD hS
        · refine lv_iload_n hx hb dX1_stepsInto_12 rfl (lv_at hl 2 rfl) ?_
          refine nv_if_eq (tgt := 38) hx hb (by omega) dX1_stepsInto_13 (by decide) (fun c13 => ?_) (fun q => absurd q (by omega))
          refine lv_aload_n hx hb dX1_stepsInto_38 rfl (lv_at hl 0 rfl) ?_
          refine gX1 hx hb hts hown hK hP 0 rfl 0 (by decide) q188 rfl dX1_stepsInto_39 ?_
          refine lv_iload hx hb dX1_stepsInto_42 (lv_at hl 4 rfl) ?_
          refine nv_iald hx hb hK hP 1 0 rfl rfl (by omega) (by decide) dX1_stepsInto_44 ?_
          have hld44 := hnx x
          refine lv_iload_n hx hb dX1_stepsInto_45 rfl (lv_at hl 1 rfl) ?_
          refine nv_iand hx hb dX1_stepsInto_46 ?_
          have hnd := and_lt64 (b := a) hld44
          refine nv_if_eq (tgt := 54) hx hb (by omega) dX1_stepsInto_47 (by decide) (fun c47 => ?_) (fun c47 => ?_)
          · refine lv_iconst (v := nI 0) hx hb dX1_stepsInto_54 (by decide) ?_
            refine lv_istore (lv' := [(5, .int (nI 0)), (0, .ref (ad 0)), (1, .int (nI a)), (2, .int (nI 0)), (3, .int (nI o)), (4, .int (nI x))]) hx hb dX1_stepsInto_55 hl (by decide) rfl (fun ls hl => ?_)
            refine lv_iload hx hb dX1_stepsInto_57 (lv_at hl 0 rfl) ?_
            refine nv_if_eq (tgt := 69) hx hb (by omega) dX1_stepsInto_59 (by decide) (fun c59 => ?_) (fun q => absurd q (by omega))
            refine nv_iinc (k := 5) (lv' := [(4, .int (nI (x + 1))), (5, .int (nI 0)), (0, .ref (ad 0)), (1, .int (nI a)), (2, .int (nI 0)), (3, .int (nI o))]) (v := (nI (x + 1))) hx hb dX1_stepsInto_69 hl rfl (nI_inc _) (by decide) rfl (fun ls hl => ?_)
            refine lv_goto (tgt := 5) hx hb dX1_stepsInto_72 (by decide) ?_
            exact ihL (x + 1) o (by omega) (by omega) ho (ms_skip hm (ex_none c47)) _ _ hP hD hS ls (lv_sub hl [2, 3, 4, 5, 0] rfl)
          · refine lv_iconst (v := nI 1) hx hb dX1_stepsInto_50 (by decide) ?_
            refine lv_goto (tgt := 55) hx hb dX1_stepsInto_51 (by decide) ?_
            refine lv_istore (lv' := [(5, .int (nI 1)), (0, .ref (ad 0)), (1, .int (nI a)), (2, .int (nI 0)), (3, .int (nI o)), (4, .int (nI x))]) hx hb dX1_stepsInto_55 hl (by decide) rfl (fun ls hl => ?_)
            refine lv_iload hx hb dX1_stepsInto_57 (lv_at hl 0 rfl) ?_
            refine nv_if_eq (tgt := 69) hx hb (by omega) dX1_stepsInto_59 (by decide) (fun q => absurd q (by omega)) (fun c59 => ?_)
            refine lv_iload_n hx hb dX1_stepsInto_62 rfl (lv_at hl 4 rfl) ?_
            refine lv_iconst (v := nI 1) hx hb dX1_stepsInto_63 (by decide) ?_
            refine lv_iload hx hb dX1_stepsInto_64 (lv_at hl 5 rfl) ?_
            refine nv_ishl hx hb (by omega) (p2lt (by omega)) dX1_stepsInto_66 ?_
            refine nv_ior hx hb dX1_stepsInto_67 ?_
            refine lv_istore_n (lv' := [(3, .int (nI (o ||| (1 * 2 ^ x)))), (5, .int (nI 1)), (0, .ref (ad 0)), (1, .int (nI a)), (2, .int (nI 0)), (4, .int (nI x))]) hx hb dX1_stepsInto_68 rfl hl (by decide) rfl (fun ls hl => ?_)
            refine nv_iinc (k := 5) (lv' := [(4, .int (nI (x + 1))), (3, .int (nI (o ||| (1 * 2 ^ x)))), (5, .int (nI 1)), (0, .ref (ad 0)), (1, .int (nI a)), (2, .int (nI 0))]) (v := (nI (x + 1))) hx hb dX1_stepsInto_69 hl rfl (nI_inc _) (by decide) rfl (fun ls hl => ?_)
            refine lv_goto (tgt := 5) hx hb dX1_stepsInto_72 (by decide) ?_
            exact ihL (x + 1) _ (by omega) (by omega) (ms_lt ho (by omega)) (ms_add hm (ex_some hld44 c47)) _ _ hP hD hS ls (lv_sub hl [3, 4, 5, 1, 0] rfl)
    exact L 7 0 0 (by omega) (by omega) (by omega) ms_0 _ _ hP hD hS ls (lv_sub hl [2, 3, 4, 1, 0] rfl)
  · have hl : lv_has ls 6 [(0, .ref (ad 0)), (1, .int (nI a)), (2, .int (nI 1))] := hl
    refine lv_iconst (v := nI 0) hx hb dX1_stepsInto_0 (by decide) ?_
    refine lv_istore_n (lv' := [(3, .int (nI 0)), (0, .ref (ad 0)), (1, .int (nI a)), (2, .int (nI 1))]) hx hb dX1_stepsInto_1 rfl hl (by decide) rfl (fun ls hl => ?_)
    refine lv_iconst (v := nI 0) hx hb dX1_stepsInto_2 (by decide) ?_
    refine lv_istore (lv' := [(4, .int (nI 0)), (3, .int (nI 0)), (0, .ref (ad 0)), (1, .int (nI a)), (2, .int (nI 1))]) hx hb dX1_stepsInto_3 hl (by decide) rfl (fun ls hl => ?_)
    have L : ∀ (d x : Nat) (o : Nat), 6 < x + d → x ≤ 6 → o < 64 → (∀ i, o.testBit i = true ↔ (i < x ∧ ∀ y, y < 6 → (nx i).testBit y = true → a.testBit y = true)) → ∀ (H : Heap) (locs : List Loc), va_P D vwCl (mwX ad di nx mk n tk en bd fx bo sk) H → va_D A (mwX ad di nx mk n tk en bd fx bo sk) → va_S A s.heap H locs → ∀ ls : Array Slot, lv_has ls 6 [(0, .ref (ad 0)), (1, .int (nI a)), (2, .int (nI 1)), (3, .int (nI o)), (4, .int (nI x))] → W p l e ({ frames := 0, cells := 0, slots := 0, locals := 0 }) s m args below meth c H locs 0 0 Q (F0 m 5 ls []) := by
      intro d
      induction d with
      | zero =>
        intro x o h1_ h2_
        exfalso; omega
      | succ d ihL =>
        intro x o h1_ h2_ ho hm H locs hP hD hS ls hl
        refine lv_iload hx hb dX1_stepsInto_5 (lv_at hl 4 rfl) ?_
        refine lv_bipush (v := nI 6) hx hb dX1_stepsInto_7 (by decide) ?_
        refine nv_icmp_ge (tgt := 75) hx hb (by omega) (by omega) dX1_stepsInto_9 (by decide) (fun c9 => ?_) (fun c9 => ?_)
        · refine lv_iload_n hx hb dX1_stepsInto_75 rfl (lv_at hl 3 rfl) ?_
          have hx6 : x = 6 := by omega
          rw [hx6] at hm
          exact hret _ _ _ _ _ (mwX ad di nx mk n tk en bd fx bo sk) rfl dX1_stepsInto_76 (⟨o, ho, rfl, rfl, fun _ => hm, fun q => absurd q (by omega)⟩) hP hD hS
        · refine lv_iload_n hx hb dX1_stepsInto_12 rfl (lv_at hl 2 rfl) ?_
          refine nv_if_eq (tgt := 38) hx hb (by omega) dX1_stepsInto_13 (by decide) (fun q => absurd q (by omega)) (fun c13 => ?_)
          refine lv_aload_n hx hb dX1_stepsInto_16 rfl (lv_at hl 0 rfl) ?_
          refine gX1 hx hb hts hown hK hP 0 rfl 0 (by decide) q188 rfl dX1_stepsInto_17 ?_
          refine lv_iload hx hb dX1_stepsInto_20 (lv_at hl 4 rfl) ?_
          refine nv_iald hx hb hK hP 1 0 rfl rfl (by omega) (by decide) dX1_stepsInto_22 ?_
          have hld22 := hnx x
          refine lv_iload_n hx hb dX1_stepsInto_23 rfl (lv_at hl 1 rfl) ?_
          refine lv_iconst (v := (-1)) hx hb dX1_stepsInto_24 (by decide) ?_
          refine lv_ixor hx hb dX1_stepsInto_25 ?_
          refine nv_iandn hx hb (by omega) (by omega) dX1_stepsInto_26 ?_
          have hnd := and_lt64 (b := a ^^^ 63) hld22
          refine nv_if_ne (tgt := 34) hx hb (by omega) dX1_stepsInto_27 (by decide) (fun c27 => ?_) (fun c27 => ?_)
          · refine lv_iconst (v := nI 0) hx hb dX1_stepsInto_34 (by decide) ?_
            refine lv_goto (tgt := 55) hx hb dX1_stepsInto_35 (by decide) ?_
            refine lv_istore (lv' := [(5, .int (nI 0)), (0, .ref (ad 0)), (1, .int (nI a)), (2, .int (nI 1)), (3, .int (nI o)), (4, .int (nI x))]) hx hb dX1_stepsInto_55 hl (by decide) rfl (fun ls hl => ?_)
            refine lv_iload hx hb dX1_stepsInto_57 (lv_at hl 0 rfl) ?_
            refine nv_if_eq (tgt := 69) hx hb (by omega) dX1_stepsInto_59 (by decide) (fun c59 => ?_) (fun q => absurd q (by omega))
            refine nv_iinc (k := 5) (lv' := [(4, .int (nI (x + 1))), (5, .int (nI 0)), (0, .ref (ad 0)), (1, .int (nI a)), (2, .int (nI 1)), (3, .int (nI o))]) (v := (nI (x + 1))) hx hb dX1_stepsInto_69 hl rfl (nI_inc _) (by decide) rfl (fun ls hl => ?_)
            refine lv_goto (tgt := 5) hx hb dX1_stepsInto_72 (by decide) ?_
            exact ihL (x + 1) o (by omega) (by omega) ho (ms_skip hm (sub_not hld22 c27)) _ _ hP hD hS ls (lv_sub hl [2, 3, 4, 5, 0] rfl)
          · refine lv_iconst (v := nI 1) hx hb dX1_stepsInto_30 (by decide) ?_
            refine lv_goto (tgt := 55) hx hb dX1_stepsInto_31 (by decide) ?_
            refine lv_istore (lv' := [(5, .int (nI 1)), (0, .ref (ad 0)), (1, .int (nI a)), (2, .int (nI 1)), (3, .int (nI o)), (4, .int (nI x))]) hx hb dX1_stepsInto_55 hl (by decide) rfl (fun ls hl => ?_)
            refine lv_iload hx hb dX1_stepsInto_57 (lv_at hl 0 rfl) ?_
            refine nv_if_eq (tgt := 69) hx hb (by omega) dX1_stepsInto_59 (by decide) (fun q => absurd q (by omega)) (fun c59 => ?_)
            refine lv_iload_n hx hb dX1_stepsInto_62 rfl (lv_at hl 4 rfl) ?_
            refine lv_iconst (v := nI 1) hx hb dX1_stepsInto_63 (by decide) ?_
            refine lv_iload hx hb dX1_stepsInto_64 (lv_at hl 5 rfl) ?_
            refine nv_ishl hx hb (by omega) (p2lt (by omega)) dX1_stepsInto_66 ?_
            refine nv_ior hx hb dX1_stepsInto_67 ?_
            refine lv_istore_n (lv' := [(3, .int (nI (o ||| (1 * 2 ^ x)))), (5, .int (nI 1)), (0, .ref (ad 0)), (1, .int (nI a)), (2, .int (nI 1)), (4, .int (nI x))]) hx hb dX1_stepsInto_68 rfl hl (by decide) rfl (fun ls hl => ?_)
            refine nv_iinc (k := 5) (lv' := [(4, .int (nI (x + 1))), (3, .int (nI (o ||| (1 * 2 ^ x)))), (5, .int (nI 1)), (0, .ref (ad 0)), (1, .int (nI a)), (2, .int (nI 1))]) (v := (nI (x + 1))) hx hb dX1_stepsInto_69 hl rfl (nI_inc _) (by decide) rfl (fun ls hl => ?_)
            refine lv_goto (tgt := 5) hx hb dX1_stepsInto_72 (by decide) ?_
            exact ihL (x + 1) _ (by omega) (by omega) (ms_lt ho (by omega)) (ms_add hm (sub_all hld22 c27)) _ _ hP hD hS ls (lv_sub hl [3, 4, 5, 1, 0] rfl)
    exact L 7 0 0 (by omega) (by omega) (by omega) ms_0 _ _ hP hD hS ls (lv_sub hl [2, 3, 4, 1, 0] rfl)
set_option maxHeartbeats 4000000 in
set_option maxRecDepth 100000 in
/-- value -/
theorem metX1_value (l : Launch) (D : va_G) (ad : Nat → Nat) (di db : ClassId) (nx mk : Nat → Nat) (n : Nat) (tk en bd fx bo sk : Nat → Nat)  (hn : n ≤ 12) (htk : ∀ j, tk j ≤ 18) (hmk : ∀ j, mk j < 64) (hnx : ∀ j, nx j < 64) (hS0 : Str tk n en (fun k => bd k - 1)) (hbp : ∀ k, k < n → 16 ≤ tk k → 0 < bd k) (hfx : ∀ j, fx j < 64) (hbo : ∀ j, bo j < 64) (hsk : ∀ j, sk j < 64) : xMi l yX1_value cX1_value 7 .int ({ frames := 1, cells := 0, slots := 0, locals := 25 }) D (tyX di db) (mwX ad di nx mk n tk en bd fx bo sk) [.ref (ad 0)] (fun r u => ∃ v bo1 sk1, r = nI v ∧ v < 64 ∧ u = mwX ad di nx mk n tk en bd fx bo1 sk1 ∧ (∀ j, bo1 j < 64) ∧ (∀ j, sk1 j < 64) ∧ BV nx mk tk n en (fun k => bd k - 1) fx bo1 ∧ ∀ i, i < 6 → (v.testBit i = true ↔ mj_val nx mk tk n en (fun k => bd k - 1) 0 (fS fx) i)) := by
  refine xMi_intro (by decide) (Nat.le_of_ble_eq_true rfl) ?_
  intro p e s m args below meth c A Q hx hb hml hown hts hA hK hP hD hS hret ls hl
  have hl : lv_has ls 7 [(0, .ref (ad 0))] := hl
  have hE := hS0.2.1
  refine lv_iconst (v := nI 0) hx hb dX1_value_0 (by decide) ?_
  refine lv_istore_n (lv' := [(1, .int (nI 0)), (0, .ref (ad 0))]) hx hb dX1_value_1 rfl hl (by decide) rfl (fun ls hl => ?_)
  refine lv_aload_n hx hb dX1_value_2 rfl (lv_at hl 1 rfl) ?_
  refine gX1 hx hb hts hown hK hP 0 rfl 2 (by decide) q190 rfl dX1_value_3 ?_
  refine lv_iconst (v := nI 1) hx hb dX1_value_6 (by decide) ?_
  refine nv_isub1 hx hb dX1_value_7 ?_
  refine lv_istore_n (lv' := [(2, .int (nP n)), (1, .int (nI 0)), (0, .ref (ad 0))]) hx hb dX1_value_8 rfl hl (by decide) rfl (fun ls hl => ?_)
  have L : ∀ (j top : Nat) (sk1 bo1 : Nat → Nat), j ≤ n → VI nx mk tk n en (fun k => bd k - 1) (fS fx) j top sk1 bo1 → (∀ i, sk1 i < 64) → (∀ i, bo1 i < 64) → ∀ (H : Heap) (locs : List Loc), va_P D vwCl (mwX ad di nx mk n tk en bd fx bo1 sk1) H → va_D A (mwX ad di nx mk n tk en bd fx bo1 sk1) → va_S A s.heap H locs → ∀ ls : Array Slot, lv_has ls 7 [(0, .ref (ad 0)), (1, .int (nI top)), (2, .int (nP j))] → W p l e ({ frames := 1, cells := 0, slots := 0, locals := 25 }) s m args below meth c H locs 0 0 Q (F0 m 9 ls []) := by
    intro j
    induction j with
    | zero =>
      intro top sk1 bo1 hj hV hsk1 hbo1 H locs hP hD hS ls hl
      refine lv_iload_n hx hb dX1_value_9 rfl (lv_at hl 2 rfl) ?_
      refine nv_if_ltP (tgt := 244) hx hb dX1_value_10 (by decide) ?_
      refine lv_aload_n hx hb dX1_value_244 rfl (lv_at hl 0 rfl) ?_
      refine gX1 hx hb hts hown hK hP 0 rfl 8 (by decide) q196 rfl dX1_value_245 ?_
      refine lv_iconst (v := nI 0) hx hb dX1_value_248 (by decide) ?_
      refine nv_iald hx hb hK hP 8 0 rfl rfl (by omega) (by decide) dX1_value_249 ?_
      exact hret _ _ _ _ _ (mwX ad di nx mk n tk en bd fx bo1 sk1) rfl dX1_value_250 (⟨sk1 0, bo1, sk1, rfl, hsk1 0, rfl, hbo1, hsk1, fun k hk hkb => hV.2.2.2 k (Nat.zero_le k) hk hkb, VI_end hV hS0.1 hS0.2.2.1⟩) hP hD hS
    | succ j ih =>
      intro top sk1 bo1 hj hV hsk1 hbo1 H locs hP hD hS ls hl
      rw [nP_succ] at hl
      have h18j := htk j
      have hj0 : j < n := hj
      have hV1 := hV.1
      have har := VI_ar hE hV hj0
      have T : ∀ (made : Nat) (bo2 : Nat → Nat), made < 64 → (∀ i, bo2 i < 64) → (∀ i, i < 6 → (made.testBit i = true ↔ mj_val nx mk tk n en (fun k => bd k - 1) j (fS fx) i)) → (∀ k, j + 1 ≤ k → bo2 k = bo1 k) → (mj_bnd (tk j) → ∀ i, i < 6 → ((bo2 j).testBit i = true ↔ mj_val nx mk tk n en (fun k => bd k - 1) (j + 1) (fS fx) i)) → ∀ (H : Heap) (locs : List Loc), va_P D vwCl (mwX ad di nx mk n tk en bd fx bo2 sk1) H → va_D A (mwX ad di nx mk n tk en bd fx bo2 sk1) → va_S A s.heap H locs → ∀ ls : Array Slot, lv_has ls 7 [(0, .ref (ad 0)), (1, .int (nI top)), (2, .int (nI j)), (3, .int (nI (tk j))), (6, .int (nI made))] → W p l e ({ frames := 1, cells := 0, slots := 0, locals := 25 }) s m args below meth c H locs 0 0 Q (F0 m 209 ls []) := by
        intro made bo2 hm64 hbo2 hm hb1 hb2 H locs hP hD hS ls hl
        refine lv_iload_n hx hb dX1_value_209 rfl (lv_at hl 1 rfl) ?_
        refine lv_aload_n hx hb dX1_value_210 rfl (lv_at hl 0 rfl) ?_
        refine lv_iload_n hx hb dX1_value_211 rfl (lv_at hl 3 rfl) ?_
        refine pcall_i (As := [.int (nI (tk j))]) (rest := [.int (nI top)]) (ci := 1) (q0 := 0) ⟨hx, hb, hml, hown, hts⟩ (metX1_arity l (ad 0) (tk j) (by omega)) (cwV 1 hts (lw_V q252 q254 qs17 q28 q255) rfl rfl rfl (by decide +kernel) ⟨Nat.le_of_ble_eq_true rfl, Nat.le_of_ble_eq_true rfl⟩) rfl rfl hK hP rfl hl.1 rfl (Nat.le_of_ble_eq_true rfl) dX1_value_212 ⟨Nat.zero_le _, Nat.zero_le _⟩ (fun r hr => ?_)
        subst hr
        refine nv_isub hx hb (by omega) dX1_value_215 ?_
        refine lv_iconst (v := nI 1) hx hb dX1_value_216 (by decide) ?_
        refine nv_iadd hx hb dX1_value_217 ?_
        refine lv_istore_n (lv' := [(1, .int (nI ((top - (mj_ar (tk j))) + 1))), (0, .ref (ad 0)), (2, .int (nI j)), (3, .int (nI (tk j))), (6, .int (nI made))]) hx hb dX1_value_218 rfl hl (by decide) rfl (fun ls hl => ?_)
        refine lv_aload_n hx hb dX1_value_219 rfl (lv_at hl 1 rfl) ?_
        refine gX1 hx hb hts hown hK hP 0 rfl 8 (by decide) q196 rfl dX1_value_220 ?_
        refine lv_iload_n hx hb dX1_value_223 rfl (lv_at hl 0 rfl) ?_
        refine lv_iconst (v := nI 1) hx hb dX1_value_224 (by decide) ?_
        refine nv_icmp_ge (tgt := 232) hx hb (by omega) (by omega) dX1_value_225 (by decide) (fun c225 => ?_) (fun q => absurd q (by omega))
        refine lv_iload_n hx hb dX1_value_232 rfl (lv_at hl 0 rfl) ?_
        refine lv_iconst (v := nI 1) hx hb dX1_value_233 (by decide) ?_
        refine nv_isub hx hb (by omega) dX1_value_234 ?_
        refine lv_iload hx hb dX1_value_235 (lv_at hl 4 rfl) ?_
        refine nv_iast hx hb hK hP hD hS 8 0 rfl rfl (by omega) (by decide) dX1_value_237 (fun H locs hP hD hS => ?_)
        have hP : va_P D vwCl (mwX ad di nx mk n tk en bd fx bo2 (upN sk1 (((top - (mj_ar (tk j))) + 1) - 1) made)) H := hP
        have hD : va_D A (mwX ad di nx mk n tk en bd fx bo2 (upN sk1 (((top - (mj_ar (tk j))) + 1) - 1) made)) := hD
        refine nv_iinc (k := 2) (lv' := [(2, .int (nP j)), (1, .int (nI ((top - (mj_ar (tk j))) + 1))), (0, .ref (ad 0)), (3, .int (nI (tk j))), (6, .int (nI made))]) (v := (nP j)) hx hb dX1_value_238 hl rfl (nI_dec _) (by decide) rfl (fun ls hl => ?_)
        refine lv_goto (tgt := 9) hx hb dX1_value_241 (by decide) ?_
        exact ih (top - mj_ar (tk j) + 1) _ bo2 (by omega) (VI_step hE hV hj0 hm hb1 hb2) (upN_lt hsk1 hm64) hbo2 _ _ hP hD hS ls (lv_sub hl [2, 1, 0] rfl)
      have M : ∀ (a b : Nat), a < 64 → b < 64 → (mj_ar (tk j) ≠ 0 → ∀ i, i < 6 → (a.testBit i = true ↔ mj_val nx mk tk n en (fun k => bd k - 1) (j + 1) (fS fx) i)) → (mj_ar (tk j) = 2 → ∀ i, i < 6 → (b.testBit i = true ↔ mj_val nx mk tk n en (fun k => bd k - 1) (en (j + 1)) (fS fx) i)) → ∀ (H : Heap) (locs : List Loc), va_P D vwCl (mwX ad di nx mk n tk en bd fx bo1 sk1) H → va_D A (mwX ad di nx mk n tk en bd fx bo1 sk1) → va_S A s.heap H locs → ∀ ls : Array Slot, lv_has ls 7 [(0, .ref (ad 0)), (1, .int (nI top)), (2, .int (nI j)), (3, .int (nI (tk j))), (4, .int (nI a)), (5, .int (nI b))] → W p l e ({ frames := 1, cells := 0, slots := 0, locals := 25 }) s m args below meth c H locs 0 0 Q (F0 m 57 ls []) := by
        intro a b ha64 hb64 hSa hSb H locs hP hD hS ls hl
        refine lv_iconst (v := nI 0) hx hb dX1_value_57 (by decide) ?_
        refine lv_istore (lv' := [(6, .int (nI 0)), (0, .ref (ad 0)), (1, .int (nI top)), (2, .int (nI j)), (3, .int (nI (tk j))), (4, .int (nI a)), (5, .int (nI b))]) hx hb dX1_value_58 hl (by decide) rfl (fun ls hl => ?_)
        refine lv_iload_n hx hb dX1_value_60 rfl (lv_at hl 4 rfl) ?_
        refine lv_iconst (v := nI 3) hx hb dX1_value_61 (by decide) ?_
        refine nv_icmp_ge (tgt := 76) hx hb (by omega) (by omega) dX1_value_62 (by decide) (fun c62 => ?_) (fun c62 => ?_)
        · refine lv_iload_n hx hb dX1_value_76 rfl (lv_at hl 4 rfl) ?_
          refine lv_bipush (v := nI 6) hx hb dX1_value_77 (by decide) ?_
          refine nv_icmp_ge (tgt := 100) hx hb (by omega) (by omega) dX1_value_79 (by decide) (fun c79 => ?_) (fun c79 => ?_)
          · refine lv_iload_n hx hb dX1_value_100 rfl (lv_at hl 4 rfl) ?_
            refine lv_bipush (v := nI 8) hx hb dX1_value_101 (by decide) ?_
            refine nv_icmp_ge (tgt := 130) hx hb (by omega) (by omega) dX1_value_103 (by decide) (fun c103 => ?_) (fun c103 => ?_)
            · refine lv_iload_n hx hb dX1_value_130 rfl (lv_at hl 4 rfl) ?_
              refine lv_bipush (v := nI 10) hx hb dX1_value_131 (by decide) ?_
              refine nv_icmp_ge (tgt := 158) hx hb (by omega) (by omega) dX1_value_133 (by decide) (fun c133 => ?_) (fun c133 => ?_)
              · refine lv_iload_n hx hb dX1_value_158 rfl (lv_at hl 4 rfl) ?_
                refine lv_bipush (v := nI 16) hx hb dX1_value_159 (by decide) ?_
                refine nv_icmp_ge (tgt := 183) hx hb (by omega) (by omega) dX1_value_161 (by decide) (fun c161 => ?_) (fun c161 => ?_)
                · have hp9 := hbp j hj0 c161
                  obtain ⟨b9, hb9⟩ : ∃ b9, bd j = b9 + 1 := ⟨bd j - 1, by omega⟩
                  have hB9 : (fun k => bd k - 1) j = b9 := by show bd j - 1 = b9; omega
                  have hIB : bd j - 1 < j := (Str_enc htk hS0 j hj0 c161).1
                  refine lv_aload_n hx hb dX1_value_183 rfl (lv_at hl 1 rfl) ?_
                  refine gX1 hx hb hts hown hK hP 0 rfl 6 (by decide) q194 rfl dX1_value_184 ?_
                  refine lv_aload_n hx hb dX1_value_187 rfl (lv_at hl 1 rfl) ?_
                  refine gX1 hx hb hts hown hK hP 0 rfl 5 (by decide) q193 rfl dX1_value_188 ?_
                  refine lv_iload_n hx hb dX1_value_191 rfl (lv_at hl 3 rfl) ?_
                  refine nw_iald hx hb hK hP 5 0 rfl rfl (by omega) (by decide) dX1_value_192 ?_
                  rw [hb9, nP_succ]
                  refine nv_if_ge (tgt := 200) hx hb (by omega) dX1_value_193 (by decide) ?_
                  refine lv_aload_n hx hb dX1_value_200 rfl (lv_at hl 1 rfl) ?_
                  refine gX1 hx hb hts hown hK hP 0 rfl 5 (by decide) q193 rfl dX1_value_201 ?_
                  refine lv_iload_n hx hb dX1_value_204 rfl (lv_at hl 3 rfl) ?_
                  refine nw_iald hx hb hK hP 5 0 rfl rfl (by omega) (by decide) dX1_value_205 ?_
                  rw [hb9, nP_succ]
                  refine nv_iald hx hb hK hP 6 0 rfl rfl (by omega) (by decide) dX1_value_206 ?_
                  refine lv_istore (lv' := [(6, .int (nI (fx b9))), (0, .ref (ad 0)), (1, .int (nI top)), (2, .int (nI j)), (3, .int (nI (tk j))), (4, .int (nI a)), (5, .int (nI b))]) hx hb dX1_value_207 hl (by decide) rfl (fun ls hl => ?_)
                  exact T (fx b9) bo1 (hfx _) hbo1 (by rw [← hB9]; exact made_name (B := (fun k => bd k - 1)) hj0 c161) (fun _ _ => rfl) (fun hb => absurd hb.2 (by omega)) _ _ hP hD hS ls (lv_sub hl [1, 2, 3, 4, 0] rfl)
                · refine lv_aload_n hx hb dX1_value_164 rfl (lv_at hl 1 rfl) ?_
                  refine gX1 hx hb hts hown hK hP 0 rfl 7 (by decide) q195 rfl dX1_value_165 ?_
                  refine lv_iload_n hx hb dX1_value_168 rfl (lv_at hl 3 rfl) ?_
                  refine lv_iload hx hb dX1_value_169 (lv_at hl 5 rfl) ?_
                  refine nv_iast hx hb hK hP hD hS 7 0 rfl rfl (by omega) (by decide) dX1_value_171 (fun H locs hP hD hS => ?_)
                  have hP : va_P D vwCl (mwX ad di nx mk n tk en bd fx (upN bo1 j a) sk1) H := hP
                  have hD : va_D A (mwX ad di nx mk n tk en bd fx (upN bo1 j a) sk1) := hD
                  refine lv_aload_n hx hb dX1_value_172 rfl (lv_at hl 1 rfl) ?_
                  refine gX1 hx hb hts hown hK hP 0 rfl 6 (by decide) q194 rfl dX1_value_173 ?_
                  refine lv_iload_n hx hb dX1_value_176 rfl (lv_at hl 3 rfl) ?_
                  refine nv_iald hx hb hK hP 6 0 rfl rfl (by omega) (by decide) dX1_value_177 ?_
                  refine lv_istore (lv' := [(6, .int (nI (fx j))), (0, .ref (ad 0)), (1, .int (nI top)), (2, .int (nI j)), (3, .int (nI (tk j))), (4, .int (nI a)), (5, .int (nI b))]) hx hb dX1_value_178 hl (by decide) rfl (fun ls hl => ?_)
                  refine lv_goto (tgt := 209) hx hb dX1_value_180 (by decide) ?_
                  exact T (fx j) (upN bo1 j a) (hfx _) (upN_lt hbo1 ha64) (made_bnd hj0 (by omega) c161) (fun k hk => upN_n _ _ (by omega)) (fun hb i hi => by rw [upN_s]; exact hSa (by rw [Ne, mj_ar0]; omega) i hi) _ _ hP hD hS ls (lv_sub hl [1, 2, 3, 4, 0] rfl)
              · refine lv_aload_n hx hb dX1_value_136 rfl (lv_at hl 1 rfl) ?_
                refine lv_iload hx hb dX1_value_137 (lv_at hl 5 rfl) ?_
                refine lv_iload_n hx hb dX1_value_139 rfl (lv_at hl 4 rfl) ?_
                refine lv_bipush (v := nI 9) hx hb dX1_value_140 (by decide) ?_
                refine nv_icmp_ne (tgt := 149) hx hb (by omega) (by omega) dX1_value_142 (by decide) (fun c142 => ?_) (fun c142 => ?_)
                · refine lv_iconst (v := nI 0) hx hb dX1_value_149 (by decide) ?_
                  refine xcall_i (As := [.int (nI a), .int (nI 0)]) (rest := []) (ci := 1) ⟨hx, hb, hml, hown, hts⟩ (metX1_stepsInto l D ad di db nx mk n tk en bd fx bo1 sk1 a 0 ha64 (by omega) hnx) (cwV 2 hts (lw_V q281 q283 qs23 q28 q284) rfl rfl rfl (by decide +kernel) ⟨Nat.le_of_ble_eq_true rfl, Nat.le_of_ble_eq_true rfl⟩) rfl rfl hK hP hD hS hA rfl hl.1 rfl (Nat.le_of_ble_eq_true rfl) dX1_value_150 ⟨Nat.zero_le _, Nat.zero_le _⟩ (fun r u H locs hw hP hD hS => ?_)
                  obtain ⟨o, ho64, rfl, rfl, ho1, ho0⟩ := hw
                  refine lv_istore (lv' := [(6, .int (nI o)), (0, .ref (ad 0)), (1, .int (nI top)), (2, .int (nI j)), (3, .int (nI (tk j))), (4, .int (nI a)), (5, .int (nI b))]) hx hb dX1_value_153 hl (by decide) rfl (fun ls hl => ?_)
                  refine lv_goto (tgt := 209) hx hb dX1_value_155 (by decide) ?_
                  exact T (o) bo1 (ho64) hbo1 (made_8 hE hj0 (by omega) (hSa (by rw [Ne, mj_ar0]; omega)) (ho0 rfl)) (fun _ _ => rfl) (fun hb => absurd hb.1 (by omega)) _ _ hP hD hS ls (lv_sub hl [1, 2, 3, 4, 0] rfl)
                · refine lv_iconst (v := nI 1) hx hb dX1_value_145 (by decide) ?_
                  refine lv_goto (tgt := 150) hx hb dX1_value_146 (by decide) ?_
                  refine xcall_i (As := [.int (nI a), .int (nI 1)]) (rest := []) (ci := 1) ⟨hx, hb, hml, hown, hts⟩ (metX1_stepsInto l D ad di db nx mk n tk en bd fx bo1 sk1 a 1 ha64 (by omega) hnx) (cwV 2 hts (lw_V q281 q283 qs23 q28 q284) rfl rfl rfl (by decide +kernel) ⟨Nat.le_of_ble_eq_true rfl, Nat.le_of_ble_eq_true rfl⟩) rfl rfl hK hP hD hS hA rfl hl.1 rfl (Nat.le_of_ble_eq_true rfl) dX1_value_150 ⟨Nat.zero_le _, Nat.zero_le _⟩ (fun r u H locs hw hP hD hS => ?_)
                  obtain ⟨o, ho64, rfl, rfl, ho1, ho0⟩ := hw
                  refine lv_istore (lv' := [(6, .int (nI o)), (0, .ref (ad 0)), (1, .int (nI top)), (2, .int (nI j)), (3, .int (nI (tk j))), (4, .int (nI a)), (5, .int (nI b))]) hx hb dX1_value_153 hl (by decide) rfl (fun ls hl => ?_)
                  refine lv_goto (tgt := 209) hx hb dX1_value_155 (by decide) ?_
                  exact T (o) bo1 (ho64) hbo1 (made_9 hE hj0 c142 (hSa (by rw [Ne, mj_ar0]; omega)) (ho1 rfl)) (fun _ _ => rfl) (fun hb => absurd hb.1 (by omega)) _ _ hP hD hS ls (lv_sub hl [1, 2, 3, 4, 0] rfl)
            · refine lv_iload_n hx hb dX1_value_106 rfl (lv_at hl 4 rfl) ?_
              refine lv_bipush (v := nI 6) hx hb dX1_value_107 (by decide) ?_
              refine nv_icmp_ne (tgt := 120) hx hb (by omega) (by omega) dX1_value_109 (by decide) (fun c109 => ?_) (fun c109 => ?_)
              · refine lv_iload hx hb dX1_value_120 (lv_at hl 5 rfl) ?_
                refine lv_iload hx hb dX1_value_122 (lv_at hl 6 rfl) ?_
                refine nv_ior hx hb dX1_value_124 ?_
                refine lv_istore (lv' := [(6, .int (nI (a ||| b))), (0, .ref (ad 0)), (1, .int (nI top)), (2, .int (nI j)), (3, .int (nI (tk j))), (4, .int (nI a)), (5, .int (nI b))]) hx hb dX1_value_125 hl (by decide) rfl (fun ls hl => ?_)
                refine lv_goto (tgt := 209) hx hb dX1_value_127 (by decide) ?_
                exact T (a ||| b) bo1 (or_lt64 ha64 hb64) hbo1 (made_7 hE hj0 (by omega) (hSa (by rw [Ne, mj_ar0]; omega)) (hSb (mj_ar2.mpr (by omega)))) (fun _ _ => rfl) (fun hb => absurd hb.1 (by omega)) _ _ hP hD hS ls (lv_sub hl [1, 2, 3, 4, 0] rfl)
              · refine lv_iload hx hb dX1_value_112 (lv_at hl 5 rfl) ?_
                refine lv_iload hx hb dX1_value_114 (lv_at hl 6 rfl) ?_
                refine nv_iand hx hb dX1_value_116 ?_
                refine lv_goto (tgt := 125) hx hb dX1_value_117 (by decide) ?_
                refine lv_istore (lv' := [(6, .int (nI (a &&& b))), (0, .ref (ad 0)), (1, .int (nI top)), (2, .int (nI j)), (3, .int (nI (tk j))), (4, .int (nI a)), (5, .int (nI b))]) hx hb dX1_value_125 hl (by decide) rfl (fun ls hl => ?_)
                refine lv_goto (tgt := 209) hx hb dX1_value_127 (by decide) ?_
                exact T (a &&& b) bo1 (and_lt64 ha64) hbo1 (made_6 hE hj0 c109 (hSa (by rw [Ne, mj_ar0]; omega)) (hSb (mj_ar2.mpr (by omega)))) (fun _ _ => rfl) (fun hb => absurd hb.1 (by omega)) _ _ hP hD hS ls (lv_sub hl [1, 2, 3, 4, 0] rfl)
          · refine lv_bipush (v := nI 63) hx hb dX1_value_82 (by decide) ?_
            refine lv_aload_n hx hb dX1_value_84 rfl (lv_at hl 1 rfl) ?_
            refine gX1 hx hb hts hown hK hP 0 rfl 1 (by decide) q189 rfl dX1_value_85 ?_
            refine lv_iload_n hx hb dX1_value_88 rfl (lv_at hl 4 rfl) ?_
            refine lv_iconst (v := nI 3) hx hb dX1_value_89 (by decide) ?_
            refine nv_isub hx hb (by omega) dX1_value_90 ?_
            refine nv_iald hx hb hK hP 2 0 rfl rfl (by omega) (by decide) dX1_value_91 ?_
            have hld91 := hmk ((tk j) - 3)
            refine lv_iconst (v := (-1)) hx hb dX1_value_92 (by decide) ?_
            refine lv_ixor hx hb dX1_value_93 ?_
            refine nv_iandn hx hb (by omega) (by omega) dX1_value_94 ?_
            refine lv_istore (lv' := [(6, .int (nI (63 &&& ((mk ((tk j) - 3)) ^^^ 63)))), (0, .ref (ad 0)), (1, .int (nI top)), (2, .int (nI j)), (3, .int (nI (tk j))), (4, .int (nI a)), (5, .int (nI b))]) hx hb dX1_value_95 hl (by decide) rfl (fun ls hl => ?_)
            refine lv_goto (tgt := 209) hx hb dX1_value_97 (by decide) ?_
            exact T (63 &&& ((mk ((tk j) - 3)) ^^^ 63)) bo1 (and_lt64 (by omega)) hbo1 (made_b hE hj0 c62 c79) (fun _ _ => rfl) (fun hb => absurd hb.1 (by omega)) _ _ hP hD hS ls (lv_sub hl [1, 2, 3, 4, 0] rfl)
        · refine lv_aload_n hx hb dX1_value_65 rfl (lv_at hl 1 rfl) ?_
          refine gX1 hx hb hts hown hK hP 0 rfl 1 (by decide) q189 rfl dX1_value_66 ?_
          refine lv_iload_n hx hb dX1_value_69 rfl (lv_at hl 4 rfl) ?_
          refine nv_iald hx hb hK hP 2 0 rfl rfl (by omega) (by decide) dX1_value_70 ?_
          have hld70 := hmk (tk j)
          refine lv_istore (lv' := [(6, .int (nI (mk (tk j)))), (0, .ref (ad 0)), (1, .int (nI top)), (2, .int (nI j)), (3, .int (nI (tk j))), (4, .int (nI a)), (5, .int (nI b))]) hx hb dX1_value_71 hl (by decide) rfl (fun ls hl => ?_)
          refine lv_goto (tgt := 209) hx hb dX1_value_73 (by decide) ?_
          exact T (mk (tk j)) bo1 (hmk _) hbo1 (made_a hE hj0 c62) (fun _ _ => rfl) (fun hb => absurd hb.1 (by omega)) _ _ hP hD hS ls (lv_sub hl [1, 2, 3, 4, 0] rfl)
      refine lv_iload_n hx hb dX1_value_9 rfl (lv_at hl 2 rfl) ?_
      refine nv_if_lt (tgt := 244) hx hb (by omega) dX1_value_10 (by decide) ?_
      refine lv_aload_n hx hb dX1_value_13 rfl (lv_at hl 0 rfl) ?_
      refine gX1 hx hb hts hown hK hP 0 rfl 3 (by decide) q191 rfl dX1_value_14 ?_
      refine lv_iload_n hx hb dX1_value_17 rfl (lv_at hl 2 rfl) ?_
      refine nv_iald hx hb hK hP 3 0 rfl rfl (by omega) (by decide) dX1_value_18 ?_
      refine lv_istore_n (lv' := [(3, .int (nI (tk j))), (0, .ref (ad 0)), (1, .int (nI top)), (2, .int (nI j))]) hx hb dX1_value_19 rfl hl (by decide) rfl (fun ls hl => ?_)
      refine lv_iload_n hx hb dX1_value_20 rfl (lv_at hl 2 rfl) ?_
      refine nv_if_le (tgt := 35) hx hb (by omega) dX1_value_21 (by decide) (fun c21 => ?_) (fun c21 => ?_)
      · refine lv_iconst (v := nI 0) hx hb dX1_value_35 (by decide) ?_
        refine lv_istore (lv' := [(4, .int (nI 0)), (3, .int (nI (tk j))), (0, .ref (ad 0)), (1, .int (nI top)), (2, .int (nI j))]) hx hb dX1_value_36 hl (by decide) rfl (fun ls hl => ?_)
        refine lv_iload_n hx hb dX1_value_38 rfl (lv_at hl 3 rfl) ?_
        refine lv_iconst (v := nI 1) hx hb dX1_value_39 (by decide) ?_
        refine nv_icmp_le (tgt := 54) hx hb (by omega) (by omega) dX1_value_40 (by decide) (fun c40 => ?_) (fun c40 => ?_)
        · refine lv_iconst (v := nI 0) hx hb dX1_value_54 (by decide) ?_
          refine lv_istore (lv' := [(5, .int (nI 0)), (4, .int (nI 0)), (3, .int (nI (tk j))), (0, .ref (ad 0)), (1, .int (nI top)), (2, .int (nI j))]) hx hb dX1_value_55 hl (by decide) rfl (fun ls hl => ?_)
          exact M (0) (0) (by omega) (by omega) (fun ha => absurd (VI_top1 hE hV hj0 ha).1 (by omega)) (fun ha => absurd (VI_top2 hE hV hj0 ha).1 (by omega)) _ _ hP hD hS ls (lv_sub hl [3, 4, 5, 2, 1, 0] rfl)
        · refine lv_aload_n hx hb dX1_value_43 rfl (lv_at hl 2 rfl) ?_
          refine gX1 hx hb hts hown hK hP 0 rfl 8 (by decide) q196 rfl dX1_value_44 ?_
          refine lv_iload_n hx hb dX1_value_47 rfl (lv_at hl 3 rfl) ?_
          refine lv_iconst (v := nI 2) hx hb dX1_value_48 (by decide) ?_
          refine nv_isub hx hb (by omega) dX1_value_49 ?_
          refine nv_iald hx hb hK hP 8 0 rfl rfl (by omega) (by decide) dX1_value_50 ?_
          have hld50 := hsk1 (top - 2)
          refine lv_goto (tgt := 55) hx hb dX1_value_51 (by decide) ?_
          refine lv_istore (lv' := [(5, .int (nI (sk1 (top - 2)))), (4, .int (nI 0)), (3, .int (nI (tk j))), (0, .ref (ad 0)), (1, .int (nI top)), (2, .int (nI j))]) hx hb dX1_value_55 hl (by decide) rfl (fun ls hl => ?_)
          exact M (0) (sk1 (top - 2)) (by omega) (hsk1 _) (fun ha => absurd (VI_top1 hE hV hj0 ha).1 (by omega)) (fun ha => (VI_top2 hE hV hj0 ha).2) _ _ hP hD hS ls (lv_sub hl [3, 4, 5, 2, 1, 0] rfl)
      · refine lv_aload_n hx hb dX1_value_24 rfl (lv_at hl 1 rfl) ?_
        refine gX1 hx hb hts hown hK hP 0 rfl 8 (by decide) q196 rfl dX1_value_25 ?_
        refine lv_iload_n hx hb dX1_value_28 rfl (lv_at hl 2 rfl) ?_
        refine lv_iconst (v := nI 1) hx hb dX1_value_29 (by decide) ?_
        refine nv_isub hx hb (by omega) dX1_value_30 ?_
        refine nv_iald hx hb hK hP 8 0 rfl rfl (by omega) (by decide) dX1_value_31 ?_
        have hld31 := hsk1 (top - 1)
        refine lv_goto (tgt := 36) hx hb dX1_value_32 (by decide) ?_
        refine lv_istore (lv' := [(4, .int (nI (sk1 (top - 1)))), (3, .int (nI (tk j))), (0, .ref (ad 0)), (1, .int (nI top)), (2, .int (nI j))]) hx hb dX1_value_36 hl (by decide) rfl (fun ls hl => ?_)
        refine lv_iload_n hx hb dX1_value_38 rfl (lv_at hl 3 rfl) ?_
        refine lv_iconst (v := nI 1) hx hb dX1_value_39 (by decide) ?_
        refine nv_icmp_le (tgt := 54) hx hb (by omega) (by omega) dX1_value_40 (by decide) (fun c40 => ?_) (fun c40 => ?_)
        · refine lv_iconst (v := nI 0) hx hb dX1_value_54 (by decide) ?_
          refine lv_istore (lv' := [(5, .int (nI 0)), (4, .int (nI (sk1 (top - 1)))), (3, .int (nI (tk j))), (0, .ref (ad 0)), (1, .int (nI top)), (2, .int (nI j))]) hx hb dX1_value_55 hl (by decide) rfl (fun ls hl => ?_)
          exact M (sk1 (top - 1)) (0) (hsk1 _) (by omega) (fun ha => (VI_top1 hE hV hj0 ha).2) (fun ha => absurd (VI_top2 hE hV hj0 ha).1 (by omega)) _ _ hP hD hS ls (lv_sub hl [3, 4, 5, 2, 1, 0] rfl)
        · refine lv_aload_n hx hb dX1_value_43 rfl (lv_at hl 2 rfl) ?_
          refine gX1 hx hb hts hown hK hP 0 rfl 8 (by decide) q196 rfl dX1_value_44 ?_
          refine lv_iload_n hx hb dX1_value_47 rfl (lv_at hl 3 rfl) ?_
          refine lv_iconst (v := nI 2) hx hb dX1_value_48 (by decide) ?_
          refine nv_isub hx hb (by omega) dX1_value_49 ?_
          refine nv_iald hx hb hK hP 8 0 rfl rfl (by omega) (by decide) dX1_value_50 ?_
          have hld50 := hsk1 (top - 2)
          refine lv_goto (tgt := 55) hx hb dX1_value_51 (by decide) ?_
          refine lv_istore (lv' := [(5, .int (nI (sk1 (top - 2)))), (4, .int (nI (sk1 (top - 1)))), (3, .int (nI (tk j))), (0, .ref (ad 0)), (1, .int (nI top)), (2, .int (nI j))]) hx hb dX1_value_55 hl (by decide) rfl (fun ls hl => ?_)
          exact M (sk1 (top - 1)) (sk1 (top - 2)) (hsk1 _) (hsk1 _) (fun ha => (VI_top1 hE hV hj0 ha).2) (fun ha => (VI_top2 hE hV hj0 ha).2) _ _ hP hD hS ls (lv_sub hl [3, 4, 5, 2, 1, 0] rfl)
  exact L n 0 sk bo (Nat.le_refl n) VI_n hsk hbo _ _ hP hD hS ls (lv_sub hl [2, 1, 0] rfl)
set_option maxHeartbeats 4000000 in
set_option maxRecDepth 100000 in
/-- lastOpen -/
theorem metX1_lastOpen (l : Launch) (D : va_G) (ad : Nat → Nat) (di db : ClassId) (nx mk : Nat → Nat) (n : Nat) (tk en bd fx bo sk : Nat → Nat)  (hn : n ≤ 12) (htk : ∀ j, tk j ≤ 18) (hfx : ∀ j, fx j < 64) (hbo : ∀ j, bo j < 64) : xMi l yX1_lastOpen cX1_lastOpen 2 .int ({ frames := 1, cells := 0, slots := 0, locals := 21 }) D (tyX di db) (mwX ad di nx mk n tk en bd fx bo sk) [.ref (ad 0)] (fun r u => ∃ o, r = nP o ∧ u = mwX ad di nx mk n tk en bd fx bo sk ∧ OPN tk n fx bo o) := by
  refine xMi_intro (by decide) (Nat.le_of_ble_eq_true rfl) ?_
  intro p e s m args below meth c A Q hx hb hml hown hts hA hK hP hD hS hret ls hl
  have hl : lv_has ls 2 [(0, .ref (ad 0))] := hl
  refine lv_aload_n hx hb dX1_lastOpen_0 rfl (lv_at hl 0 rfl) ?_
  refine gX1 hx hb hts hown hK hP 0 rfl 2 (by decide) q190 rfl dX1_lastOpen_1 ?_
  refine lv_iconst (v := nI 1) hx hb dX1_lastOpen_4 (by decide) ?_
  refine nv_isub1 hx hb dX1_lastOpen_5 ?_
  refine lv_istore_n (lv' := [(1, .int (nP n)), (0, .ref (ad 0))]) hx hb dX1_lastOpen_6 rfl hl (by decide) rfl (fun ls hl => ?_)
  have L : ∀ (j : Nat), j ≤ n → (∀ p, j ≤ p → p < n → mj_bnd (tk p) → bo p = fx p) → ∀ (H : Heap) (locs : List Loc), va_P D vwCl (mwX ad di nx mk n tk en bd fx bo sk) H → va_D A (mwX ad di nx mk n tk en bd fx bo sk) → va_S A s.heap H locs → ∀ ls : Array Slot, lv_has ls 2 [(0, .ref (ad 0)), (1, .int (nP j))] → W p l e ({ frames := 1, cells := 0, slots := 0, locals := 21 }) s m args below meth c H locs 0 0 Q (F0 m 7 ls []) := by
    intro j
    induction j with
    | zero =>
      intro hj I1 H locs hP hD hS ls hl
      refine lv_iload_n hx hb dX1_lastOpen_7 rfl (lv_at hl 1 rfl) ?_
      refine nv_if_ltP (tgt := 47) hx hb dX1_lastOpen_8 (by decide) ?_
      refine lv_iconst (v := nP 0) hx hb dX1_lastOpen_47 (by decide) ?_
      exact hret _ _ _ _ _ (mwX ad di nx mk n tk en bd fx bo sk) rfl dX1_lastOpen_48 (⟨0, rfl, rfl, Or.inl ⟨rfl, I1⟩⟩) hP hD hS
    | succ j ih =>
      intro hj I1 H locs hP hD hS ls hl
      rw [nP_succ] at hl
      refine lv_iload_n hx hb dX1_lastOpen_7 rfl (lv_at hl 1 rfl) ?_
      refine nv_if_lt (tgt := 47) hx hb (by omega) dX1_lastOpen_8 (by decide) ?_
      refine lv_aload_n hx hb dX1_lastOpen_11 rfl (lv_at hl 0 rfl) ?_
      refine lv_aload_n hx hb dX1_lastOpen_12 rfl (lv_at hl 0 rfl) ?_
      refine gX1 hx hb hts hown hK hP 0 rfl 3 (by decide) q191 rfl dX1_lastOpen_13 ?_
      refine lv_iload_n hx hb dX1_lastOpen_16 rfl (lv_at hl 1 rfl) ?_
      refine nv_iald hx hb hK hP 3 0 rfl rfl (by omega) (by decide) dX1_lastOpen_17 ?_
      have hld17 := htk j
      refine pcall_i (As := [.int (nI (tk j))]) (rest := []) (ci := 1) (q0 := 0) ⟨hx, hb, hml, hown, hts⟩ (metX1_binds l (ad 0) (tk j) (by omega)) (cwV 1 hts (lw_V q256 q258 qs18 q28 q259) rfl rfl rfl (by decide +kernel) ⟨Nat.le_of_ble_eq_true rfl, Nat.le_of_ble_eq_true rfl⟩) rfl rfl hK hP rfl hl.1 rfl (Nat.le_of_ble_eq_true rfl) dX1_lastOpen_18 ⟨Nat.zero_le _, Nat.zero_le _⟩ (fun r hr => ?_)
      subst hr
      have hbl := bi_le (tk j)
      refine nv_if_eq (tgt := 41) hx hb (by omega) dX1_lastOpen_21 (by decide) (fun c21 => ?_) (fun c21 => ?_)
      · refine nv_iinc (k := 1) (lv' := [(1, .int (nP j)), (0, .ref (ad 0))]) (v := (nP j)) hx hb dX1_lastOpen_41 hl rfl (nI_dec _) (by decide) rfl (fun ls hl => ?_)
        refine lv_goto (tgt := 7) hx hb dX1_lastOpen_44 (by decide) ?_
        exact ih (by omega) (op_skip I1 (fun q => by first | exact c36 | exact absurd q (bi_zero c21))) _ _ hP hD hS ls (lv_sub hl [1, 0] rfl)
      · refine lv_aload_n hx hb dX1_lastOpen_24 rfl (lv_at hl 0 rfl) ?_
        refine gX1 hx hb hts hown hK hP 0 rfl 7 (by decide) q195 rfl dX1_lastOpen_25 ?_
        refine lv_iload_n hx hb dX1_lastOpen_28 rfl (lv_at hl 1 rfl) ?_
        refine nv_iald hx hb hK hP 7 0 rfl rfl (by omega) (by decide) dX1_lastOpen_29 ?_
        have hld29 := hbo j
        refine lv_aload_n hx hb dX1_lastOpen_30 rfl (lv_at hl 0 rfl) ?_
        refine gX1 hx hb hts hown hK hP 0 rfl 6 (by decide) q194 rfl dX1_lastOpen_31 ?_
        refine lv_iload_n hx hb dX1_lastOpen_34 rfl (lv_at hl 1 rfl) ?_
        refine nv_iald hx hb hK hP 6 0 rfl rfl (by omega) (by decide) dX1_lastOpen_35 ?_
        have hld35 := hfx j
        refine nv_icmp_eq (tgt := 41) hx hb (by omega) (by omega) dX1_lastOpen_36 (by decide) (fun c36 => ?_) (fun c36 => ?_)
        · refine nv_iinc (k := 1) (lv' := [(1, .int (nP j)), (0, .ref (ad 0))]) (v := (nP j)) hx hb dX1_lastOpen_41 hl rfl (nI_dec _) (by decide) rfl (fun ls hl => ?_)
          refine lv_goto (tgt := 7) hx hb dX1_lastOpen_44 (by decide) ?_
          exact ih (by omega) (op_skip I1 (fun q => by first | exact c36 | exact absurd q (bi_zero c21))) _ _ hP hD hS ls (lv_sub hl [1, 0] rfl)
        · refine lv_iload_n hx hb dX1_lastOpen_39 rfl (lv_at hl 1 rfl) ?_
          exact hret _ _ _ _ _ (mwX ad di nx mk n tk en bd fx bo sk) rfl dX1_lastOpen_40 (⟨j + 1, (nP_succ j).symm, rfl, Or.inr ⟨j, rfl, by omega, bi_pos c21, c36, I1⟩⟩) hP hD hS
  exact L n (Nat.le_refl n) (fun c h1 h2 => by omega) _ _ hP hD hS ls (lv_sub hl [1, 0] rfl)
set_option maxHeartbeats 4000000 in
set_option maxRecDepth 100000 in
/-- find -/
theorem metX1_find (l : Launch) (D : va_G) (ad : Nat → Nat) (di db : ClassId) (nx mk : Nat → Nat) (n : Nat) (tk en bd fx bo sk : Nat → Nat)  (hn : n ≤ 12) (htk : ∀ j, tk j ≤ 18) (hmk : ∀ j, mk j < 64) (hnx : ∀ j, nx j < 64) (hen : ∀ j, en j < 128) (hS0 : Str tk n en (fun k => bd k - 1)) (hbp : ∀ k, k < n → 16 ≤ tk k → 0 < bd k) (hfx : ∀ j, fx j < 64) (hbo : ∀ j, bo j < 64) (hsk : ∀ j, sk j < 64) : xMi l yX1_find cX1_find 5 .int ({ frames := 2, cells := 0, slots := 0, locals := 51 }) D (tyX di db) (mwX ad di nx mk n tk en bd fx bo sk) [.ref (ad 0)] (fun r u => ∃ v fx1 bo1 sk1, r = nI v ∧ v < 64 ∧ u = mwX ad di nx mk n tk en bd fx1 bo1 sk1 ∧ (∀ j, fx1 j < 64) ∧ (∀ j, bo1 j < 64) ∧ (∀ j, sk1 j < 64) ∧ ∀ i, i < 6 → (v.testBit i = true ↔ Ans nx mk tk n i)) := by
  refine xMi_intro (by decide) (Nat.le_of_ble_eq_true rfl) ?_
  intro p e s m args below meth c A Q hx hb hml hown hts hA hK hP hD hS hret ls hl
  have hl : lv_has ls 5 [(0, .ref (ad 0))] := hl
  have hE := hS0.2.1
  have hnb4 := hS0.2.2.2.2
  have hEB := Str_enc htk hS0
  refine lv_iconst (v := nI 0) hx hb dX1_find_0 (by decide) ?_
  refine lv_istore_n (lv' := [(1, .int (nI 0)), (0, .ref (ad 0))]) hx hb dX1_find_1 rfl hl (by decide) rfl (fun ls hl => ?_)
  have L : ∀ (d k : Nat) , n < k + d → k ≤ n → ∀ (H : Heap) (locs : List Loc), va_P D vwCl (mwX ad di nx mk n tk en bd (ff tk fx k) bo sk) H → va_D A (mwX ad di nx mk n tk en bd (ff tk fx k) bo sk) → va_S A s.heap H locs → ∀ ls : Array Slot, lv_has ls 5 [(0, .ref (ad 0)), (1, .int (nI k))] → W p l e ({ frames := 2, cells := 0, slots := 0, locals := 51 }) s m args below meth c H locs 0 0 Q (F0 m 2 ls []) := by
    intro d
    induction d with
    | zero =>
      intro k  h1_ h2_
      exfalso; omega
    | succ d ihL =>
      intro k  h1_ h2_  H locs hP hD hS ls hl
      refine lv_iload_n hx hb dX1_find_2 rfl (lv_at hl 1 rfl) ?_
      refine lv_aload_n hx hb dX1_find_3 rfl (lv_at hl 0 rfl) ?_
      refine gX1 hx hb hts hown hK hP 0 rfl 2 (by decide) q190 rfl dX1_find_4 ?_
      refine nv_icmp_ge (tgt := 27) hx hb (by omega) (by omega) dX1_find_7 (by decide) (fun c7 => ?_) (fun c7 => ?_)
      · have hkn : k = n := by omega
        rw [hkn] at hP hD
        have hfx0 : ∀ j, ff tk fx n j < 64 := ff_lt hfx
        refine lv_aload_n hx hb dX1_find_27 rfl (lv_at hl 0 rfl) ?_
        refine xcall_i (As := []) (rest := []) (ci := 1) ⟨hx, hb, hml, hown, hts⟩ (metX1_value l D ad di db nx mk n tk en bd (ff tk fx n) bo sk hn htk hmk hnx hS0 hbp hfx0 hbo hsk) (cwV 0 hts (lw_V q277 q279 qs22 q28 q280) rfl rfl rfl (by decide +kernel) ⟨Nat.le_of_ble_eq_true rfl, Nat.le_of_ble_eq_true rfl⟩) rfl rfl hK hP hD hS hA rfl hl.1 rfl (Nat.le_of_ble_eq_true rfl) dX1_find_28 ⟨Nat.zero_le _, Nat.zero_le _⟩ (fun r u H locs hw hP hD hS => ?_)
        obtain ⟨v2, bo2, sk2, rfl, hv2, rfl, hbo2, hsk2, hBV2, hval2⟩ := hw
        refine lv_istore_n (lv' := [(1, .int (nI v2)), (0, .ref (ad 0))]) hx hb dX1_find_31 rfl hl (by decide) rfl (fun ls hl => ?_)
        refine lv_aload_n hx hb dX1_find_32 rfl (lv_at hl 1 rfl) ?_
        refine xcall_i (As := []) (rest := []) (ci := 1) ⟨hx, hb, hml, hown, hts⟩ (metX1_lastOpen l D ad di db nx mk n tk en bd (ff tk fx n) bo2 sk2 hn htk hfx0 hbo2) (cwV 0 hts (lw_V q285 q287 qs24 q28 q288) rfl rfl rfl (by decide +kernel) ⟨Nat.le_of_ble_eq_true rfl, Nat.le_of_ble_eq_true rfl⟩) rfl rfl hK hP hD hS hA rfl hl.1 rfl (Nat.le_of_ble_eq_true rfl) dX1_find_33 ⟨Nat.zero_le _, Nat.zero_le _⟩ (fun r u H locs hw hP hD hS => ?_)
        obtain ⟨o2, rfl, rfl, hO2⟩ := hw
        refine lv_istore_n (lv' := [(2, .int (nP o2)), (1, .int (nI v2)), (0, .ref (ad 0))]) hx hb dX1_find_36 rfl hl (by decide) rfl (fun ls hl => ?_)
        refine lv_iconst (v := nI 0) hx hb dX1_find_37 (by decide) ?_
        refine lv_istore_n (lv' := [(3, .int (nI 0)), (2, .int (nP o2)), (1, .int (nI v2)), (0, .ref (ad 0))]) hx hb dX1_find_38 rfl hl (by decide) rfl (fun ls hl => ?_)
        have LR : ∀ (d v o rd : Nat) (fx1 bo1 sk1 : Nat → Nat), mj_Phi tk (fS fx1) n < d → rd + mj_Phi tk (fS fx1) n ≤ 2400 → v < 64 → (∀ i, i < 6 → (v.testBit i = true ↔ mj_val nx mk tk n en (fun k => bd k - 1) 0 (fS fx1) i)) → BV nx mk tk n en (fun k => bd k - 1) fx1 bo1 → mj_MI nx mk tk n en (fun k => bd k - 1) (fS fx1) → (∀ j, fx1 j < 64) → (∀ j, bo1 j < 64) → (∀ j, sk1 j < 64) → OPN tk n fx1 bo1 o → ∀ (H : Heap) (locs : List Loc), va_P D vwCl (mwX ad di nx mk n tk en bd fx1 bo1 sk1) H → va_D A (mwX ad di nx mk n tk en bd fx1 bo1 sk1) → va_S A s.heap H locs → ∀ ls : Array Slot, lv_has ls 5 [(0, .ref (ad 0)), (1, .int (nI v)), (2, .int (nP o)), (3, .int (nI rd))] → W p l e ({ frames := 2, cells := 0, slots := 0, locals := 51 }) s m args below meth c H locs 0 0 Q (F0 m 39 ls []) := by
          intro d
          induction d with
          | zero =>
            intro v o rd fx1 bo1 sk1 h1_
            exact absurd h1_ (Nat.not_lt_zero _)
          | succ d ihLR =>
            intro v o rd fx1 bo1 sk1 h1_ h2_ hv hval hBV hMI hfx1 hbo1 hsk1 hO H locs hP hD hS ls hl
            rcases hO with ⟨rfl, hs⟩ | ⟨b, rfl, hbn, hbb, hne, hs⟩
            · refine lv_iload_n hx hb dX1_find_39 rfl (lv_at hl 3 rfl) ?_
              refine lv_sipush (v := nI 2401) hx hb dX1_find_40 (by decide) ?_
              refine nv_icmp_ge (tgt := 113) hx hb (by omega) (by omega) dX1_find_43 (by decide) (fun q => absurd q (by omega)) (fun c43 => ?_)
              refine lv_iload_n hx hb dX1_find_46 rfl (lv_at hl 2 rfl) ?_
              refine nv_if_ltP (tgt := 113) hx hb dX1_find_47 (by decide) ?_
              refine lv_iload_n hx hb dX1_find_113 rfl (lv_at hl 1 rfl) ?_
              exact hret _ _ _ _ _ (mwX ad di nx mk n tk en bd fx1 bo1 sk1) rfl dX1_find_114 (⟨v, fx1, bo1, sk1, rfl, hv, rfl, hfx1, hbo1, hsk1, fun i hi => (hval i hi).trans (find_end htk hS0 hMI hBV hs i hi)⟩) hP hD hS
            · rw [nP_succ] at hl
              have hEb := mj_le hE hbn
              have hGb := mj_gt hE hbn
              obtain ⟨hMI2, hPhi2⟩ := find_step hE hEB hMI hBV hfx1 hbo1 hbn hbb hs hne
              refine lv_iload_n hx hb dX1_find_39 rfl (lv_at hl 3 rfl) ?_
              refine lv_sipush (v := nI 2401) hx hb dX1_find_40 (by decide) ?_
              refine nv_icmp_ge (tgt := 113) hx hb (by omega) (by omega) dX1_find_43 (by decide) (fun q => absurd q (by omega)) (fun c43 => ?_)
              refine lv_iload_n hx hb dX1_find_46 rfl (lv_at hl 2 rfl) ?_
              refine nv_if_lt (tgt := 113) hx hb (by omega) dX1_find_47 (by decide) ?_
              refine lv_aload_n hx hb dX1_find_50 rfl (lv_at hl 0 rfl) ?_
              refine gX1 hx hb hts hown hK hP 0 rfl 6 (by decide) q194 rfl dX1_find_51 ?_
              refine lv_iload_n hx hb dX1_find_54 rfl (lv_at hl 2 rfl) ?_
              refine lv_aload_n hx hb dX1_find_55 rfl (lv_at hl 0 rfl) ?_
              refine gX1 hx hb hts hown hK hP 0 rfl 7 (by decide) q195 rfl dX1_find_56 ?_
              refine lv_iload_n hx hb dX1_find_59 rfl (lv_at hl 2 rfl) ?_
              refine nv_iald hx hb hK hP 7 0 rfl rfl (by omega) (by decide) dX1_find_60 ?_
              refine nv_iast hx hb hK hP hD hS 6 0 rfl rfl (by omega) (by decide) dX1_find_61 (fun H locs hP hD hS => ?_)
              have hP : va_P D vwCl (mwX ad di nx mk n tk en bd (upN fx1 b (bo1 b)) bo1 sk1) H := hP
              have hD : va_D A (mwX ad di nx mk n tk en bd (upN fx1 b (bo1 b)) bo1 sk1) := hD
              refine lv_iload_n hx hb dX1_find_62 rfl (lv_at hl 2 rfl) ?_
              refine lv_iconst (v := nI 1) hx hb dX1_find_63 (by decide) ?_
              refine nv_iadd hx hb dX1_find_64 ?_
              refine lv_istore (lv' := [(4, .int (nI (b + 1))), (0, .ref (ad 0)), (1, .int (nI v)), (2, .int (nI b)), (3, .int (nI rd))]) hx hb dX1_find_65 hl (by decide) rfl (fun ls hl => ?_)
              have LI : ∀ (d2 q : Nat) , (en b) < q + d2 → q ≤ (en b) → b < q → ∀ (H : Heap) (locs : List Loc), va_P D vwCl (mwX ad di nx mk n tk en bd (rsF tk (upN fx1 b (bo1 b)) b q) bo1 sk1) H → va_D A (mwX ad di nx mk n tk en bd (rsF tk (upN fx1 b (bo1 b)) b q) bo1 sk1) → va_S A s.heap H locs → ∀ ls : Array Slot, lv_has ls 5 [(0, .ref (ad 0)), (1, .int (nI v)), (2, .int (nI b)), (3, .int (nI rd)), (4, .int (nI q))] → W p l e ({ frames := 2, cells := 0, slots := 0, locals := 51 }) s m args below meth c H locs 0 0 Q (F0 m 67 ls []) := by
                intro d2
                induction d2 with
                | zero =>
                  intro q  h1_ h2_
                  exfalso; omega
                | succ d2 ihLI =>
                  intro q  h1_ h2_ hbq H locs hP hD hS ls hl
                  refine lv_iload hx hb dX1_find_67 (lv_at hl 4 rfl) ?_
                  refine lv_aload_n hx hb dX1_find_69 rfl (lv_at hl 0 rfl) ?_
                  refine gX1 hx hb hts hown hK hP 0 rfl 4 (by decide) q192 rfl dX1_find_70 ?_
                  refine lv_iload_n hx hb dX1_find_73 rfl (lv_at hl 2 rfl) ?_
                  refine nv_iald hx hb hK hP 4 0 rfl rfl (by omega) (by decide) dX1_find_74 ?_
                  have hld74 := hen b
                  refine nv_icmp_ge (tgt := 97) hx hb (by omega) (by omega) dX1_find_75 (by decide) (fun c75 => ?_) (fun c75 => ?_)
                  · have hqe : q = en b := by omega
                    rw [hqe] at hP hD
                    have hfx2 : ∀ j, rsF tk (upN fx1 b (bo1 b)) b (en b) j < 64 := rsF_lt (upN_lt hfx1 (hbo1 b))
                    refine lv_aload_n hx hb dX1_find_97 rfl (lv_at hl 0 rfl) ?_
                    refine xcall_i (As := []) (rest := []) (ci := 1) ⟨hx, hb, hml, hown, hts⟩ (metX1_value l D ad di db nx mk n tk en bd (rsF tk (upN fx1 b (bo1 b)) b (en b)) bo1 sk1 hn htk hmk hnx hS0 hbp hfx2 hbo1 hsk1) (cwV 0 hts (lw_V q277 q279 qs22 q28 q280) rfl rfl rfl (by decide +kernel) ⟨Nat.le_of_ble_eq_true rfl, Nat.le_of_ble_eq_true rfl⟩) rfl rfl hK hP hD hS hA rfl hl.1 rfl (Nat.le_of_ble_eq_true rfl) dX1_find_98 ⟨Nat.zero_le _, Nat.zero_le _⟩ (fun r u H locs hw hP hD hS => ?_)
                    obtain ⟨v2, bo2, sk2, rfl, hv2, rfl, hbo2, hsk2, hBV2, hval2⟩ := hw
                    refine lv_istore_n (lv' := [(1, .int (nI v2)), (0, .ref (ad 0)), (2, .int (nI b)), (3, .int (nI rd)), (4, .int (nI q))]) hx hb dX1_find_101 rfl hl (by decide) rfl (fun ls hl => ?_)
                    refine lv_aload_n hx hb dX1_find_102 rfl (lv_at hl 1 rfl) ?_
                    refine xcall_i (As := []) (rest := []) (ci := 1) ⟨hx, hb, hml, hown, hts⟩ (metX1_lastOpen l D ad di db nx mk n tk en bd (rsF tk (upN fx1 b (bo1 b)) b (en b)) bo2 sk2 hn htk hfx2 hbo2) (cwV 0 hts (lw_V q285 q287 qs24 q28 q288) rfl rfl rfl (by decide +kernel) ⟨Nat.le_of_ble_eq_true rfl, Nat.le_of_ble_eq_true rfl⟩) rfl rfl hK hP hD hS hA rfl hl.1 rfl (Nat.le_of_ble_eq_true rfl) dX1_find_103 ⟨Nat.zero_le _, Nat.zero_le _⟩ (fun r u H locs hw hP hD hS => ?_)
                    obtain ⟨o2, rfl, rfl, hO2⟩ := hw
                    refine lv_istore_n (lv' := [(2, .int (nP o2)), (1, .int (nI v2)), (0, .ref (ad 0)), (3, .int (nI rd)), (4, .int (nI q))]) hx hb dX1_find_106 rfl hl (by decide) rfl (fun ls hl => ?_)
                    refine nv_iinc (k := 3) (lv' := [(3, .int (nI (rd + 1))), (2, .int (nP o2)), (1, .int (nI v2)), (0, .ref (ad 0)), (4, .int (nI q))]) (v := (nI (rd + 1))) hx hb dX1_find_107 hl rfl (nI_inc _) (by decide) rfl (fun ls hl => ?_)
                    refine lv_goto (tgt := 39) hx hb dX1_find_110 (by decide) ?_
                    exact ihLR v2 o2 (rd + 1) (rsF tk (upN fx1 b (bo1 b)) b (en b)) bo2 sk2 (by omega) (by omega) hv2 hval2 hBV2 hMI2 hfx2 hbo2 hsk2 hO2 _ _ hP hD hS ls (lv_sub hl [3, 2, 1, 0] rfl)
                  · refine lv_aload_n hx hb dX1_find_78 rfl (lv_at hl 0 rfl) ?_
                    refine gX1 hx hb hts hown hK hP 0 rfl 6 (by decide) q194 rfl dX1_find_79 ?_
                    refine lv_iload hx hb dX1_find_82 (lv_at hl 4 rfl) ?_
                    refine lv_aload_n hx hb dX1_find_84 rfl (lv_at hl 0 rfl) ?_
                    refine lv_iload hx hb dX1_find_85 (lv_at hl 4 rfl) ?_
                    refine xcall_i (As := [.int (nI q)]) (rest := [.int (nI q), .ref (ad 6)]) (ci := 1) ⟨hx, hb, hml, hown, hts⟩ (metX1_first l D ad di db nx mk n tk en bd (rsF tk (upN fx1 b (bo1 b)) b q) bo1 sk1 q (by omega) htk) (cwV 1 hts (lw_V q273 q275 qs21 q28 q276) rfl rfl rfl (by decide +kernel) ⟨Nat.le_of_ble_eq_true rfl, Nat.le_of_ble_eq_true rfl⟩) rfl rfl hK hP hD hS hA rfl hl.1 rfl (Nat.le_of_ble_eq_true rfl) dX1_find_87 ⟨Nat.zero_le _, Nat.zero_le _⟩ (fun r u H locs hw hP hD hS => ?_)
                    obtain ⟨rfl, rfl⟩ := hw
                    refine nv_iast hx hb hK hP hD hS 6 0 rfl rfl (by omega) (by decide) dX1_find_90 (fun H locs hP hD hS => ?_)
                    have hP : va_P D vwCl (mwX ad di nx mk n tk en bd (upN (rsF tk (upN fx1 b (bo1 b)) b q) q (fst13 (tk q))) bo1 sk1) H := hP
                    have hD : va_D A (mwX ad di nx mk n tk en bd (upN (rsF tk (upN fx1 b (bo1 b)) b q) q (fst13 (tk q))) bo1 sk1) := hD
                    rw [rsF_step (by omega)] at hP hD
                    refine nv_iinc (k := 4) (lv' := [(4, .int (nI (q + 1))), (0, .ref (ad 0)), (1, .int (nI v)), (2, .int (nI b)), (3, .int (nI rd))]) (v := (nI (q + 1))) hx hb dX1_find_91 hl rfl (nI_inc _) (by decide) rfl (fun ls hl => ?_)
                    refine lv_goto (tgt := 67) hx hb dX1_find_94 (by decide) ?_
                    exact ihLI (q + 1) (by omega) (by omega) (by omega) _ _ hP hD hS ls (lv_sub hl [1, 2, 3, 4, 0] rfl)
              rw [← rsF_0 tk (upN fx1 b (bo1 b)) b] at hP hD
              exact LI (en b) (b + 1) (by omega) (by omega) (by omega) _ _ hP hD hS ls (lv_sub hl [1, 2, 3, 4, 0] rfl)
        have hPhi0 := mj_Phi_2401 (f := fS (ff tk fx n)) hnb4
        exact LR 2401 v2 o2 0 (ff tk fx n) bo2 sk2 hPhi0 (by omega) hv2 hval2 hBV2 find_first hfx0 hbo2 hsk2 hO2 _ _ hP hD hS ls (lv_sub hl [3, 2, 1, 0] rfl)
      · refine lv_aload_n hx hb dX1_find_10 rfl (lv_at hl 0 rfl) ?_
        refine gX1 hx hb hts hown hK hP 0 rfl 6 (by decide) q194 rfl dX1_find_11 ?_
        refine lv_iload_n hx hb dX1_find_14 rfl (lv_at hl 1 rfl) ?_
        refine lv_aload_n hx hb dX1_find_15 rfl (lv_at hl 0 rfl) ?_
        refine lv_iload_n hx hb dX1_find_16 rfl (lv_at hl 1 rfl) ?_
        refine xcall_i (As := [.int (nI k)]) (rest := [.int (nI k), .ref (ad 6)]) (ci := 1) ⟨hx, hb, hml, hown, hts⟩ (metX1_first l D ad di db nx mk n tk en bd (ff tk fx k) bo sk k (by omega) htk) (cwV 1 hts (lw_V q273 q275 qs21 q28 q276) rfl rfl rfl (by decide +kernel) ⟨Nat.le_of_ble_eq_true rfl, Nat.le_of_ble_eq_true rfl⟩) rfl rfl hK hP hD hS hA rfl hl.1 rfl (Nat.le_of_ble_eq_true rfl) dX1_find_17 ⟨Nat.zero_le _, Nat.zero_le _⟩ (fun r u H locs hw hP hD hS => ?_)
        obtain ⟨rfl, rfl⟩ := hw
        refine nv_iast hx hb hK hP hD hS 6 0 rfl rfl (by omega) (by decide) dX1_find_20 (fun H locs hP hD hS => ?_)
        have hP : va_P D vwCl (mwX ad di nx mk n tk en bd (upN (ff tk fx k) k (fst13 (tk k))) bo sk) H := hP
        have hD : va_D A (mwX ad di nx mk n tk en bd (upN (ff tk fx k) k (fst13 (tk k))) bo sk) := hD
        rw [ff_step] at hP hD
        refine nv_iinc (k := 1) (lv' := [(1, .int (nI (k + 1))), (0, .ref (ad 0))]) (v := (nI (k + 1))) hx hb dX1_find_21 hl rfl (nI_inc _) (by decide) rfl (fun ls hl => ?_)
        refine lv_goto (tgt := 2) hx hb dX1_find_24 (by decide) ?_
        exact ihL (k + 1) (by omega) (by omega) _ _ hP hD hS ls (lv_sub hl [1, 0] rfl)
  rw [← ff_0 tk fx] at hP hD
  exact L (n + 1) 0 (by omega) (by omega) _ _ hP hD hS ls (lv_sub hl [1, 0] rfl)
set_option maxHeartbeats 4000000 in
set_option maxRecDepth 100000 in
/-- holds -/
theorem metX1_holds (l : Launch) (D : va_G) (ad : Nat → Nat) (di db : ClassId) (nx mk : Nat → Nat) (n : Nat) (tk en bd fx bo sk : Nat → Nat) (p0 : Int32) (hn : n ≤ 12) (htk : ∀ j, tk j ≤ 18) (hmk : ∀ j, mk j < 64) (hnx : ∀ j, nx j < 64) (hMB : MB en fx bo sk) : xMi l yX1_holds cX1_holds 3 .boolean ({ frames := 3, cells := 0, slots := 0, locals := 75 }) D (tyX di db) (mwX ad di nx mk n tk en bd fx bo sk) [.ref (ad 0), .int p0] (fun r u => ((∃ i, i < 6 ∧ p0 = nI i ∧ Ans nx mk tk n i ∧ r = nI 1) ∨ ((∀ i, i < 6 → p0 = nI i → ¬ Ans nx mk tk n i) ∧ r = nI 0)) ∧ UM ad di nx mk n tk u) := by
  refine xMi_intro (by decide) (Nat.le_of_ble_eq_true rfl) ?_
  intro p e s m args below meth c A Q hx hb hml hown hts hA hK hP hD hS hret ls hl
  have hl : lv_has ls 3 [(0, .ref (ad 0)), (1, .int p0)] := hl
  obtain ⟨hen, hfx, hbo, hsk⟩ := hMB
  rcases isN_cases p0 with ⟨e0, i, hi, rfl⟩ | ⟨e0, hno0⟩
  · refine lv_aload_n hx hb dX1_holds_0 rfl (lv_at hl 0 rfl) ?_
    refine xcall_i (As := []) (rest := []) (ci := 1) ⟨hx, hb, hml, hown, hts⟩ (metX1_sound l D ad di db nx mk n tk en bd fx bo sk hn htk hen) (cwV 0 hts (lw_V q268 q245 q246 q28 q247) rfl rfl rfl (by decide +kernel) ⟨Nat.le_of_ble_eq_true rfl, Nat.le_of_ble_eq_true rfl⟩) rfl rfl hK hP hD hS hA rfl hl.1 rfl (Nat.le_of_ble_eq_true rfl) dX1_holds_1 ⟨Nat.zero_le _, Nat.zero_le _⟩ (fun r u H locs hw hP hD hS => ?_)
    obtain ⟨en1, bd1, rfl, hen1, hF⟩ := hw
    rcases hF with ⟨rfl, hStr, hbp⟩ | ⟨rfl, hno⟩
    · refine nv_if_eq (tgt := 15) hx hb (by omega) dX1_holds_4 (by decide) (fun q => absurd q (by omega)) (fun c4 => ?_)
      refine lv_aload_n hx hb dX1_holds_7 rfl (lv_at hl 0 rfl) ?_
      refine lv_iload_n hx hb dX1_holds_8 rfl (lv_at hl 1 rfl) ?_
      refine pcall_i (As := [.int (nI i)]) (rest := []) (ci := 1) (q0 := 0) ⟨hx, hb, hml, hown, hts⟩ (metX1_isState l (ad 0) ((nI i))) (cwV 1 hts (lw_V q220 q222 qs14 q28 q223) rfl rfl rfl (by decide +kernel) ⟨Nat.le_of_ble_eq_true rfl, Nat.le_of_ble_eq_true rfl⟩) rfl rfl hK hP rfl hl.1 rfl (Nat.le_of_ble_eq_true rfl) dX1_holds_9 ⟨Nat.zero_le _, Nat.zero_le _⟩ (fun r hr => ?_)
      rw [e0] at hr
      subst hr
      refine nv_if_ne (tgt := 17) hx hb (by omega) dX1_holds_12 (by decide) (fun c12 => ?_) (fun q => absurd q (by omega))
      refine lv_aload_n hx hb dX1_holds_17 rfl (lv_at hl 0 rfl) ?_
      refine xcall_i (As := []) (rest := []) (ci := 1) ⟨hx, hb, hml, hown, hts⟩ (metX1_find l D ad di db nx mk n tk en1 bd1 fx bo sk hn htk hmk hnx hen1 hStr hbp hfx hbo hsk) (cwV 0 hts (lw_V q269 q271 qs20 q28 q272) rfl rfl rfl (by decide +kernel) ⟨Nat.le_of_ble_eq_true rfl, Nat.le_of_ble_eq_true rfl⟩) rfl rfl hK hP hD hS hA rfl hl.1 rfl (Nat.le_of_ble_eq_true rfl) dX1_holds_18 ⟨Nat.zero_le _, Nat.zero_le _⟩ (fun r u H locs hw hP hD hS => ?_)
      obtain ⟨v, fx1, bo1, sk1, rfl, hv64, rfl, hfx1, hbo1, hsk1, hans⟩ := hw
      refine lv_istore_n (lv' := [(2, .int (nI v)), (0, .ref (ad 0)), (1, .int (nI i))]) hx hb dX1_holds_21 rfl hl (by decide) rfl (fun ls hl => ?_)
      refine lv_aload_n hx hb dX1_holds_22 rfl (lv_at hl 1 rfl) ?_
      refine lv_iload_n hx hb dX1_holds_23 rfl (lv_at hl 0 rfl) ?_
      refine lv_iload_n hx hb dX1_holds_24 rfl (lv_at hl 2 rfl) ?_
      refine pcall_i (As := [.int (nI v), .int (nI i)]) (rest := []) (ci := 1) (q0 := 0) ⟨hx, hb, hml, hown, hts⟩ (metX1_in l (ad 0) (v) (i) hv64 hi) (cwV 2 hts (lw_V q289 q291 qs25 q28 q292) rfl rfl rfl (by decide +kernel) ⟨Nat.le_of_ble_eq_true rfl, Nat.le_of_ble_eq_true rfl⟩) rfl rfl hK hP rfl hl.1 rfl (Nat.le_of_ble_eq_true rfl) dX1_holds_25 ⟨Nat.zero_le _, Nat.zero_le _⟩ (fun r hr => ?_)
      have hai := hans i hi
      rcases hr with ⟨rfl, hbit⟩ | ⟨rfl, hbit⟩
      · exact hret _ _ _ _ _ (mwX ad di nx mk n tk en1 bd1 fx1 bo1 sk1) rfl dX1_holds_28 (⟨Or.inl ⟨i, hi, rfl, hai.mp hbit, rfl⟩, ⟨en1, bd1, fx1, bo1, sk1, rfl, ⟨hen1, hfx1, hbo1, hsk1⟩⟩⟩) hP hD hS
      · exact hret _ _ _ _ _ (mwX ad di nx mk n tk en1 bd1 fx1 bo1 sk1) rfl dX1_holds_28 (⟨Or.inr ⟨fun j hj e => by have e2 := (nI_eq (by omega) (by omega)).mp e; subst e2; exact fun q => (by have := hai.mpr q; rw [hbit] at this; exact Bool.noConfusion this), rfl⟩, ⟨en1, bd1, fx1, bo1, sk1, rfl, ⟨hen1, hfx1, hbo1, hsk1⟩⟩⟩) hP hD hS
    · refine nv_if_eq (tgt := 15) hx hb (by omega) dX1_holds_4 (by decide) (fun c4 => ?_) (fun q => absurd q (by omega))
      refine lv_iconst (v := nI 0) hx hb dX1_holds_15 (by decide) ?_
      exact hret _ _ _ _ _ (mwX ad di nx mk n tk en1 bd1 fx bo sk) rfl dX1_holds_16 (⟨Or.inr ⟨fun j hj e q => hno ⟨q.choose, q.choose_spec.choose, q.choose_spec.choose_spec.1⟩, rfl⟩, ⟨en1, bd1, fx, bo, sk, rfl, ⟨hen1, hfx, hbo, hsk⟩⟩⟩) hP hD hS
  · refine lv_aload_n hx hb dX1_holds_0 rfl (lv_at hl 0 rfl) ?_
    refine xcall_i (As := []) (rest := []) (ci := 1) ⟨hx, hb, hml, hown, hts⟩ (metX1_sound l D ad di db nx mk n tk en bd fx bo sk hn htk hen) (cwV 0 hts (lw_V q268 q245 q246 q28 q247) rfl rfl rfl (by decide +kernel) ⟨Nat.le_of_ble_eq_true rfl, Nat.le_of_ble_eq_true rfl⟩) rfl rfl hK hP hD hS hA rfl hl.1 rfl (Nat.le_of_ble_eq_true rfl) dX1_holds_1 ⟨Nat.zero_le _, Nat.zero_le _⟩ (fun r u H locs hw hP hD hS => ?_)
    obtain ⟨en1, bd1, rfl, hen1, hF⟩ := hw
    rcases hF with ⟨rfl, hStr, hbp⟩ | ⟨rfl, hno⟩
    · refine nv_if_eq (tgt := 15) hx hb (by omega) dX1_holds_4 (by decide) (fun q => absurd q (by omega)) (fun c4 => ?_)
      refine lv_aload_n hx hb dX1_holds_7 rfl (lv_at hl 0 rfl) ?_
      refine lv_iload_n hx hb dX1_holds_8 rfl (lv_at hl 1 rfl) ?_
      refine pcall_i (As := [.int p0]) (rest := []) (ci := 1) (q0 := 0) ⟨hx, hb, hml, hown, hts⟩ (metX1_isState l (ad 0) (p0)) (cwV 1 hts (lw_V q220 q222 qs14 q28 q223) rfl rfl rfl (by decide +kernel) ⟨Nat.le_of_ble_eq_true rfl, Nat.le_of_ble_eq_true rfl⟩) rfl rfl hK hP rfl hl.1 rfl (Nat.le_of_ble_eq_true rfl) dX1_holds_9 ⟨Nat.zero_le _, Nat.zero_le _⟩ (fun r hr => ?_)
      rw [e0] at hr
      subst hr
      refine nv_if_ne (tgt := 17) hx hb (by omega) dX1_holds_12 (by decide) (fun q => absurd q (by omega)) (fun c12 => ?_)
      refine lv_iconst (v := nI 0) hx hb dX1_holds_15 (by decide) ?_
      exact hret _ _ _ _ _ (mwX ad di nx mk n tk en1 bd1 fx bo sk) rfl dX1_holds_16 (⟨Or.inr ⟨fun j hj e => absurd e (hno0 j hj), rfl⟩, ⟨en1, bd1, fx, bo, sk, rfl, ⟨hen1, hfx, hbo, hsk⟩⟩⟩) hP hD hS
    · refine nv_if_eq (tgt := 15) hx hb (by omega) dX1_holds_4 (by decide) (fun c4 => ?_) (fun q => absurd q (by omega))
      refine lv_iconst (v := nI 0) hx hb dX1_holds_15 (by decide) ?_
      exact hret _ _ _ _ _ (mwX ad di nx mk n tk en1 bd1 fx bo sk) rfl dX1_holds_16 (⟨Or.inr ⟨fun j hj e => absurd e (hno0 j hj), rfl⟩, ⟨en1, bd1, fx, bo, sk, rfl, ⟨hen1, hfx, hbo, hsk⟩⟩⟩) hP hD hS
set_option maxHeartbeats 4000000 in
set_option maxRecDepth 100000 in
/-- set -/
theorem metX1_set (l : Launch) (D : va_G) (ad : Nat → Nat) (di db : ClassId) (nx mk : Nat → Nat) (n : Nat) (tk en bd fx bo sk : Nat → Nat)  (hn : n ≤ 12) (htk : ∀ j, tk j ≤ 18) (hmk : ∀ j, mk j < 64) (hnx : ∀ j, nx j < 64) (hMB : MB en fx bo sk) : xMi l yX1_set cX1_set 1 .int ({ frames := 3, cells := 0, slots := 0, locals := 75 }) D (tyX di db) (mwX ad di nx mk n tk en bd fx bo sk) [.ref (ad 0)] (fun r u => ((Snd tk n ∧ ∃ o, o < 64 ∧ r = nI o ∧ ∀ i, i < 6 → (o.testBit i = true ↔ Ans nx mk tk n i)) ∨ (¬ Snd tk n ∧ r = (-3))) ∧ UM ad di nx mk n tk u) := by
  refine xMi_intro (by decide) (Nat.le_of_ble_eq_true rfl) ?_
  intro p e s m args below meth c A Q hx hb hml hown hts hA hK hP hD hS hret ls hl
  have hl : lv_has ls 1 [(0, .ref (ad 0))] := hl
  obtain ⟨hen, hfx, hbo, hsk⟩ := hMB
  refine lv_aload_n hx hb dX1_set_0 rfl (lv_at hl 0 rfl) ?_
  refine xcall_i (As := []) (rest := []) (ci := 1) ⟨hx, hb, hml, hown, hts⟩ (metX1_sound l D ad di db nx mk n tk en bd fx bo sk hn htk hen) (cwV 0 hts (lw_V q268 q245 q246 q28 q247) rfl rfl rfl (by decide +kernel) ⟨Nat.le_of_ble_eq_true rfl, Nat.le_of_ble_eq_true rfl⟩) rfl rfl hK hP hD hS hA rfl hl.1 rfl (Nat.le_of_ble_eq_true rfl) dX1_set_1 ⟨Nat.zero_le _, Nat.zero_le _⟩ (fun r u H locs hw hP hD hS => ?_)
  obtain ⟨en1, bd1, rfl, hen1, hF⟩ := hw
  rcases hF with ⟨rfl, hStr, hbp⟩ | ⟨rfl, hno⟩
  · refine nv_if_eq (tgt := 14) hx hb (by omega) dX1_set_4 (by decide) (fun q => absurd q (by omega)) (fun c4 => ?_)
    refine lv_aload_n hx hb dX1_set_7 rfl (lv_at hl 0 rfl) ?_
    refine xcall_i (As := []) (rest := []) (ci := 1) ⟨hx, hb, hml, hown, hts⟩ (metX1_find l D ad di db nx mk n tk en1 bd1 fx bo sk hn htk hmk hnx hen1 hStr hbp hfx hbo hsk) (cwV 0 hts (lw_V q269 q271 qs20 q28 q272) rfl rfl rfl (by decide +kernel) ⟨Nat.le_of_ble_eq_true rfl, Nat.le_of_ble_eq_true rfl⟩) rfl rfl hK hP hD hS hA rfl hl.1 rfl (Nat.le_of_ble_eq_true rfl) dX1_set_8 ⟨Nat.zero_le _, Nat.zero_le _⟩ (fun r u H locs hw hP hD hS => ?_)
    obtain ⟨v, fx1, bo1, sk1, rfl, hv64, rfl, hfx1, hbo1, hsk1, hans⟩ := hw
    refine lv_goto (tgt := 16) hx hb dX1_set_11 (by decide) ?_
    exact hret _ _ _ _ _ (mwX ad di nx mk n tk en1 bd1 fx1 bo1 sk1) rfl dX1_set_16 (⟨Or.inl ⟨⟨_, _, hStr⟩, v, hv64, rfl, hans⟩, ⟨en1, bd1, fx1, bo1, sk1, rfl, ⟨hen1, hfx1, hbo1, hsk1⟩⟩⟩) hP hD hS
  · refine nv_if_eq (tgt := 14) hx hb (by omega) dX1_set_4 (by decide) (fun c4 => ?_) (fun q => absurd q (by omega))
    refine lv_bipush (v := (-3)) hx hb dX1_set_14 (by decide) ?_
    exact hret _ _ _ _ _ (mwX ad di nx mk n tk en1 bd1 fx bo sk) rfl dX1_set_16 (⟨Or.inr ⟨hno, rfl⟩, ⟨en1, bd1, fx, bo, sk, rfl, ⟨hen1, hfx, hbo, hsk⟩⟩⟩) hP hD hS
end
section
/-! the two constructors: ten and eight arrays of zeros -/
theorem ar_known {args : Array Value} {s : State} {ty : FieldType} (harr : (Cond.arrayClass ty).before args s = true) (h2 : ty = .int ∨ ty = .byte) : ∃ cA : ClassId, ArrOfT s cA ty ∧ va_RA s cA ty := by
  obtain ⟨cA, kA, comp, h1, h3, h4⟩ := Cond.arrayClass_spec harr
  refine ⟨cA, fun n z => ⟨fun k h => (by cases h), kA, h3, comp, h4⟩, ?_⟩
  rcases h2 with rfl | rfl
  · exact h1
  · exact h1
theorem RA_uniq {s : State} {a b : ClassId} {ty : FieldType} (h2 : ty = .int ∨ ty = .byte) (ha : va_RA s a ty) (hb : va_RA s b ty) : a = b := by
  rcases h2 with rfl | rfl
  · have ha : s.vm.findClass ("[" ++ FieldType.int.toString) = some a := ha
    have hb : s.vm.findClass ("[" ++ FieldType.int.toString) = some b := hb
    exact Option.some.inj (ha.symm.trans hb)
  · have ha : s.vm.findClass ("[" ++ FieldType.byte.toString) = some a := ha
    have hb : s.vm.findClass ("[" ++ FieldType.byte.toString) = some b := hb
    exact Option.some.inj (ha.symm.trans hb)
/-- the contract of a constructor: mc cells of ms slots come -/
def xMc (l : Launch) (y : MethodName) (b : ByteArray) (L : Nat) (rm : Room) (D : va_G) (tys : List (ClassId × FieldType)) (w : va_W) (av : List Value) (post : va_W → Prop) (mc ms : Nat) : Prop :=
  ∀ sz : Nat, Met l y (ws_ y b L none) rm (va_Pc av (xPre D tys w sz)) (va_Qv post (xB D tys (va_A w sz)) (va_A w sz)) mc ms (va_A w sz)
theorem xMc_intro {l : Launch} {y : MethodName} {b : ByteArray} {L : Nat} {rm : Room} {D : va_G} {tys : List (ClassId × FieldType)} {w : va_W} {av : List Value} {post : va_W → Prop} {mc ms : Nat} (hy : plainName y.cls = true) (hy1 : y.name = "<init>") (hL : (lg_sl av).length ≤ L)
    (body : ∀ (p : Program) (e : Env) (s : State) (m : MethodId) (args : Array Value) (below : List Frame) (meth : Method) (c : Code) (A : Nat → Prop) (Q : State → Prop), p.tables.exec = Jvm.exec → c.code = b → c.maxLocals = L → s.vm.findClass y.cls = some m.cls → meth.name = "<init>" → (∀ w ∈ lw_all, w.before args s = true) → (∀ q : Nat, s.heap.size ≤ q → A q) → va_K D vwCl tys s → va_P D vwCl w s.heap → va_D A w → va_S A s.heap s.heap [] →
      (∀ (H : Heap) (locs : List Loc) (pc : Nat) (ls : Array Slot) (u : va_W), decode b pc = .ok (.return_, 1) → post u → va_P D vwCl u H → va_D A u → va_S A s.heap H locs → W p l e rm s m args below meth c H locs mc ms Q (F0 m pc ls [])) →
      ∀ ls : Array Slot, lv_has ls L (lv_args 0 av) → W p l e rm s m args below meth c s.heap [] 0 0 Q (F0 m 0 ls [])) : xMc l y b L rm D tys w av post mc ms := by
  intro sz
  refine Met.ofW (cc := b) (maxL := L) (ret := none) hy rfl ?_
  intro p e s m args below meth c s₁ B hml hv
  obtain ⟨rfl, hsz, hP, hK, hD0⟩ := hv
  have hts := atoms_spec (ws := ws_ y b L none) B.pre
  have hts : ∀ w ∈ lw_all, w.before _ s = true := fun w h => hts w (List.mem_cons_of_mem _ h)
  have hin : meth.name = "<init>" := (name_of_methodNamed B.named B.method).1.trans hy1
  subst hsz
  have hD := hD0.self (sz := s.heap.size)
  rw [lg_entry_eq]
  refine body p e s m _ below meth c (va_A w s.heap.size) _ B.exec B.bytes hml (findClass_of_methodNamed B.named) hin hts (fun q h => Or.inr h) hK hP hD va_S.rf ?_ _ (lv_entry av hL)
  intro H locs pc ls u hdg hpost hPu hDu hS
  exact W.vret B.exec B.bytes B.returns (fun t ht hW => ⟨⟨u, rfl, hpost, by rw [ht]; exact hPu, va_K.moved hW.alike hK, hDu⟩, hS.F ht⟩) hS.2.2 hdg B.notSynchronized
section NEWA
variable {p : Program} {l : Launch} {e : Env} {R : Room} {s : State} {m : MethodId} {args : Array Value} {below : List Frame} {meth : Method} {c : Code} {H H0 : Heap} {locs : List Loc} {cells slots : Nat} {Q : State → Prop}
variable {cc b : ByteArray} {pc nL L n a : Nat} {ls : Array Slot} {rest st0 : List Value} {D : va_G} {tys : List (ClassId × FieldType)} {ws w w2 : va_W} {A : Nat → Prop} {cA : ClassId} {own : String} {y : MethodName} {rm : Room}
theorem nx_newa (hexec : p.tables.exec = Jvm.exec) (hb : c.code = cc) {atype : ArrayType} {ty : FieldType} (hty : newarray.typeOf atype = ty) (h2 : ty = .int ∨ ty = .byte) (harr : (Cond.arrayClass ty).before args s = true) (hK : va_K D vwCl tys s) (hP : va_P D vwCl ws H) (hD : va_D A ws) (hS : va_S A H0 H locs) (hA : ∀ q : Nat, H0.size ≤ q → A q) (t0 : Nat) (ht : tys[t0]? = some (cA, ty))
    {N' : Nat} {f : Nat → Int32} (hf : ∀ j, f j = 0) (hN : N' < 2 ^ 31) (hbytes : N' * componentBytes ty ≤ 536870912) (hcells : cells + 1 ≤ R.cells) (hslots : slots + N' ≤ R.slots) (hdg : decode cc pc = .ok (.newarray atype, 2))
    (kk : ∀ (q : Nat) (H1 : Heap), va_P D vwCl (ws ++ [(q, .inl (cA, N', .inl f))]) H1 → va_D A (ws ++ [(q, .inl (cA, N', .inl f))]) → va_S A H0 H1 locs → W p l e R s m args below meth c H1 locs (cells + 1) (slots + N') Q (F0 m (pc + 2) ls (.ref q :: rest))) : W p l e R s m args below meth c H locs cells slots Q (F0 m pc ls (.int (nI N') :: rest)) := by
  subst hty
  refine va_newa (a0 := (N', .inl f)) hexec hb harr rfl hK hP hD hS hA (fun cB => ?_) (nI_pos hN) (nI_clamp hN) hbytes hcells hslots hdg (fun q cB H1 hK1 hP1 hD1 hS1 => ?_)
  · show arrV cB N' (fun j => .int (f j)) = _
    congr 1
    funext j
    rw [hf j]
    rcases h2 with h2 | h2
    · rw [h2]; rfl
    · rw [h2]; rfl
  · have e1 := (hK.2 t0 _ ht).2
    have e2 := (hK1.2 tys.length (cB, newarray.typeOf atype) (by simp)).2
    have e3 : cB = cA := RA_uniq h2 e2 e1
    subst e3
    exact kk q H1 hP1 hD1 hS1
theorem pX0F (hexec : p.tables.exec = Jvm.exec) (hb : c.code = cc) {index : Nat} (hts : ∀ w ∈ lw_all, w.before args s = true) (hown : s.vm.findClass RX0 = some m.cls) (hin : meth.name = "<init>") (hK : va_K D vwCl tys s) (hP : va_P D vwCl ws H) (hD : va_D A ws) (hS : va_S A H0 H locs) (q0 : Nat) {fs : List Value} (he : ws[q0]? = some (a, .inr (0, fs))) (k : Nat) (hk : k < 15) (hq : Cond.fieldLink RX0 index (TX0 k).1 (TX0 k).2.1 (TX0 k).2.2.1 ∈ lw_all) (hfin : (TX0 k).2.2.2 = true) (hdecl : (TX0 k).1 = RX0) {v : Value} (hn : narrow (tyX0 k) v = v) (hfit : fits (tyX0 k) v = true) (hl : k < fs.length) (hdg : decode cc pc = .ok (.putfield index, 3))
    (kk : ∀ (H1 : Heap) (locs1 : List Loc), va_P D vwCl (ws.set q0 (a, .inr (0, fs.set k v))) H1 → va_D A (ws.set q0 (a, .inr (0, fs.set k v))) → va_S A H0 H1 locs1 → W p l e R s m args below meth c H1 locs1 cells slots Q (F0 m (pc + 3) ls rest)) : W p l e R s m args below meth c H locs cells slots Q (F0 m pc ls (v :: .ref a :: rest)) :=
  va_putF (C := RX0) (T := TX0) (N := 15) (ci := 0) hexec hb hts in_X0 tyX0 tyX0_ok nmX0 hown hK hP hD hS q0 he rfl k hk (hts _ hq) (fun _ h9 => h9) hfin hin hdecl (tyX0_ok k hk) hn hfit hl hdg kk
/-- a constructor's call: the new object alone in front, the other cells behind -/
theorem ccall {post : va_W → Prop} {mc ms index : Nat} (S : CallFix p m c cc nL s args lw_all own) (hM : xMc l y b L rm D tys w [.ref a] post mc ms) (cw : CallB R s args own index y b L none (ws_ y b L none) rm mc ms 0 ∧ y.name = "<init>" ∧ (Cond.instanceMethod y).before args s = true)
    (hK : va_K D vwCl tys s) (hP : va_P D vwCl (w ++ w2) H) (hD : va_D A (w ++ w2)) (hS : va_S A s.heap H locs) (hA : ∀ q : Nat, s.heap.size ≤ q → A q) (hsize : ls.size = nL) (hst : st0 = .ref a :: rest) (hr : (rest.map fun v => v.category).sum ≤ 8) (hdg : decode cc pc = .ok (.invokespecial index, 3)) (hf : cells + mc ≤ R.cells ∧ slots + ms ≤ R.slots)
    (kk : ∀ (u : va_W) (H1 : Heap) (locs1 : List Loc), post u → va_P D vwCl (u ++ w2) H1 → va_D A (u ++ w2) → va_S A s.heap H1 locs1 → W p l e R s m args below meth c H1 locs1 (cells + mc) (slots + ms) Q (F0 m (pc + 3) ls rest)) : W p l e R s m args below meth c H locs cells slots Q (F0 m pc ls st0) := by
  obtain ⟨hPl, hDl⟩ := x_left hP hD
  have hF := x_free hDl hS hA
  refine va_callv (va_runI (As := []) (rest := rest) S (hM H.size) cw ⟨x_blind, fun U hU hW => ⟨rfl, by rw [hU], by rw [hU]; exact hPl, va_K.moved hW.alike hK, hDl.weaken (fun _ _ _ _ => trivial)⟩⟩ rfl rfl hsize hst (lv_room hr) hdg hf) hS (fun q _ h => hF q h) hF (fun u t H1 locs1 ht hvm hw hB hz hk hS1 => ?_)
  obtain ⟨hP1, hK1, hD1⟩ := hB
  rw [ht] at hP1
  obtain ⟨g1, g2⟩ := x_joinL (H0 := H) hP hD hP1 hD1 hk hF
  exact kk u H1 locs1 hw g1 g2 hS1
end NEWA
theorem nA_z : ∀ j, nA (fun _ => 0) j = 0 := fun _ => nI_0
theorem nPA_z : ∀ j, nPA (fun _ => 1) j = 0 := fun _ => (by decide : nP 1 = 0)
set_option maxHeartbeats 4000000 in
set_option maxRecDepth 100000 in
/-- a new ModalJudge -/
theorem metX0_init (l : Launch) (D : va_G) (di db : ClassId) (h0 : Nat) : xMc l yX0_init cX0_init 1 ({ frames := 1, cells := 10, slots := 149, locals := 20 }) D (tyX di db) [(h0, .inr (0, [.null, .null, .int (nI 0), .null, .int (nI 0), .int (nI 0), .int (nI 0), .null, .null, .null, .null, .int (nI 0), .null, .null, .null]))] [.ref h0] (fun u => ∃ ad : Nat → Nat, ad 0 = h0 ∧ u = cwX ad di db (fun _ => 0) (fun _ => 0) 0 (fun _ => 0) 0 0 0 (fun _ => 0) (fun _ => 0) (fun _ => 1) (fun _ => 0) 0 (fun _ => 0) (fun _ => 0) (fun _ => 0)) 10 149 := by
  refine xMc_intro (by decide) rfl (Nat.le_of_ble_eq_true rfl) ?_
  intro p e s m args below meth c A Q hx hb hml hown hin hts hA hK hP hD hS hret ls hl
  have hl : lv_has ls 1 [(0, .ref h0)] := hl
  refine lv_aload_n hx hb dX0_init_0 rfl (lv_at hl 0 rfl) ?_
  refine W.objInit hx hb hown (hts _ q34) (hts _ q35) (hts _ q36) rfl (by rw [hml]; exact hl.1) rfl dX0_init_1 (Nat.le_of_ble_eq_true rfl) (Nat.le_of_ble_eq_true rfl) ?_
  refine W.eq (g2 := F0 m 4 ls []) rfl ?_
  refine lv_aload_n hx hb dX0_init_4 rfl (lv_at hl 0 rfl) ?_
  refine lv_bipush (v := nI 6) hx hb dX0_init_5 (by decide) ?_
  refine nx_newa (ty := .int) (atype := .int) (f := nA (fun _ => 0)) hx hb rfl (Or.inl rfl) (hts _ q83) hK hP hD hS hA 0 rfl nA_z (by decide) (by decide) (Nat.le_of_ble_eq_true rfl) (Nat.le_of_ble_eq_true rfl) dX0_init_7 (fun a1 H hP hD hS => ?_)
  have hP : va_P D vwCl [(h0, .inr (0, [.null, .null, .int (nI 0), .null, .int (nI 0), .int (nI 0), .int (nI 0), .null, .null, .null, .null, .int (nI 0), .null, .null, .null])), (a1, .inl (di, 6, .inl (nA (fun _ => 0))))] H := hP
  have hD : va_D A [(h0, .inr (0, [.null, .null, .int (nI 0), .null, .int (nI 0), .int (nI 0), .int (nI 0), .null, .null, .null, .null, .int (nI 0), .null, .null, .null])), (a1, .inl (di, 6, .inl (nA (fun _ => 0))))] := hD
  refine pX0F hx hb hts hown hin hK hP hD hS 0 rfl 0 (by decide) q37 rfl rfl rfl rfl (Nat.le_of_ble_eq_true rfl) dX0_init_9 (fun H locs hP hD hS => ?_)
  have hP : va_P D vwCl [(h0, .inr (0, [.ref a1, .null, .int (nI 0), .null, .int (nI 0), .int (nI 0), .int (nI 0), .null, .null, .null, .null, .int (nI 0), .null, .null, .null])), (a1, .inl (di, 6, .inl (nA (fun _ => 0))))] H := hP
  have hD : va_D A [(h0, .inr (0, [.ref a1, .null, .int (nI 0), .null, .int (nI 0), .int (nI 0), .int (nI 0), .null, .null, .null, .null, .int (nI 0), .null, .null, .null])), (a1, .inl (di, 6, .inl (nA (fun _ => 0))))] := hD
  refine lv_aload_n hx hb dX0_init_12 rfl (lv_at hl 0 rfl) ?_
  refine lv_iconst (v := nI 3) hx hb dX0_init_13 (by decide) ?_
  refine nx_newa (ty := .int) (atype := .int) (f := nA (fun _ => 0)) hx hb rfl (Or.inl rfl) (hts _ q83) hK hP hD hS hA 0 rfl nA_z (by decide) (by decide) (Nat.le_of_ble_eq_true rfl) (Nat.le_of_ble_eq_true rfl) dX0_init_14 (fun a2 H hP hD hS => ?_)
  have hP : va_P D vwCl [(h0, .inr (0, [.ref a1, .null, .int (nI 0), .null, .int (nI 0), .int (nI 0), .int (nI 0), .null, .null, .null, .null, .int (nI 0), .null, .null, .null])), (a1, .inl (di, 6, .inl (nA (fun _ => 0)))), (a2, .inl (di, 3, .inl (nA (fun _ => 0))))] H := hP
  have hD : va_D A [(h0, .inr (0, [.ref a1, .null, .int (nI 0), .null, .int (nI 0), .int (nI 0), .int (nI 0), .null, .null, .null, .null, .int (nI 0), .null, .null, .null])), (a1, .inl (di, 6, .inl (nA (fun _ => 0)))), (a2, .inl (di, 3, .inl (nA (fun _ => 0))))] := hD
  refine pX0F hx hb hts hown hin hK hP hD hS 0 rfl 1 (by decide) q38 rfl rfl rfl rfl (Nat.le_of_ble_eq_true rfl) dX0_init_16 (fun H locs hP hD hS => ?_)
  have hP : va_P D vwCl [(h0, .inr (0, [.ref a1, .ref a2, .int (nI 0), .null, .int (nI 0), .int (nI 0), .int (nI 0), .null, .null, .null, .null, .int (nI 0), .null, .null, .null])), (a1, .inl (di, 6, .inl (nA (fun _ => 0)))), (a2, .inl (di, 3, .inl (nA (fun _ => 0))))] H := hP
  have hD : va_D A [(h0, .inr (0, [.ref a1, .ref a2, .int (nI 0), .null, .int (nI 0), .int (nI 0), .int (nI 0), .null, .null, .null, .null, .int (nI 0), .null, .null, .null])), (a1, .inl (di, 6, .inl (nA (fun _ => 0)))), (a2, .inl (di, 3, .inl (nA (fun _ => 0))))] := hD
  refine lv_aload_n hx hb dX0_init_19 rfl (lv_at hl 0 rfl) ?_
  refine lv_bipush (v := nI 12) hx hb dX0_init_20 (by decide) ?_
  refine nx_newa (ty := .byte) (atype := .byte) (f := nA (fun _ => 0)) hx hb rfl (Or.inr rfl) (hts _ q84) hK hP hD hS hA 1 rfl nA_z (by decide) (by decide) (Nat.le_of_ble_eq_true rfl) (Nat.le_of_ble_eq_true rfl) dX0_init_22 (fun a3 H hP hD hS => ?_)
  have hP : va_P D vwCl [(h0, .inr (0, [.ref a1, .ref a2, .int (nI 0), .null, .int (nI 0), .int (nI 0), .int (nI 0), .null, .null, .null, .null, .int (nI 0), .null, .null, .null])), (a1, .inl (di, 6, .inl (nA (fun _ => 0)))), (a2, .inl (di, 3, .inl (nA (fun _ => 0)))), (a3, .inl (db, 12, .inl (nA (fun _ => 0))))] H := hP
  have hD : va_D A [(h0, .inr (0, [.ref a1, .ref a2, .int (nI 0), .null, .int (nI 0), .int (nI 0), .int (nI 0), .null, .null, .null, .null, .int (nI 0), .null, .null, .null])), (a1, .inl (di, 6, .inl (nA (fun _ => 0)))), (a2, .inl (di, 3, .inl (nA (fun _ => 0)))), (a3, .inl (db, 12, .inl (nA (fun _ => 0))))] := hD
  refine pX0F hx hb hts hown hin hK hP hD hS 0 rfl 3 (by decide) q40 rfl rfl rfl rfl (Nat.le_of_ble_eq_true rfl) dX0_init_24 (fun H locs hP hD hS => ?_)
  have hP : va_P D vwCl [(h0, .inr (0, [.ref a1, .ref a2, .int (nI 0), .ref a3, .int (nI 0), .int (nI 0), .int (nI 0), .null, .null, .null, .null, .int (nI 0), .null, .null, .null])), (a1, .inl (di, 6, .inl (nA (fun _ => 0)))), (a2, .inl (di, 3, .inl (nA (fun _ => 0)))), (a3, .inl (db, 12, .inl (nA (fun _ => 0))))] H := hP
  have hD : va_D A [(h0, .inr (0, [.ref a1, .ref a2, .int (nI 0), .ref a3, .int (nI 0), .int (nI 0), .int (nI 0), .null, .null, .null, .null, .int (nI 0), .null, .null, .null])), (a1, .inl (di, 6, .inl (nA (fun _ => 0)))), (a2, .inl (di, 3, .inl (nA (fun _ => 0)))), (a3, .inl (db, 12, .inl (nA (fun _ => 0))))] := hD
  refine lv_aload_n hx hb dX0_init_27 rfl (lv_at hl 0 rfl) ?_
  refine lv_bipush (v := nI 12) hx hb dX0_init_28 (by decide) ?_
  refine nx_newa (ty := .byte) (atype := .byte) (f := nA (fun _ => 0)) hx hb rfl (Or.inr rfl) (hts _ q84) hK hP hD hS hA 1 rfl nA_z (by decide) (by decide) (Nat.le_of_ble_eq_true rfl) (Nat.le_of_ble_eq_true rfl) dX0_init_30 (fun a4 H hP hD hS => ?_)
  have hP : va_P D vwCl [(h0, .inr (0, [.ref a1, .ref a2, .int (nI 0), .ref a3, .int (nI 0), .int (nI 0), .int (nI 0), .null, .null, .null, .null, .int (nI 0), .null, .null, .null])), (a1, .inl (di, 6, .inl (nA (fun _ => 0)))), (a2, .inl (di, 3, .inl (nA (fun _ => 0)))), (a3, .inl (db, 12, .inl (nA (fun _ => 0)))), (a4, .inl (db, 12, .inl (nA (fun _ => 0))))] H := hP
  have hD : va_D A [(h0, .inr (0, [.ref a1, .ref a2, .int (nI 0), .ref a3, .int (nI 0), .int (nI 0), .int (nI 0), .null, .null, .null, .null, .int (nI 0), .null, .null, .null])), (a1, .inl (di, 6, .inl (nA (fun _ => 0)))), (a2, .inl (di, 3, .inl (nA (fun _ => 0)))), (a3, .inl (db, 12, .inl (nA (fun _ => 0)))), (a4, .inl (db, 12, .inl (nA (fun _ => 0))))] := hD
  refine pX0F hx hb hts hown hin hK hP hD hS 0 rfl 7 (by decide) q44 rfl rfl rfl rfl (Nat.le_of_ble_eq_true rfl) dX0_init_32 (fun H locs hP hD hS => ?_)
  have hP : va_P D vwCl [(h0, .inr (0, [.ref a1, .ref a2, .int (nI 0), .ref a3, .int (nI 0), .int (nI 0), .int (nI 0), .ref a4, .null, .null, .null, .int (nI 0), .null, .null, .null])), (a1, .inl (di, 6, .inl (nA (fun _ => 0)))), (a2, .inl (di, 3, .inl (nA (fun _ => 0)))), (a3, .inl (db, 12, .inl (nA (fun _ => 0)))), (a4, .inl (db, 12, .inl (nA (fun _ => 0))))] H := hP
  have hD : va_D A [(h0, .inr (0, [.ref a1, .ref a2, .int (nI 0), .ref a3, .int (nI 0), .int (nI 0), .int (nI 0), .ref a4, .null, .null, .null, .int (nI 0), .null, .null, .null])), (a1, .inl (di, 6, .inl (nA (fun _ => 0)))), (a2, .inl (di, 3, .inl (nA (fun _ => 0)))), (a3, .inl (db, 12, .inl (nA (fun _ => 0)))), (a4, .inl (db, 12, .inl (nA (fun _ => 0))))] := hD
  refine lv_aload_n hx hb dX0_init_35 rfl (lv_at hl 0 rfl) ?_
  refine lv_bipush (v := nI 12) hx hb dX0_init_36 (by decide) ?_
  refine nx_newa (ty := .byte) (atype := .byte) (f := nA (fun _ => 0)) hx hb rfl (Or.inr rfl) (hts _ q84) hK hP hD hS hA 1 rfl nA_z (by decide) (by decide) (Nat.le_of_ble_eq_true rfl) (Nat.le_of_ble_eq_true rfl) dX0_init_38 (fun a5 H hP hD hS => ?_)
  have hP : va_P D vwCl [(h0, .inr (0, [.ref a1, .ref a2, .int (nI 0), .ref a3, .int (nI 0), .int (nI 0), .int (nI 0), .ref a4, .null, .null, .null, .int (nI 0), .null, .null, .null])), (a1, .inl (di, 6, .inl (nA (fun _ => 0)))), (a2, .inl (di, 3, .inl (nA (fun _ => 0)))), (a3, .inl (db, 12, .inl (nA (fun _ => 0)))), (a4, .inl (db, 12, .inl (nA (fun _ => 0)))), (a5, .inl (db, 12, .inl (nA (fun _ => 0))))] H := hP
  have hD : va_D A [(h0, .inr (0, [.ref a1, .ref a2, .int (nI 0), .ref a3, .int (nI 0), .int (nI 0), .int (nI 0), .ref a4, .null, .null, .null, .int (nI 0), .null, .null, .null])), (a1, .inl (di, 6, .inl (nA (fun _ => 0)))), (a2, .inl (di, 3, .inl (nA (fun _ => 0)))), (a3, .inl (db, 12, .inl (nA (fun _ => 0)))), (a4, .inl (db, 12, .inl (nA (fun _ => 0)))), (a5, .inl (db, 12, .inl (nA (fun _ => 0))))] := hD
  refine pX0F hx hb hts hown hin hK hP hD hS 0 rfl 8 (by decide) q45 rfl rfl rfl rfl (Nat.le_of_ble_eq_true rfl) dX0_init_40 (fun H locs hP hD hS => ?_)
  have hP : va_P D vwCl [(h0, .inr (0, [.ref a1, .ref a2, .int (nI 0), .ref a3, .int (nI 0), .int (nI 0), .int (nI 0), .ref a4, .ref a5, .null, .null, .int (nI 0), .null, .null, .null])), (a1, .inl (di, 6, .inl (nA (fun _ => 0)))), (a2, .inl (di, 3, .inl (nA (fun _ => 0)))), (a3, .inl (db, 12, .inl (nA (fun _ => 0)))), (a4, .inl (db, 12, .inl (nA (fun _ => 0)))), (a5, .inl (db, 12, .inl (nA (fun _ => 0))))] H := hP
  have hD : va_D A [(h0, .inr (0, [.ref a1, .ref a2, .int (nI 0), .ref a3, .int (nI 0), .int (nI 0), .int (nI 0), .ref a4, .ref a5, .null, .null, .int (nI 0), .null, .null, .null])), (a1, .inl (di, 6, .inl (nA (fun _ => 0)))), (a2, .inl (di, 3, .inl (nA (fun _ => 0)))), (a3, .inl (db, 12, .inl (nA (fun _ => 0)))), (a4, .inl (db, 12, .inl (nA (fun _ => 0)))), (a5, .inl (db, 12, .inl (nA (fun _ => 0))))] := hD
  refine lv_aload_n hx hb dX0_init_43 rfl (lv_at hl 0 rfl) ?_
  refine lv_bipush (v := nI 12) hx hb dX0_init_44 (by decide) ?_
  refine nx_newa (ty := .byte) (atype := .byte) (f := nPA (fun _ => 1)) hx hb rfl (Or.inr rfl) (hts _ q84) hK hP hD hS hA 1 rfl nPA_z (by decide) (by decide) (Nat.le_of_ble_eq_true rfl) (Nat.le_of_ble_eq_true rfl) dX0_init_46 (fun a6 H hP hD hS => ?_)
  have hP : va_P D vwCl [(h0, .inr (0, [.ref a1, .ref a2, .int (nI 0), .ref a3, .int (nI 0), .int (nI 0), .int (nI 0), .ref a4, .ref a5, .null, .null, .int (nI 0), .null, .null, .null])), (a1, .inl (di, 6, .inl (nA (fun _ => 0)))), (a2, .inl (di, 3, .inl (nA (fun _ => 0)))), (a3, .inl (db, 12, .inl (nA (fun _ => 0)))), (a4, .inl (db, 12, .inl (nA (fun _ => 0)))), (a5, .inl (db, 12, .inl (nA (fun _ => 0)))), (a6, .inl (db, 12, .inl (nPA (fun _ => 1))))] H := hP
  have hD : va_D A [(h0, .inr (0, [.ref a1, .ref a2, .int (nI 0), .ref a3, .int (nI 0), .int (nI 0), .int (nI 0), .ref a4, .ref a5, .null, .null, .int (nI 0), .null, .null, .null])), (a1, .inl (di, 6, .inl (nA (fun _ => 0)))), (a2, .inl (di, 3, .inl (nA (fun _ => 0)))), (a3, .inl (db, 12, .inl (nA (fun _ => 0)))), (a4, .inl (db, 12, .inl (nA (fun _ => 0)))), (a5, .inl (db, 12, .inl (nA (fun _ => 0)))), (a6, .inl (db, 12, .inl (nPA (fun _ => 1))))] := hD
  refine pX0F hx hb hts hown hin hK hP hD hS 0 rfl 9 (by decide) q46 rfl rfl rfl rfl (Nat.le_of_ble_eq_true rfl) dX0_init_48 (fun H locs hP hD hS => ?_)
  have hP : va_P D vwCl [(h0, .inr (0, [.ref a1, .ref a2, .int (nI 0), .ref a3, .int (nI 0), .int (nI 0), .int (nI 0), .ref a4, .ref a5, .ref a6, .null, .int (nI 0), .null, .null, .null])), (a1, .inl (di, 6, .inl (nA (fun _ => 0)))), (a2, .inl (di, 3, .inl (nA (fun _ => 0)))), (a3, .inl (db, 12, .inl (nA (fun _ => 0)))), (a4, .inl (db, 12, .inl (nA (fun _ => 0)))), (a5, .inl (db, 12, .inl (nA (fun _ => 0)))), (a6, .inl (db, 12, .inl (nPA (fun _ => 1))))] H := hP
  have hD : va_D A [(h0, .inr (0, [.ref a1, .ref a2, .int (nI 0), .ref a3, .int (nI 0), .int (nI 0), .int (nI 0), .ref a4, .ref a5, .ref a6, .null, .int (nI 0), .null, .null, .null])), (a1, .inl (di, 6, .inl (nA (fun _ => 0)))), (a2, .inl (di, 3, .inl (nA (fun _ => 0)))), (a3, .inl (db, 12, .inl (nA (fun _ => 0)))), (a4, .inl (db, 12, .inl (nA (fun _ => 0)))), (a5, .inl (db, 12, .inl (nA (fun _ => 0)))), (a6, .inl (db, 12, .inl (nPA (fun _ => 1))))] := hD
  refine lv_aload_n hx hb dX0_init_51 rfl (lv_at hl 0 rfl) ?_
  refine lv_bipush (v := nI 12) hx hb dX0_init_52 (by decide) ?_
  refine nx_newa (ty := .byte) (atype := .byte) (f := nA (fun _ => 0)) hx hb rfl (Or.inr rfl) (hts _ q84) hK hP hD hS hA 1 rfl nA_z (by decide) (by decide) (Nat.le_of_ble_eq_true rfl) (Nat.le_of_ble_eq_true rfl) dX0_init_54 (fun a7 H hP hD hS => ?_)
  have hP : va_P D vwCl [(h0, .inr (0, [.ref a1, .ref a2, .int (nI 0), .ref a3, .int (nI 0), .int (nI 0), .int (nI 0), .ref a4, .ref a5, .ref a6, .null, .int (nI 0), .null, .null, .null])), (a1, .inl (di, 6, .inl (nA (fun _ => 0)))), (a2, .inl (di, 3, .inl (nA (fun _ => 0)))), (a3, .inl (db, 12, .inl (nA (fun _ => 0)))), (a4, .inl (db, 12, .inl (nA (fun _ => 0)))), (a5, .inl (db, 12, .inl (nA (fun _ => 0)))), (a6, .inl (db, 12, .inl (nPA (fun _ => 1)))), (a7, .inl (db, 12, .inl (nA (fun _ => 0))))] H := hP
  have hD : va_D A [(h0, .inr (0, [.ref a1, .ref a2, .int (nI 0), .ref a3, .int (nI 0), .int (nI 0), .int (nI 0), .ref a4, .ref a5, .ref a6, .null, .int (nI 0), .null, .null, .null])), (a1, .inl (di, 6, .inl (nA (fun _ => 0)))), (a2, .inl (di, 3, .inl (nA (fun _ => 0)))), (a3, .inl (db, 12, .inl (nA (fun _ => 0)))), (a4, .inl (db, 12, .inl (nA (fun _ => 0)))), (a5, .inl (db, 12, .inl (nA (fun _ => 0)))), (a6, .inl (db, 12, .inl (nPA (fun _ => 1)))), (a7, .inl (db, 12, .inl (nA (fun _ => 0))))] := hD
  refine pX0F hx hb hts hown hin hK hP hD hS 0 rfl 10 (by decide) q47 rfl rfl rfl rfl (Nat.le_of_ble_eq_true rfl) dX0_init_56 (fun H locs hP hD hS => ?_)
  have hP : va_P D vwCl [(h0, .inr (0, [.ref a1, .ref a2, .int (nI 0), .ref a3, .int (nI 0), .int (nI 0), .int (nI 0), .ref a4, .ref a5, .ref a6, .ref a7, .int (nI 0), .null, .null, .null])), (a1, .inl (di, 6, .inl (nA (fun _ => 0)))), (a2, .inl (di, 3, .inl (nA (fun _ => 0)))), (a3, .inl (db, 12, .inl (nA (fun _ => 0)))), (a4, .inl (db, 12, .inl (nA (fun _ => 0)))), (a5, .inl (db, 12, .inl (nA (fun _ => 0)))), (a6, .inl (db, 12, .inl (nPA (fun _ => 1)))), (a7, .inl (db, 12, .inl (nA (fun _ => 0))))] H := hP
  have hD : va_D A [(h0, .inr (0, [.ref a1, .ref a2, .int (nI 0), .ref a3, .int (nI 0), .int (nI 0), .int (nI 0), .ref a4, .ref a5, .ref a6, .ref a7, .int (nI 0), .null, .null, .null])), (a1, .inl (di, 6, .inl (nA (fun _ => 0)))), (a2, .inl (di, 3, .inl (nA (fun _ => 0)))), (a3, .inl (db, 12, .inl (nA (fun _ => 0)))), (a4, .inl (db, 12, .inl (nA (fun _ => 0)))), (a5, .inl (db, 12, .inl (nA (fun _ => 0)))), (a6, .inl (db, 12, .inl (nPA (fun _ => 1)))), (a7, .inl (db, 12, .inl (nA (fun _ => 0))))] := hD
  refine lv_aload_n hx hb dX0_init_59 rfl (lv_at hl 0 rfl) ?_
  refine lv_bipush (v := nI 72) hx hb dX0_init_60 (by decide) ?_
  refine nx_newa (ty := .int) (atype := .int) (f := nA (fun _ => 0)) hx hb rfl (Or.inl rfl) (hts _ q83) hK hP hD hS hA 0 rfl nA_z (by decide) (by decide) (Nat.le_of_ble_eq_true rfl) (Nat.le_of_ble_eq_true rfl) dX0_init_62 (fun a8 H hP hD hS => ?_)
  have hP : va_P D vwCl [(h0, .inr (0, [.ref a1, .ref a2, .int (nI 0), .ref a3, .int (nI 0), .int (nI 0), .int (nI 0), .ref a4, .ref a5, .ref a6, .ref a7, .int (nI 0), .null, .null, .null])), (a1, .inl (di, 6, .inl (nA (fun _ => 0)))), (a2, .inl (di, 3, .inl (nA (fun _ => 0)))), (a3, .inl (db, 12, .inl (nA (fun _ => 0)))), (a4, .inl (db, 12, .inl (nA (fun _ => 0)))), (a5, .inl (db, 12, .inl (nA (fun _ => 0)))), (a6, .inl (db, 12, .inl (nPA (fun _ => 1)))), (a7, .inl (db, 12, .inl (nA (fun _ => 0)))), (a8, .inl (di, 72, .inl (nA (fun _ => 0))))] H := hP
  have hD : va_D A [(h0, .inr (0, [.ref a1, .ref a2, .int (nI 0), .ref a3, .int (nI 0), .int (nI 0), .int (nI 0), .ref a4, .ref a5, .ref a6, .ref a7, .int (nI 0), .null, .null, .null])), (a1, .inl (di, 6, .inl (nA (fun _ => 0)))), (a2, .inl (di, 3, .inl (nA (fun _ => 0)))), (a3, .inl (db, 12, .inl (nA (fun _ => 0)))), (a4, .inl (db, 12, .inl (nA (fun _ => 0)))), (a5, .inl (db, 12, .inl (nA (fun _ => 0)))), (a6, .inl (db, 12, .inl (nPA (fun _ => 1)))), (a7, .inl (db, 12, .inl (nA (fun _ => 0)))), (a8, .inl (di, 72, .inl (nA (fun _ => 0))))] := hD
  refine pX0F hx hb hts hown hin hK hP hD hS 0 rfl 12 (by decide) q49 rfl rfl rfl rfl (Nat.le_of_ble_eq_true rfl) dX0_init_64 (fun H locs hP hD hS => ?_)
  have hP : va_P D vwCl [(h0, .inr (0, [.ref a1, .ref a2, .int (nI 0), .ref a3, .int (nI 0), .int (nI 0), .int (nI 0), .ref a4, .ref a5, .ref a6, .ref a7, .int (nI 0), .ref a8, .null, .null])), (a1, .inl (di, 6, .inl (nA (fun _ => 0)))), (a2, .inl (di, 3, .inl (nA (fun _ => 0)))), (a3, .inl (db, 12, .inl (nA (fun _ => 0)))), (a4, .inl (db, 12, .inl (nA (fun _ => 0)))), (a5, .inl (db, 12, .inl (nA (fun _ => 0)))), (a6, .inl (db, 12, .inl (nPA (fun _ => 1)))), (a7, .inl (db, 12, .inl (nA (fun _ => 0)))), (a8, .inl (di, 72, .inl (nA (fun _ => 0))))] H := hP
  have hD : va_D A [(h0, .inr (0, [.ref a1, .ref a2, .int (nI 0), .ref a3, .int (nI 0), .int (nI 0), .int (nI 0), .ref a4, .ref a5, .ref a6, .ref a7, .int (nI 0), .ref a8, .null, .null])), (a1, .inl (di, 6, .inl (nA (fun _ => 0)))), (a2, .inl (di, 3, .inl (nA (fun _ => 0)))), (a3, .inl (db, 12, .inl (nA (fun _ => 0)))), (a4, .inl (db, 12, .inl (nA (fun _ => 0)))), (a5, .inl (db, 12, .inl (nA (fun _ => 0)))), (a6, .inl (db, 12, .inl (nPA (fun _ => 1)))), (a7, .inl (db, 12, .inl (nA (fun _ => 0)))), (a8, .inl (di, 72, .inl (nA (fun _ => 0))))] := hD
  refine lv_aload_n hx hb dX0_init_67 rfl (lv_at hl 0 rfl) ?_
  refine lv_iconst (v := nI 4) hx hb dX0_init_68 (by decide) ?_
  refine nx_newa (ty := .byte) (atype := .byte) (f := nA (fun _ => 0)) hx hb rfl (Or.inr rfl) (hts _ q84) hK hP hD hS hA 1 rfl nA_z (by decide) (by decide) (Nat.le_of_ble_eq_true rfl) (Nat.le_of_ble_eq_true rfl) dX0_init_69 (fun a9 H hP hD hS => ?_)
  have hP : va_P D vwCl [(h0, .inr (0, [.ref a1, .ref a2, .int (nI 0), .ref a3, .int (nI 0), .int (nI 0), .int (nI 0), .ref a4, .ref a5, .ref a6, .ref a7, .int (nI 0), .ref a8, .null, .null])), (a1, .inl (di, 6, .inl (nA (fun _ => 0)))), (a2, .inl (di, 3, .inl (nA (fun _ => 0)))), (a3, .inl (db, 12, .inl (nA (fun _ => 0)))), (a4, .inl (db, 12, .inl (nA (fun _ => 0)))), (a5, .inl (db, 12, .inl (nA (fun _ => 0)))), (a6, .inl (db, 12, .inl (nPA (fun _ => 1)))), (a7, .inl (db, 12, .inl (nA (fun _ => 0)))), (a8, .inl (di, 72, .inl (nA (fun _ => 0)))), (a9, .inl (db, 4, .inl (nA (fun _ => 0))))] H := hP
  have hD : va_D A [(h0, .inr (0, [.ref a1, .ref a2, .int (nI 0), .ref a3, .int (nI 0), .int (nI 0), .int (nI 0), .ref a4, .ref a5, .ref a6, .ref a7, .int (nI 0), .ref a8, .null, .null])), (a1, .inl (di, 6, .inl (nA (fun _ => 0)))), (a2, .inl (di, 3, .inl (nA (fun _ => 0)))), (a3, .inl (db, 12, .inl (nA (fun _ => 0)))), (a4, .inl (db, 12, .inl (nA (fun _ => 0)))), (a5, .inl (db, 12, .inl (nA (fun _ => 0)))), (a6, .inl (db, 12, .inl (nPA (fun _ => 1)))), (a7, .inl (db, 12, .inl (nA (fun _ => 0)))), (a8, .inl (di, 72, .inl (nA (fun _ => 0)))), (a9, .inl (db, 4, .inl (nA (fun _ => 0))))] := hD
  refine pX0F hx hb hts hown hin hK hP hD hS 0 rfl 13 (by decide) q50 rfl rfl rfl rfl (Nat.le_of_ble_eq_true rfl) dX0_init_71 (fun H locs hP hD hS => ?_)
  have hP : va_P D vwCl [(h0, .inr (0, [.ref a1, .ref a2, .int (nI 0), .ref a3, .int (nI 0), .int (nI 0), .int (nI 0), .ref a4, .ref a5, .ref a6, .ref a7, .int (nI 0), .ref a8, .ref a9, .null])), (a1, .inl (di, 6, .inl (nA (fun _ => 0)))), (a2, .inl (di, 3, .inl (nA (fun _ => 0)))), (a3, .inl (db, 12, .inl (nA (fun _ => 0)))), (a4, .inl (db, 12, .inl (nA (fun _ => 0)))), (a5, .inl (db, 12, .inl (nA (fun _ => 0)))), (a6, .inl (db, 12, .inl (nPA (fun _ => 1)))), (a7, .inl (db, 12, .inl (nA (fun _ => 0)))), (a8, .inl (di, 72, .inl (nA (fun _ => 0)))), (a9, .inl (db, 4, .inl (nA (fun _ => 0))))] H := hP
  have hD : va_D A [(h0, .inr (0, [.ref a1, .ref a2, .int (nI 0), .ref a3, .int (nI 0), .int (nI 0), .int (nI 0), .ref a4, .ref a5, .ref a6, .ref a7, .int (nI 0), .ref a8, .ref a9, .null])), (a1, .inl (di, 6, .inl (nA (fun _ => 0)))), (a2, .inl (di, 3, .inl (nA (fun _ => 0)))), (a3, .inl (db, 12, .inl (nA (fun _ => 0)))), (a4, .inl (db, 12, .inl (nA (fun _ => 0)))), (a5, .inl (db, 12, .inl (nA (fun _ => 0)))), (a6, .inl (db, 12, .inl (nPA (fun _ => 1)))), (a7, .inl (db, 12, .inl (nA (fun _ => 0)))), (a8, .inl (di, 72, .inl (nA (fun _ => 0)))), (a9, .inl (db, 4, .inl (nA (fun _ => 0))))] := hD
  refine lv_aload_n hx hb dX0_init_74 rfl (lv_at hl 0 rfl) ?_
  refine lv_iconst (v := nI 4) hx hb dX0_init_75 (by decide) ?_
  refine nx_newa (ty := .byte) (atype := .byte) (f := nA (fun _ => 0)) hx hb rfl (Or.inr rfl) (hts _ q84) hK hP hD hS hA 1 rfl nA_z (by decide) (by decide) (Nat.le_of_ble_eq_true rfl) (Nat.le_of_ble_eq_true rfl) dX0_init_76 (fun a10 H hP hD hS => ?_)
  have hP : va_P D vwCl [(h0, .inr (0, [.ref a1, .ref a2, .int (nI 0), .ref a3, .int (nI 0), .int (nI 0), .int (nI 0), .ref a4, .ref a5, .ref a6, .ref a7, .int (nI 0), .ref a8, .ref a9, .null])), (a1, .inl (di, 6, .inl (nA (fun _ => 0)))), (a2, .inl (di, 3, .inl (nA (fun _ => 0)))), (a3, .inl (db, 12, .inl (nA (fun _ => 0)))), (a4, .inl (db, 12, .inl (nA (fun _ => 0)))), (a5, .inl (db, 12, .inl (nA (fun _ => 0)))), (a6, .inl (db, 12, .inl (nPA (fun _ => 1)))), (a7, .inl (db, 12, .inl (nA (fun _ => 0)))), (a8, .inl (di, 72, .inl (nA (fun _ => 0)))), (a9, .inl (db, 4, .inl (nA (fun _ => 0)))), (a10, .inl (db, 4, .inl (nA (fun _ => 0))))] H := hP
  have hD : va_D A [(h0, .inr (0, [.ref a1, .ref a2, .int (nI 0), .ref a3, .int (nI 0), .int (nI 0), .int (nI 0), .ref a4, .ref a5, .ref a6, .ref a7, .int (nI 0), .ref a8, .ref a9, .null])), (a1, .inl (di, 6, .inl (nA (fun _ => 0)))), (a2, .inl (di, 3, .inl (nA (fun _ => 0)))), (a3, .inl (db, 12, .inl (nA (fun _ => 0)))), (a4, .inl (db, 12, .inl (nA (fun _ => 0)))), (a5, .inl (db, 12, .inl (nA (fun _ => 0)))), (a6, .inl (db, 12, .inl (nPA (fun _ => 1)))), (a7, .inl (db, 12, .inl (nA (fun _ => 0)))), (a8, .inl (di, 72, .inl (nA (fun _ => 0)))), (a9, .inl (db, 4, .inl (nA (fun _ => 0)))), (a10, .inl (db, 4, .inl (nA (fun _ => 0))))] := hD
  refine pX0F hx hb hts hown hin hK hP hD hS 0 rfl 14 (by decide) q51 rfl rfl rfl rfl (Nat.le_of_ble_eq_true rfl) dX0_init_78 (fun H locs hP hD hS => ?_)
  have hP : va_P D vwCl [(h0, .inr (0, [.ref a1, .ref a2, .int (nI 0), .ref a3, .int (nI 0), .int (nI 0), .int (nI 0), .ref a4, .ref a5, .ref a6, .ref a7, .int (nI 0), .ref a8, .ref a9, .ref a10])), (a1, .inl (di, 6, .inl (nA (fun _ => 0)))), (a2, .inl (di, 3, .inl (nA (fun _ => 0)))), (a3, .inl (db, 12, .inl (nA (fun _ => 0)))), (a4, .inl (db, 12, .inl (nA (fun _ => 0)))), (a5, .inl (db, 12, .inl (nA (fun _ => 0)))), (a6, .inl (db, 12, .inl (nPA (fun _ => 1)))), (a7, .inl (db, 12, .inl (nA (fun _ => 0)))), (a8, .inl (di, 72, .inl (nA (fun _ => 0)))), (a9, .inl (db, 4, .inl (nA (fun _ => 0)))), (a10, .inl (db, 4, .inl (nA (fun _ => 0))))] H := hP
  have hD : va_D A [(h0, .inr (0, [.ref a1, .ref a2, .int (nI 0), .ref a3, .int (nI 0), .int (nI 0), .int (nI 0), .ref a4, .ref a5, .ref a6, .ref a7, .int (nI 0), .ref a8, .ref a9, .ref a10])), (a1, .inl (di, 6, .inl (nA (fun _ => 0)))), (a2, .inl (di, 3, .inl (nA (fun _ => 0)))), (a3, .inl (db, 12, .inl (nA (fun _ => 0)))), (a4, .inl (db, 12, .inl (nA (fun _ => 0)))), (a5, .inl (db, 12, .inl (nA (fun _ => 0)))), (a6, .inl (db, 12, .inl (nPA (fun _ => 1)))), (a7, .inl (db, 12, .inl (nA (fun _ => 0)))), (a8, .inl (di, 72, .inl (nA (fun _ => 0)))), (a9, .inl (db, 4, .inl (nA (fun _ => 0)))), (a10, .inl (db, 4, .inl (nA (fun _ => 0))))] := hD
  exact hret _ _ _ _ [(h0, .inr (0, [.ref a1, .ref a2, .int (nI 0), .ref a3, .int (nI 0), .int (nI 0), .int (nI 0), .ref a4, .ref a5, .ref a6, .ref a7, .int (nI 0), .ref a8, .ref a9, .ref a10])), (a1, .inl (di, 6, .inl (nA (fun _ => 0)))), (a2, .inl (di, 3, .inl (nA (fun _ => 0)))), (a3, .inl (db, 12, .inl (nA (fun _ => 0)))), (a4, .inl (db, 12, .inl (nA (fun _ => 0)))), (a5, .inl (db, 12, .inl (nA (fun _ => 0)))), (a6, .inl (db, 12, .inl (nPA (fun _ => 1)))), (a7, .inl (db, 12, .inl (nA (fun _ => 0)))), (a8, .inl (di, 72, .inl (nA (fun _ => 0)))), (a9, .inl (db, 4, .inl (nA (fun _ => 0)))), (a10, .inl (db, 4, .inl (nA (fun _ => 0))))] dX0_init_81 ⟨fun i => match i with | 0 => h0 | 1 => a1 | 2 => a2 | 3 => a3 | 4 => a4 | 5 => a5 | 6 => a6 | 7 => a7 | 8 => a8 | 9 => a9 | _ => a10, rfl, rfl⟩ hP hD hS
set_option maxHeartbeats 4000000 in
set_option maxRecDepth 100000 in
/-- a new ModalJudgeModel -/
theorem metX1_init (l : Launch) (D : va_G) (di db : ClassId) (h0 : Nat) : xMc l yX1_init cX1_init 1 ({ frames := 1, cells := 8, slots := 83, locals := 20 }) D (tyX di db) [(h0, .inr (1, [.null, .null, .int (nI 0), .null, .null, .null, .null, .null, .null]))] [.ref h0] (fun u => ∃ ad : Nat → Nat, ad 0 = h0 ∧ u = mwX ad di (fun _ => 0) (fun _ => 0) 0 (fun _ => 0) (fun _ => 0) (fun _ => 1) (fun _ => 0) (fun _ => 0) (fun _ => 0)) 8 83 := by
  refine xMc_intro (by decide) rfl (Nat.le_of_ble_eq_true rfl) ?_
  intro p e s m args below meth c A Q hx hb hml hown hin hts hA hK hP hD hS hret ls hl
  have hl : lv_has ls 1 [(0, .ref h0)] := hl
  refine lv_aload_n hx hb dX1_init_0 rfl (lv_at hl 0 rfl) ?_
  refine W.objInit hx hb hown (hts _ q187) (hts _ q35) (hts _ q36) rfl (by rw [hml]; exact hl.1) rfl dX1_init_1 (Nat.le_of_ble_eq_true rfl) (Nat.le_of_ble_eq_true rfl) ?_
  refine W.eq (g2 := F0 m 4 ls []) rfl ?_
  refine lv_aload_n hx hb dX1_init_4 rfl (lv_at hl 0 rfl) ?_
  refine lv_bipush (v := nI 6) hx hb dX1_init_5 (by decide) ?_
  refine nx_newa (ty := .int) (atype := .int) (f := nA (fun _ => 0)) hx hb rfl (Or.inl rfl) (hts _ q83) hK hP hD hS hA 0 rfl nA_z (by decide) (by decide) (Nat.le_of_ble_eq_true rfl) (Nat.le_of_ble_eq_true rfl) dX1_init_7 (fun a1 H hP hD hS => ?_)
  have hP : va_P D vwCl [(h0, .inr (1, [.null, .null, .int (nI 0), .null, .null, .null, .null, .null, .null])), (a1, .inl (di, 6, .inl (nA (fun _ => 0))))] H := hP
  have hD : va_D A [(h0, .inr (1, [.null, .null, .int (nI 0), .null, .null, .null, .null, .null, .null])), (a1, .inl (di, 6, .inl (nA (fun _ => 0))))] := hD
  refine pX1 hx hb hts hown hK hP hD hS 0 rfl 0 (by decide) q188 rfl rfl rfl (Nat.le_of_ble_eq_true rfl) dX1_init_9 (fun H locs hP hD hS => ?_)
  have hP : va_P D vwCl [(h0, .inr (1, [.ref a1, .null, .int (nI 0), .null, .null, .null, .null, .null, .null])), (a1, .inl (di, 6, .inl (nA (fun _ => 0))))] H := hP
  have hD : va_D A [(h0, .inr (1, [.ref a1, .null, .int (nI 0), .null, .null, .null, .null, .null, .null])), (a1, .inl (di, 6, .inl (nA (fun _ => 0))))] := hD
  refine lv_aload_n hx hb dX1_init_12 rfl (lv_at hl 0 rfl) ?_
  refine lv_iconst (v := nI 3) hx hb dX1_init_13 (by decide) ?_
  refine nx_newa (ty := .int) (atype := .int) (f := nA (fun _ => 0)) hx hb rfl (Or.inl rfl) (hts _ q83) hK hP hD hS hA 0 rfl nA_z (by decide) (by decide) (Nat.le_of_ble_eq_true rfl) (Nat.le_of_ble_eq_true rfl) dX1_init_14 (fun a2 H hP hD hS => ?_)
  have hP : va_P D vwCl [(h0, .inr (1, [.ref a1, .null, .int (nI 0), .null, .null, .null, .null, .null, .null])), (a1, .inl (di, 6, .inl (nA (fun _ => 0)))), (a2, .inl (di, 3, .inl (nA (fun _ => 0))))] H := hP
  have hD : va_D A [(h0, .inr (1, [.ref a1, .null, .int (nI 0), .null, .null, .null, .null, .null, .null])), (a1, .inl (di, 6, .inl (nA (fun _ => 0)))), (a2, .inl (di, 3, .inl (nA (fun _ => 0))))] := hD
  refine pX1 hx hb hts hown hK hP hD hS 0 rfl 1 (by decide) q189 rfl rfl rfl (Nat.le_of_ble_eq_true rfl) dX1_init_16 (fun H locs hP hD hS => ?_)
  have hP : va_P D vwCl [(h0, .inr (1, [.ref a1, .ref a2, .int (nI 0), .null, .null, .null, .null, .null, .null])), (a1, .inl (di, 6, .inl (nA (fun _ => 0)))), (a2, .inl (di, 3, .inl (nA (fun _ => 0))))] H := hP
  have hD : va_D A [(h0, .inr (1, [.ref a1, .ref a2, .int (nI 0), .null, .null, .null, .null, .null, .null])), (a1, .inl (di, 6, .inl (nA (fun _ => 0)))), (a2, .inl (di, 3, .inl (nA (fun _ => 0))))] := hD
  refine lv_aload_n hx hb dX1_init_19 rfl (lv_at hl 0 rfl) ?_
  refine lv_iconst (v := nI 0) hx hb dX1_init_20 (by decide) ?_
  refine pX1 hx hb hts hown hK hP hD hS 0 rfl 2 (by decide) q190 rfl rfl rfl (Nat.le_of_ble_eq_true rfl) dX1_init_21 (fun H locs hP hD hS => ?_)
  have hP : va_P D vwCl [(h0, .inr (1, [.ref a1, .ref a2, .int (nI 0), .null, .null, .null, .null, .null, .null])), (a1, .inl (di, 6, .inl (nA (fun _ => 0)))), (a2, .inl (di, 3, .inl (nA (fun _ => 0))))] H := hP
  have hD : va_D A [(h0, .inr (1, [.ref a1, .ref a2, .int (nI 0), .null, .null, .null, .null, .null, .null])), (a1, .inl (di, 6, .inl (nA (fun _ => 0)))), (a2, .inl (di, 3, .inl (nA (fun _ => 0))))] := hD
  refine lv_aload_n hx hb dX1_init_24 rfl (lv_at hl 0 rfl) ?_
  refine lv_bipush (v := nI 12) hx hb dX1_init_25 (by decide) ?_
  refine nx_newa (ty := .int) (atype := .int) (f := nA (fun _ => 0)) hx hb rfl (Or.inl rfl) (hts _ q83) hK hP hD hS hA 0 rfl nA_z (by decide) (by decide) (Nat.le_of_ble_eq_true rfl) (Nat.le_of_ble_eq_true rfl) dX1_init_27 (fun a3 H hP hD hS => ?_)
  have hP : va_P D vwCl [(h0, .inr (1, [.ref a1, .ref a2, .int (nI 0), .null, .null, .null, .null, .null, .null])), (a1, .inl (di, 6, .inl (nA (fun _ => 0)))), (a2, .inl (di, 3, .inl (nA (fun _ => 0)))), (a3, .inl (di, 12, .inl (nA (fun _ => 0))))] H := hP
  have hD : va_D A [(h0, .inr (1, [.ref a1, .ref a2, .int (nI 0), .null, .null, .null, .null, .null, .null])), (a1, .inl (di, 6, .inl (nA (fun _ => 0)))), (a2, .inl (di, 3, .inl (nA (fun _ => 0)))), (a3, .inl (di, 12, .inl (nA (fun _ => 0))))] := hD
  refine pX1 hx hb hts hown hK hP hD hS 0 rfl 3 (by decide) q191 rfl rfl rfl (Nat.le_of_ble_eq_true rfl) dX1_init_29 (fun H locs hP hD hS => ?_)
  have hP : va_P D vwCl [(h0, .inr (1, [.ref a1, .ref a2, .int (nI 0), .ref a3, .null, .null, .null, .null, .null])), (a1, .inl (di, 6, .inl (nA (fun _ => 0)))), (a2, .inl (di, 3, .inl (nA (fun _ => 0)))), (a3, .inl (di, 12, .inl (nA (fun _ => 0))))] H := hP
  have hD : va_D A [(h0, .inr (1, [.ref a1, .ref a2, .int (nI 0), .ref a3, .null, .null, .null, .null, .null])), (a1, .inl (di, 6, .inl (nA (fun _ => 0)))), (a2, .inl (di, 3, .inl (nA (fun _ => 0)))), (a3, .inl (di, 12, .inl (nA (fun _ => 0))))] := hD
  refine lv_aload_n hx hb dX1_init_32 rfl (lv_at hl 0 rfl) ?_
  refine lv_bipush (v := nI 13) hx hb dX1_init_33 (by decide) ?_
  refine nx_newa (ty := .int) (atype := .int) (f := nA (fun _ => 0)) hx hb rfl (Or.inl rfl) (hts _ q83) hK hP hD hS hA 0 rfl nA_z (by decide) (by decide) (Nat.le_of_ble_eq_true rfl) (Nat.le_of_ble_eq_true rfl) dX1_init_35 (fun a4 H hP hD hS => ?_)
  have hP : va_P D vwCl [(h0, .inr (1, [.ref a1, .ref a2, .int (nI 0), .ref a3, .null, .null, .null, .null, .null])), (a1, .inl (di, 6, .inl (nA (fun _ => 0)))), (a2, .inl (di, 3, .inl (nA (fun _ => 0)))), (a3, .inl (di, 12, .inl (nA (fun _ => 0)))), (a4, .inl (di, 13, .inl (nA (fun _ => 0))))] H := hP
  have hD : va_D A [(h0, .inr (1, [.ref a1, .ref a2, .int (nI 0), .ref a3, .null, .null, .null, .null, .null])), (a1, .inl (di, 6, .inl (nA (fun _ => 0)))), (a2, .inl (di, 3, .inl (nA (fun _ => 0)))), (a3, .inl (di, 12, .inl (nA (fun _ => 0)))), (a4, .inl (di, 13, .inl (nA (fun _ => 0))))] := hD
  refine pX1 hx hb hts hown hK hP hD hS 0 rfl 4 (by decide) q192 rfl rfl rfl (Nat.le_of_ble_eq_true rfl) dX1_init_37 (fun H locs hP hD hS => ?_)
  have hP : va_P D vwCl [(h0, .inr (1, [.ref a1, .ref a2, .int (nI 0), .ref a3, .ref a4, .null, .null, .null, .null])), (a1, .inl (di, 6, .inl (nA (fun _ => 0)))), (a2, .inl (di, 3, .inl (nA (fun _ => 0)))), (a3, .inl (di, 12, .inl (nA (fun _ => 0)))), (a4, .inl (di, 13, .inl (nA (fun _ => 0))))] H := hP
  have hD : va_D A [(h0, .inr (1, [.ref a1, .ref a2, .int (nI 0), .ref a3, .ref a4, .null, .null, .null, .null])), (a1, .inl (di, 6, .inl (nA (fun _ => 0)))), (a2, .inl (di, 3, .inl (nA (fun _ => 0)))), (a3, .inl (di, 12, .inl (nA (fun _ => 0)))), (a4, .inl (di, 13, .inl (nA (fun _ => 0))))] := hD
  refine lv_aload_n hx hb dX1_init_40 rfl (lv_at hl 0 rfl) ?_
  refine lv_bipush (v := nI 12) hx hb dX1_init_41 (by decide) ?_
  refine nx_newa (ty := .int) (atype := .int) (f := nPA (fun _ => 1)) hx hb rfl (Or.inl rfl) (hts _ q83) hK hP hD hS hA 0 rfl nPA_z (by decide) (by decide) (Nat.le_of_ble_eq_true rfl) (Nat.le_of_ble_eq_true rfl) dX1_init_43 (fun a5 H hP hD hS => ?_)
  have hP : va_P D vwCl [(h0, .inr (1, [.ref a1, .ref a2, .int (nI 0), .ref a3, .ref a4, .null, .null, .null, .null])), (a1, .inl (di, 6, .inl (nA (fun _ => 0)))), (a2, .inl (di, 3, .inl (nA (fun _ => 0)))), (a3, .inl (di, 12, .inl (nA (fun _ => 0)))), (a4, .inl (di, 13, .inl (nA (fun _ => 0)))), (a5, .inl (di, 12, .inl (nPA (fun _ => 1))))] H := hP
  have hD : va_D A [(h0, .inr (1, [.ref a1, .ref a2, .int (nI 0), .ref a3, .ref a4, .null, .null, .null, .null])), (a1, .inl (di, 6, .inl (nA (fun _ => 0)))), (a2, .inl (di, 3, .inl (nA (fun _ => 0)))), (a3, .inl (di, 12, .inl (nA (fun _ => 0)))), (a4, .inl (di, 13, .inl (nA (fun _ => 0)))), (a5, .inl (di, 12, .inl (nPA (fun _ => 1))))] := hD
  refine pX1 hx hb hts hown hK hP hD hS 0 rfl 5 (by decide) q193 rfl rfl rfl (Nat.le_of_ble_eq_true rfl) dX1_init_45 (fun H locs hP hD hS => ?_)
  have hP : va_P D vwCl [(h0, .inr (1, [.ref a1, .ref a2, .int (nI 0), .ref a3, .ref a4, .ref a5, .null, .null, .null])), (a1, .inl (di, 6, .inl (nA (fun _ => 0)))), (a2, .inl (di, 3, .inl (nA (fun _ => 0)))), (a3, .inl (di, 12, .inl (nA (fun _ => 0)))), (a4, .inl (di, 13, .inl (nA (fun _ => 0)))), (a5, .inl (di, 12, .inl (nPA (fun _ => 1))))] H := hP
  have hD : va_D A [(h0, .inr (1, [.ref a1, .ref a2, .int (nI 0), .ref a3, .ref a4, .ref a5, .null, .null, .null])), (a1, .inl (di, 6, .inl (nA (fun _ => 0)))), (a2, .inl (di, 3, .inl (nA (fun _ => 0)))), (a3, .inl (di, 12, .inl (nA (fun _ => 0)))), (a4, .inl (di, 13, .inl (nA (fun _ => 0)))), (a5, .inl (di, 12, .inl (nPA (fun _ => 1))))] := hD
  refine lv_aload_n hx hb dX1_init_48 rfl (lv_at hl 0 rfl) ?_
  refine lv_bipush (v := nI 12) hx hb dX1_init_49 (by decide) ?_
  refine nx_newa (ty := .int) (atype := .int) (f := nA (fun _ => 0)) hx hb rfl (Or.inl rfl) (hts _ q83) hK hP hD hS hA 0 rfl nA_z (by decide) (by decide) (Nat.le_of_ble_eq_true rfl) (Nat.le_of_ble_eq_true rfl) dX1_init_51 (fun a6 H hP hD hS => ?_)
  have hP : va_P D vwCl [(h0, .inr (1, [.ref a1, .ref a2, .int (nI 0), .ref a3, .ref a4, .ref a5, .null, .null, .null])), (a1, .inl (di, 6, .inl (nA (fun _ => 0)))), (a2, .inl (di, 3, .inl (nA (fun _ => 0)))), (a3, .inl (di, 12, .inl (nA (fun _ => 0)))), (a4, .inl (di, 13, .inl (nA (fun _ => 0)))), (a5, .inl (di, 12, .inl (nPA (fun _ => 1)))), (a6, .inl (di, 12, .inl (nA (fun _ => 0))))] H := hP
  have hD : va_D A [(h0, .inr (1, [.ref a1, .ref a2, .int (nI 0), .ref a3, .ref a4, .ref a5, .null, .null, .null])), (a1, .inl (di, 6, .inl (nA (fun _ => 0)))), (a2, .inl (di, 3, .inl (nA (fun _ => 0)))), (a3, .inl (di, 12, .inl (nA (fun _ => 0)))), (a4, .inl (di, 13, .inl (nA (fun _ => 0)))), (a5, .inl (di, 12, .inl (nPA (fun _ => 1)))), (a6, .inl (di, 12, .inl (nA (fun _ => 0))))] := hD
  refine pX1 hx hb hts hown hK hP hD hS 0 rfl 6 (by decide) q194 rfl rfl rfl (Nat.le_of_ble_eq_true rfl) dX1_init_53 (fun H locs hP hD hS => ?_)
  have hP : va_P D vwCl [(h0, .inr (1, [.ref a1, .ref a2, .int (nI 0), .ref a3, .ref a4, .ref a5, .ref a6, .null, .null])), (a1, .inl (di, 6, .inl (nA (fun _ => 0)))), (a2, .inl (di, 3, .inl (nA (fun _ => 0)))), (a3, .inl (di, 12, .inl (nA (fun _ => 0)))), (a4, .inl (di, 13, .inl (nA (fun _ => 0)))), (a5, .inl (di, 12, .inl (nPA (fun _ => 1)))), (a6, .inl (di, 12, .inl (nA (fun _ => 0))))] H := hP
  have hD : va_D A [(h0, .inr (1, [.ref a1, .ref a2, .int (nI 0), .ref a3, .ref a4, .ref a5, .ref a6, .null, .null])), (a1, .inl (di, 6, .inl (nA (fun _ => 0)))), (a2, .inl (di, 3, .inl (nA (fun _ => 0)))), (a3, .inl (di, 12, .inl (nA (fun _ => 0)))), (a4, .inl (di, 13, .inl (nA (fun _ => 0)))), (a5, .inl (di, 12, .inl (nPA (fun _ => 1)))), (a6, .inl (di, 12, .inl (nA (fun _ => 0))))] := hD
  refine lv_aload_n hx hb dX1_init_56 rfl (lv_at hl 0 rfl) ?_
  refine lv_bipush (v := nI 12) hx hb dX1_init_57 (by decide) ?_
  refine nx_newa (ty := .int) (atype := .int) (f := nA (fun _ => 0)) hx hb rfl (Or.inl rfl) (hts _ q83) hK hP hD hS hA 0 rfl nA_z (by decide) (by decide) (Nat.le_of_ble_eq_true rfl) (Nat.le_of_ble_eq_true rfl) dX1_init_59 (fun a7 H hP hD hS => ?_)
  have hP : va_P D vwCl [(h0, .inr (1, [.ref a1, .ref a2, .int (nI 0), .ref a3, .ref a4, .ref a5, .ref a6, .null, .null])), (a1, .inl (di, 6, .inl (nA (fun _ => 0)))), (a2, .inl (di, 3, .inl (nA (fun _ => 0)))), (a3, .inl (di, 12, .inl (nA (fun _ => 0)))), (a4, .inl (di, 13, .inl (nA (fun _ => 0)))), (a5, .inl (di, 12, .inl (nPA (fun _ => 1)))), (a6, .inl (di, 12, .inl (nA (fun _ => 0)))), (a7, .inl (di, 12, .inl (nA (fun _ => 0))))] H := hP
  have hD : va_D A [(h0, .inr (1, [.ref a1, .ref a2, .int (nI 0), .ref a3, .ref a4, .ref a5, .ref a6, .null, .null])), (a1, .inl (di, 6, .inl (nA (fun _ => 0)))), (a2, .inl (di, 3, .inl (nA (fun _ => 0)))), (a3, .inl (di, 12, .inl (nA (fun _ => 0)))), (a4, .inl (di, 13, .inl (nA (fun _ => 0)))), (a5, .inl (di, 12, .inl (nPA (fun _ => 1)))), (a6, .inl (di, 12, .inl (nA (fun _ => 0)))), (a7, .inl (di, 12, .inl (nA (fun _ => 0))))] := hD
  refine pX1 hx hb hts hown hK hP hD hS 0 rfl 7 (by decide) q195 rfl rfl rfl (Nat.le_of_ble_eq_true rfl) dX1_init_61 (fun H locs hP hD hS => ?_)
  have hP : va_P D vwCl [(h0, .inr (1, [.ref a1, .ref a2, .int (nI 0), .ref a3, .ref a4, .ref a5, .ref a6, .ref a7, .null])), (a1, .inl (di, 6, .inl (nA (fun _ => 0)))), (a2, .inl (di, 3, .inl (nA (fun _ => 0)))), (a3, .inl (di, 12, .inl (nA (fun _ => 0)))), (a4, .inl (di, 13, .inl (nA (fun _ => 0)))), (a5, .inl (di, 12, .inl (nPA (fun _ => 1)))), (a6, .inl (di, 12, .inl (nA (fun _ => 0)))), (a7, .inl (di, 12, .inl (nA (fun _ => 0))))] H := hP
  have hD : va_D A [(h0, .inr (1, [.ref a1, .ref a2, .int (nI 0), .ref a3, .ref a4, .ref a5, .ref a6, .ref a7, .null])), (a1, .inl (di, 6, .inl (nA (fun _ => 0)))), (a2, .inl (di, 3, .inl (nA (fun _ => 0)))), (a3, .inl (di, 12, .inl (nA (fun _ => 0)))), (a4, .inl (di, 13, .inl (nA (fun _ => 0)))), (a5, .inl (di, 12, .inl (nPA (fun _ => 1)))), (a6, .inl (di, 12, .inl (nA (fun _ => 0)))), (a7, .inl (di, 12, .inl (nA (fun _ => 0))))] := hD
  refine lv_aload_n hx hb dX1_init_64 rfl (lv_at hl 0 rfl) ?_
  refine lv_bipush (v := nI 13) hx hb dX1_init_65 (by decide) ?_
  refine nx_newa (ty := .int) (atype := .int) (f := nA (fun _ => 0)) hx hb rfl (Or.inl rfl) (hts _ q83) hK hP hD hS hA 0 rfl nA_z (by decide) (by decide) (Nat.le_of_ble_eq_true rfl) (Nat.le_of_ble_eq_true rfl) dX1_init_67 (fun a8 H hP hD hS => ?_)
  have hP : va_P D vwCl [(h0, .inr (1, [.ref a1, .ref a2, .int (nI 0), .ref a3, .ref a4, .ref a5, .ref a6, .ref a7, .null])), (a1, .inl (di, 6, .inl (nA (fun _ => 0)))), (a2, .inl (di, 3, .inl (nA (fun _ => 0)))), (a3, .inl (di, 12, .inl (nA (fun _ => 0)))), (a4, .inl (di, 13, .inl (nA (fun _ => 0)))), (a5, .inl (di, 12, .inl (nPA (fun _ => 1)))), (a6, .inl (di, 12, .inl (nA (fun _ => 0)))), (a7, .inl (di, 12, .inl (nA (fun _ => 0)))), (a8, .inl (di, 13, .inl (nA (fun _ => 0))))] H := hP
  have hD : va_D A [(h0, .inr (1, [.ref a1, .ref a2, .int (nI 0), .ref a3, .ref a4, .ref a5, .ref a6, .ref a7, .null])), (a1, .inl (di, 6, .inl (nA (fun _ => 0)))), (a2, .inl (di, 3, .inl (nA (fun _ => 0)))), (a3, .inl (di, 12, .inl (nA (fun _ => 0)))), (a4, .inl (di, 13, .inl (nA (fun _ => 0)))), (a5, .inl (di, 12, .inl (nPA (fun _ => 1)))), (a6, .inl (di, 12, .inl (nA (fun _ => 0)))), (a7, .inl (di, 12, .inl (nA (fun _ => 0)))), (a8, .inl (di, 13, .inl (nA (fun _ => 0))))] := hD
  refine pX1 hx hb hts hown hK hP hD hS 0 rfl 8 (by decide) q196 rfl rfl rfl (Nat.le_of_ble_eq_true rfl) dX1_init_69 (fun H locs hP hD hS => ?_)
  have hP : va_P D vwCl [(h0, .inr (1, [.ref a1, .ref a2, .int (nI 0), .ref a3, .ref a4, .ref a5, .ref a6, .ref a7, .ref a8])), (a1, .inl (di, 6, .inl (nA (fun _ => 0)))), (a2, .inl (di, 3, .inl (nA (fun _ => 0)))), (a3, .inl (di, 12, .inl (nA (fun _ => 0)))), (a4, .inl (di, 13, .inl (nA (fun _ => 0)))), (a5, .inl (di, 12, .inl (nPA (fun _ => 1)))), (a6, .inl (di, 12, .inl (nA (fun _ => 0)))), (a7, .inl (di, 12, .inl (nA (fun _ => 0)))), (a8, .inl (di, 13, .inl (nA (fun _ => 0))))] H := hP
  have hD : va_D A [(h0, .inr (1, [.ref a1, .ref a2, .int (nI 0), .ref a3, .ref a4, .ref a5, .ref a6, .ref a7, .ref a8])), (a1, .inl (di, 6, .inl (nA (fun _ => 0)))), (a2, .inl (di, 3, .inl (nA (fun _ => 0)))), (a3, .inl (di, 12, .inl (nA (fun _ => 0)))), (a4, .inl (di, 13, .inl (nA (fun _ => 0)))), (a5, .inl (di, 12, .inl (nPA (fun _ => 1)))), (a6, .inl (di, 12, .inl (nA (fun _ => 0)))), (a7, .inl (di, 12, .inl (nA (fun _ => 0)))), (a8, .inl (di, 13, .inl (nA (fun _ => 0))))] := hD
  exact hret _ _ _ _ [(h0, .inr (1, [.ref a1, .ref a2, .int (nI 0), .ref a3, .ref a4, .ref a5, .ref a6, .ref a7, .ref a8])), (a1, .inl (di, 6, .inl (nA (fun _ => 0)))), (a2, .inl (di, 3, .inl (nA (fun _ => 0)))), (a3, .inl (di, 12, .inl (nA (fun _ => 0)))), (a4, .inl (di, 13, .inl (nA (fun _ => 0)))), (a5, .inl (di, 12, .inl (nPA (fun _ => 1)))), (a6, .inl (di, 12, .inl (nA (fun _ => 0)))), (a7, .inl (di, 12, .inl (nA (fun _ => 0)))), (a8, .inl (di, 13, .inl (nA (fun _ => 0))))] dX1_init_72 ⟨fun i => match i with | 0 => h0 | 1 => a1 | 2 => a2 | 3 => a3 | 4 => a4 | 5 => a5 | 6 => a6 | 7 => a7 | _ => a8, rfl, rfl⟩ hP hD hS
end
section
/-! THE LAW, 1: the two classes' answers are the same, and they go on together -/
def LI (st mk : Nat → Nat) (n : Nat) (tk : Nat → Nat) (ps so dp : Nat) (te sc bd de : Nat → Nat) (sv : Nat) (me en fx bo sk : Nat → Nat) : Prop := n ≤ 12 ∧ (∀ j, tk j ≤ 18) ∧ (∀ j, mk j < 64) ∧ (∀ j, st j < 64) ∧ CI st mk tk n ps so dp te sc bd de sv me ∧ MB en fx bo sk
/-- the two worlds stand for the same system and formula -/
def LW (ad ad2 : Nat → Nat) (di db : ClassId) (u v : va_W) : Prop := ∃ st mk n tk ps so dp te sc bd de sv me mo dg en bd2 fx bo sk, u = cwX ad di db st mk n tk ps so dp te sc bd de sv me mo dg ∧ v = mwX ad2 di st mk n tk en bd2 fx bo sk ∧ LI st mk n tk ps so dp te sc bd de sv me en fx bo sk
theorem tog_lt {v j b : Nat} (hv : v < 64) (hj : j < 6) : tog v j b < 64 := by
  unfold tog
  split
  · exact and_lt64 hv
  · exact ms_lt hv hj
theorem CI_sv0 {st st' mk mk' tk : Nat → Nat} {n ps so dp : Nat} {te sc bd de : Nat → Nat} {sv : Nat} {me : Nat → Nat} (h : CI st mk tk n ps so dp te sc bd de sv me) : CI st' mk' tk n ps so dp te sc bd de 0 me :=
  ⟨h.1, h.2.1, h.2.2.1, h.2.2.2.1, Or.inl rfl⟩
theorem CI_ps0 {st st' mk mk' tk tk' : Nat → Nat} {n n' ps so dp : Nat} {te sc bd de : Nat → Nat} {sv : Nat} {me : Nat → Nat} (h : CI st mk tk n ps so dp te sc bd de sv me) : CI st' mk' tk' n' 0 so dp te sc bd de 0 me :=
  ⟨h.1, Or.inl rfl, h.2.2.1, h.2.2.2.1, Or.inl rfl⟩
theorem cptA_le {tk : Nat → Nat} (h : ∀ j, tk j ≤ 18) (n : Nat) : ∀ j, cptA tk n j ≤ 18 := by
  intro j
  unfold cptA
  split
  · exact cpt_le _ (h j)
  · exact h j
theorem deep_congr {tk : Nat → Nat} {n : Nat} {E E' : Nat → Nat} (h : ∀ k, k < n → E k = E' k) : ∀ j, j ≤ n → mj_deep tk E j = mj_deep tk E' j := by
  intro j
  induction j with
  | zero => intro _; rfl
  | succ j ih =>
    intro hj
    have h1 := ih (by omega)
    have h2 : mj_dep tk E j = mj_dep tk E' j := mj_cnt_congr j (fun i hi => by rw [h i (by omega)])
    show (if _ then _ else _) = (if _ then _ else _)
    rw [h1, h2]
section LP
variable {ad ad2 : Nat → Nat} {di db : ClassId} {st mk : Nat → Nat} {n : Nat} {tk : Nat → Nat} {ps so dp : Nat} {te sc bd de : Nat → Nat} {sv : Nat} {me mo dg en bd2 fx bo sk : Nat → Nat} {r r2 : Int32} {u z : va_W}
theorem lp_step {p0 p1 : Int32} {b : Nat} (hI : LI st mk n tk ps so dp te sc bd de sv me en fx bo sk)
    (h1 : (∃ i j, i < 6 ∧ j < 6 ∧ p0 = nI i ∧ p1 = nI j ∧ r = nI 1 ∧ u = cwX ad di db (upN st i (tog (st i) j b)) mk n tk ps so dp te sc bd de 0 me mo dg) ∨ ((∀ i j, i < 6 → j < 6 → ¬ (p0 = nI i ∧ p1 = nI j)) ∧ r = nI 0 ∧ u = cwX ad di db st mk n tk ps so dp te sc bd de sv me mo dg))
    (h2 : (∃ i j, i < 6 ∧ j < 6 ∧ p0 = nI i ∧ p1 = nI j ∧ r2 = nI 1 ∧ z = mwX ad2 di (upN st i (tog (st i) j b)) mk n tk en bd2 fx bo sk) ∨ ((∀ i j, i < 6 → j < 6 → ¬ (p0 = nI i ∧ p1 = nI j)) ∧ r2 = nI 0 ∧ z = mwX ad2 di st mk n tk en bd2 fx bo sk)) : r = r2 ∧ LW ad ad2 di db u z := by
  obtain ⟨hn, htk, hmk, hst, hCI, hMB⟩ := hI
  rcases h1 with ⟨i, j, hi, hj, e0, e1, rfl, rfl⟩ | ⟨hno, rfl, rfl⟩
  · rcases h2 with ⟨i', j', hi', hj', e0', e1', rfl, rfl⟩ | ⟨hno, rfl, rfl⟩
    · have ei := (nI_eq (by omega) (by omega)).mp (e0.symm.trans e0')
      have ej := (nI_eq (by omega) (by omega)).mp (e1.symm.trans e1')
      subst ei
      subst ej
      exact ⟨rfl, ⟨_, mk, n, tk, ps, so, dp, te, sc, bd, de, 0, me, mo, dg, en, bd2, fx, bo, sk, rfl, rfl, ⟨hn, htk, hmk, upN_lt hst (tog_lt (hst i) hj), CI_sv0 hCI, hMB⟩⟩⟩
    · exact absurd ⟨e0, e1⟩ (hno i j hi hj)
  · rcases h2 with ⟨i', j', hi', hj', e0', e1', rfl, rfl⟩ | ⟨hno2, rfl, rfl⟩
    · exact absurd ⟨e0', e1'⟩ (hno i' j' hi' hj')
    · exact ⟨rfl, ⟨st, mk, n, tk, ps, so, dp, te, sc, bd, de, sv, me, mo, dg, en, bd2, fx, bo, sk, rfl, rfl, ⟨hn, htk, hmk, hst, hCI, hMB⟩⟩⟩
theorem lp_mark {p0 p1 : Int32} (hI : LI st mk n tk ps so dp te sc bd de sv me en fx bo sk)
    (h1 : (∃ i v, i < 3 ∧ v < 64 ∧ p0 = nI i ∧ p1 = nI v ∧ r = nI 1 ∧ u = cwX ad di db st (upN mk i v) n tk ps so dp te sc bd de 0 me mo dg) ∨ ((∀ i v, i < 3 → v < 64 → ¬ (p0 = nI i ∧ p1 = nI v)) ∧ r = nI 0 ∧ u = cwX ad di db st mk n tk ps so dp te sc bd de sv me mo dg))
    (h2 : (∃ i v, i < 3 ∧ v < 64 ∧ p0 = nI i ∧ p1 = nI v ∧ r2 = nI 1 ∧ z = mwX ad2 di st (upN mk i v) n tk en bd2 fx bo sk) ∨ ((∀ i v, i < 3 → v < 64 → ¬ (p0 = nI i ∧ p1 = nI v)) ∧ r2 = nI 0 ∧ z = mwX ad2 di st mk n tk en bd2 fx bo sk)) : r = r2 ∧ LW ad ad2 di db u z := by
  obtain ⟨hn, htk, hmk, hst, hCI, hMB⟩ := hI
  rcases h1 with ⟨i, j, hi, hj, e0, e1, rfl, rfl⟩ | ⟨hno, rfl, rfl⟩
  · rcases h2 with ⟨i', j', hi', hj', e0', e1', rfl, rfl⟩ | ⟨hno, rfl, rfl⟩
    · have ei := (nI_eq (by omega) (by omega)).mp (e0.symm.trans e0')
      have ej := (nI_eq (by omega) (by omega)).mp (e1.symm.trans e1')
      subst ei
      subst ej
      exact ⟨rfl, ⟨st, _, n, tk, ps, so, dp, te, sc, bd, de, 0, me, mo, dg, en, bd2, fx, bo, sk, rfl, rfl, ⟨hn, htk, upN_lt hmk hj, hst, CI_sv0 hCI, hMB⟩⟩⟩
    · exact absurd ⟨e0, e1⟩ (hno i j hi hj)
  · rcases h2 with ⟨i', j', hi', hj', e0', e1', rfl, rfl⟩ | ⟨hno2, rfl, rfl⟩
    · exact absurd ⟨e0', e1'⟩ (hno i' j' hi' hj')
    · exact ⟨rfl, ⟨st, mk, n, tk, ps, so, dp, te, sc, bd, de, sv, me, mo, dg, en, bd2, fx, bo, sk, rfl, rfl, ⟨hn, htk, hmk, hst, hCI, hMB⟩⟩⟩
theorem lp_token {p0 : Int32} (hI : LI st mk n tk ps so dp te sc bd de sv me en fx bo sk)
    (h1 : (n = 12 ∧ r = (-2) ∧ u = cwX ad di db st mk n tk ps so dp te sc bd de sv me mo dg) ∨ (n < 12 ∧ (∀ t, t ≤ 18 → p0 ≠ nI t) ∧ r = nP 0 ∧ u = cwX ad di db st mk n tk ps so dp te sc bd de sv me mo dg) ∨ (∃ t, n < 12 ∧ t ≤ 18 ∧ p0 = nI t ∧ r = nI (n + 1) ∧ u = cwX ad di db st mk (n + 1) (upN tk n t) 0 so dp te sc bd de 0 me mo dg))
    (h2 : (n = 12 ∧ r2 = (-2) ∧ z = mwX ad2 di st mk n tk en bd2 fx bo sk) ∨ (n < 12 ∧ (∀ t, t ≤ 18 → p0 ≠ nI t) ∧ r2 = nP 0 ∧ z = mwX ad2 di st mk n tk en bd2 fx bo sk) ∨ (∃ t, n < 12 ∧ t ≤ 18 ∧ p0 = nI t ∧ r2 = nI (n + 1) ∧ z = mwX ad2 di st mk (n + 1) (upN tk n t) en bd2 fx bo sk)) : r = r2 ∧ LW ad ad2 di db u z := by
  obtain ⟨hn, htk, hmk, hst, hCI, hMB⟩ := hI
  rcases h1 with ⟨e, rfl, rfl⟩ | ⟨e, hno, rfl, rfl⟩ | ⟨t, e, ht, ep, rfl, rfl⟩
  · rcases h2 with ⟨_, rfl, rfl⟩ | ⟨e2, _, _, _⟩ | ⟨_, e2, _, _, _, _⟩
    · exact ⟨rfl, ⟨st, mk, n, tk, ps, so, dp, te, sc, bd, de, sv, me, mo, dg, en, bd2, fx, bo, sk, rfl, rfl, ⟨hn, htk, hmk, hst, hCI, hMB⟩⟩⟩
    · omega
    · omega
  · rcases h2 with ⟨e2, _, _⟩ | ⟨_, _, rfl, rfl⟩ | ⟨t, _, ht, ep, _, _⟩
    · omega
    · exact ⟨rfl, ⟨st, mk, n, tk, ps, so, dp, te, sc, bd, de, sv, me, mo, dg, en, bd2, fx, bo, sk, rfl, rfl, ⟨hn, htk, hmk, hst, hCI, hMB⟩⟩⟩
    · exact absurd ep (hno t ht)
  · rcases h2 with ⟨e2, _, _⟩ | ⟨_, hno, _, _⟩ | ⟨t', _, ht', ep', rfl, rfl⟩
    · omega
    · exact absurd ep (hno t ht)
    · have et := (nI_eq (by omega) (by omega)).mp (ep.symm.trans ep')
      subst et
      exact ⟨rfl, ⟨st, mk, n + 1, _, 0, so, dp, te, sc, bd, de, 0, me, mo, dg, en, bd2, fx, bo, sk, rfl, rfl, ⟨e, upN_all (P := fun x => x ≤ 18) htk ht, hmk, hst, CI_ps0 hCI, hMB⟩⟩⟩
theorem lp_wipe (hI : LI st mk n tk ps so dp te sc bd de sv me en fx bo sk)
    (h1 : r = nI n ∧ u = cwX ad di db st mk 0 tk 0 so dp te sc bd de 0 me mo dg)
    (h2 : r2 = nI n ∧ z = mwX ad2 di st mk 0 tk en bd2 fx bo sk) : r = r2 ∧ LW ad ad2 di db u z := by
  obtain ⟨hn, htk, hmk, hst, hCI, hMB⟩ := hI
  obtain ⟨rfl, rfl⟩ := h1
  obtain ⟨rfl, rfl⟩ := h2
  exact ⟨rfl, ⟨st, mk, 0, tk, 0, so, dp, te, sc, bd, de, 0, me, mo, dg, en, bd2, fx, bo, sk, rfl, rfl, ⟨Nat.zero_le _, htk, hmk, hst, CI_ps0 hCI, hMB⟩⟩⟩
theorem lp_turn (hI : LI st mk n tk ps so dp te sc bd de sv me en fx bo sk)
    (h1 : r = nI (mj_cnt (fun j => decide (tk j < 16)) n) ∧ u = cwX ad di db st mk n (cptA tk n) 0 so dp te sc bd de 0 me mo dg)
    (h2 : r2 = nI (mj_cnt (fun j => decide (tk j < 16)) n) ∧ z = mwX ad2 di st mk n (cptA tk n) en bd2 fx bo sk) : r = r2 ∧ LW ad ad2 di db u z := by
  obtain ⟨hn, htk, hmk, hst, hCI, hMB⟩ := hI
  obtain ⟨rfl, rfl⟩ := h1
  obtain ⟨rfl, rfl⟩ := h2
  exact ⟨rfl, ⟨st, mk, n, _, 0, so, dp, te, sc, bd, de, 0, me, mo, dg, en, bd2, fx, bo, sk, rfl, rfl, ⟨hn, cptA_le htk n, hmk, hst, CI_ps0 hCI, hMB⟩⟩⟩
theorem lp_sound (hI : LI st mk n tk ps so dp te sc bd de sv me en fx bo sk)
    (h1 : ((r = nI 1 ∧ Snd tk n) ∨ (r = nI 0 ∧ ¬ Snd tk n)) ∧ UX ad di db st mk n tk u)
    (h2 : ∃ en1 bd1, z = mwX ad2 di st mk n tk en1 bd1 fx bo sk ∧ (∀ j, en1 j < 128) ∧ ((r2 = nI 1 ∧ Str tk n en1 (fun k => bd1 k - 1) ∧ ∀ k, k < n → 16 ≤ tk k → 0 < bd1 k) ∨ (r2 = nI 0 ∧ ¬ Snd tk n))) : r = r2 ∧ LW ad ad2 di db u z := by
  obtain ⟨hn, htk, hmk, hst, hCI, hMB⟩ := hI
  obtain ⟨h1, hu⟩ := h1
  obtain ⟨ps1, so1, dp1, te1, sc1, bd1, de1, sv1, me1, mo1, dg1, rfl, hCI1⟩ := hu
  obtain ⟨en1, bd3, rfl, hen1, h2⟩ := h2
  refine ⟨?_, ⟨st, mk, n, tk, ps1, so1, dp1, te1, sc1, bd1, de1, sv1, me1, mo1, dg1, en1, bd3, fx, bo, sk, rfl, rfl, ⟨hn, htk, hmk, hst, hCI1, ⟨hen1, hMB.2⟩⟩⟩⟩
  rcases h1 with ⟨rfl, hs⟩ | ⟨rfl, hs⟩
  · rcases h2 with ⟨rfl, _, _⟩ | ⟨_, hs2⟩
    · rfl
    · exact absurd hs hs2
  · rcases h2 with ⟨_, hs2, _⟩ | ⟨rfl, _⟩
    · exact absurd ⟨_, _, hs2⟩ hs
    · rfl
theorem lp_holds {p0 : Int32} (hI : LI st mk n tk ps so dp te sc bd de sv me en fx bo sk)
    (h1 : ((∃ i, i < 6 ∧ p0 = nI i ∧ Ans st mk tk n i ∧ r = nI 1) ∨ ((∀ i, i < 6 → p0 = nI i → ¬ Ans st mk tk n i) ∧ r = nI 0)) ∧ UX ad di db st mk n tk u)
    (h2 : ((∃ i, i < 6 ∧ p0 = nI i ∧ Ans st mk tk n i ∧ r2 = nI 1) ∨ ((∀ i, i < 6 → p0 = nI i → ¬ Ans st mk tk n i) ∧ r2 = nI 0)) ∧ UM ad2 di st mk n tk z) : r = r2 ∧ LW ad ad2 di db u z := by
  obtain ⟨hn, htk, hmk, hst, hCI, hMB⟩ := hI
  obtain ⟨h1, hu⟩ := h1
  obtain ⟨h2, hv⟩ := h2
  obtain ⟨ps1, so1, dp1, te1, sc1, bd1, de1, sv1, me1, mo1, dg1, rfl, hCI1⟩ := hu
  obtain ⟨en1, bd3, fx1, bo1, sk1, rfl, hMB1⟩ := hv
  refine ⟨?_, ⟨st, mk, n, tk, ps1, so1, dp1, te1, sc1, bd1, de1, sv1, me1, mo1, dg1, en1, bd3, fx1, bo1, sk1, rfl, rfl, ⟨hn, htk, hmk, hst, hCI1, hMB1⟩⟩⟩
  rcases h1 with ⟨i, hi, e, ha, rfl⟩ | ⟨hno, rfl⟩
  · rcases h2 with ⟨_, _, _, _, rfl⟩ | ⟨hno, _⟩
    · rfl
    · exact absurd ha (hno i hi e)
  · rcases h2 with ⟨i, hi, e, ha, _⟩ | ⟨_, rfl⟩
    · exact absurd ha (hno i hi e)
    · rfl
theorem lp_set (hI : LI st mk n tk ps so dp te sc bd de sv me en fx bo sk)
    (h1 : ((Snd tk n ∧ ∃ o, o < 64 ∧ r = nI o ∧ ∀ i, o.testBit i = true ↔ (i < 6 ∧ Ans st mk tk n i)) ∨ (¬ Snd tk n ∧ r = (-3))) ∧ UX ad di db st mk n tk u)
    (h2 : ((Snd tk n ∧ ∃ o, o < 64 ∧ r2 = nI o ∧ ∀ i, i < 6 → (o.testBit i = true ↔ Ans st mk tk n i)) ∨ (¬ Snd tk n ∧ r2 = (-3))) ∧ UM ad2 di st mk n tk z) : r = r2 ∧ LW ad ad2 di db u z := by
  obtain ⟨hn, htk, hmk, hst, hCI, hMB⟩ := hI
  obtain ⟨h1, hu⟩ := h1
  obtain ⟨h2, hv⟩ := h2
  obtain ⟨ps1, so1, dp1, te1, sc1, bd1, de1, sv1, me1, mo1, dg1, rfl, hCI1⟩ := hu
  obtain ⟨en1, bd3, fx1, bo1, sk1, rfl, hMB1⟩ := hv
  refine ⟨?_, ⟨st, mk, n, tk, ps1, so1, dp1, te1, sc1, bd1, de1, sv1, me1, mo1, dg1, en1, bd3, fx1, bo1, sk1, rfl, rfl, ⟨hn, htk, hmk, hst, hCI1, hMB1⟩⟩⟩
  rcases h1 with ⟨hs, o, ho, rfl, hb1⟩ | ⟨hs, rfl⟩
  · rcases h2 with ⟨_, o2, ho2, rfl, hb2⟩ | ⟨hs2, _⟩
    · rw [eq64 ho ho2 (fun x hx => by rw [hb1 x, hb2 x hx]; exact ⟨fun q => q.2, fun q => ⟨hx, q⟩⟩)]
    · exact absurd hs hs2
  · rcases h2 with ⟨hs2, _⟩ | ⟨_, rfl⟩
    · exact absurd hs2 hs
    · rfl
theorem lp_depth (hI : LI st mk n tk ps so dp te sc bd de sv me en fx bo sk)
    (h1 : ((∃ E B, Str tk n E B ∧ r = nI (mj_deep tk E n)) ∨ (¬ Snd tk n ∧ r = (-3))) ∧ UX ad di db st mk n tk u)
    (h2 : ((∃ E B, Str tk n E B ∧ r2 = nI (mj_deep tk E n)) ∨ (¬ Snd tk n ∧ r2 = (-3))) ∧ ∃ en1 bd1, z = mwX ad2 di st mk n tk en1 bd1 fx bo sk ∧ (∀ j, en1 j < 128)) : r = r2 ∧ LW ad ad2 di db u z := by
  obtain ⟨hn, htk, hmk, hst, hCI, hMB⟩ := hI
  obtain ⟨h1, hu⟩ := h1
  obtain ⟨h2, hv⟩ := h2
  obtain ⟨ps1, so1, dp1, te1, sc1, bd1, de1, sv1, me1, mo1, dg1, rfl, hCI1⟩ := hu
  obtain ⟨en1, bd3, rfl, hen1⟩ := hv
  refine ⟨?_, ⟨st, mk, n, tk, ps1, so1, dp1, te1, sc1, bd1, de1, sv1, me1, mo1, dg1, en1, bd3, fx, bo, sk, rfl, rfl, ⟨hn, htk, hmk, hst, hCI1, ⟨hen1, hMB.2⟩⟩⟩⟩
  rcases h1 with ⟨E, B, hs, rfl⟩ | ⟨hs, rfl⟩
  · rcases h2 with ⟨E2, B2, hs2, rfl⟩ | ⟨hs2, _⟩
    · rw [deep_congr (fun k hk => Str_ends (lo := 0) hs (fun i _ hi => hs2.2.1 i hi) (Nat.zero_le k) hk) n (Nat.le_refl n)]
    · exact absurd ⟨E, B, hs⟩ hs2
  · rcases h2 with ⟨E2, B2, hs2, _⟩ | ⟨_, rfl⟩
    · exact absurd ⟨E2, B2, hs2⟩ hs
    · rfl
theorem lp_steps {p0 : Int32} (hI : LI st mk n tk ps so dp te sc bd de sv me en fx bo sk)
    (h1 : ((∃ i, i < 6 ∧ p0 = nI i ∧ r = nI (st i)) ∨ ((∀ i, i < 6 → p0 ≠ nI i) ∧ r = nP 0)) ∧ u = cwX ad di db st mk n tk ps so dp te sc bd de sv me mo dg)
    (h2 : ((∃ i, i < 6 ∧ p0 = nI i ∧ r2 = nI (st i)) ∨ ((∀ i, i < 6 → p0 ≠ nI i) ∧ r2 = nP 0)) ∧ z = mwX ad2 di st mk n tk en bd2 fx bo sk) : r = r2 ∧ LW ad ad2 di db u z := by
  obtain ⟨hn, htk, hmk, hst, hCI, hMB⟩ := hI
  obtain ⟨h1, rfl⟩ := h1
  obtain ⟨h2, rfl⟩ := h2
  refine ⟨?_, ⟨st, mk, n, tk, ps, so, dp, te, sc, bd, de, sv, me, mo, dg, en, bd2, fx, bo, sk, rfl, rfl, ⟨hn, htk, hmk, hst, hCI, hMB⟩⟩⟩
  rcases h1 with ⟨i, hi, e, rfl⟩ | ⟨hno, rfl⟩
  · rcases h2 with ⟨i', hi', e', rfl⟩ | ⟨hno, _⟩
    · rw [(nI_eq (by omega) (by omega)).mp (e.symm.trans e')]
    · exact absurd e (hno i hi)
  · rcases h2 with ⟨i, hi, e, _⟩ | ⟨_, rfl⟩
    · exact absurd e (hno i hi)
    · rfl
end LP
end
section
/-! THE CLAIM OUT OF ONE WALK OF THE LAW'S BODY. Your part is whole_start (and what it stands on); all else here is the same for every law, but numbers. -/
def R_law : String := "ModalJudgeLaw"
def lw_P (b : Addr) (xs : List Int32) (args : Array Value) (s : State) : Prop := args = #[.ref b] ∧ s.IntsAt b xs ∧ xs.length ≤ 256 ∧ (Jvm.Cond.and given_1 narrow_1).before args s = true
def lw_Q (_ : Array Value) (s : State) (o : Outcome) (t : State) : Prop := o = .returned (some (.int 1)) ∧ Framed s o t [] 600000 7290000
def lw_Z (below : List Frame) (a : Array Value) (s : State) : State → Prop := fun t => ∃ o, t.status = .running ∧ Ended t below o ∧ lw_Q a s o t
/-- the law's own end, with 1 on the stack, nothing written that was there before, its room as the claim has it -/
theorem lw_ret {p : Program} {l : Launch} {e : Env} {s : State} {m : MethodId} {below : List Frame} {meth : Method} {c : Code} {b : Nat} (hx : p.tables.exec = Jvm.exec) (hb : c.code = code) (hr : meth.sig.returnType = ret) (hlocks : meth.locks = false) {pc : Nat} {H : Heap} {ls : Array Slot} (hdg : decode code pc = .ok (.ireturn, 1)) : W p l e room_1 s m #[Value.ref b] below meth c H [] 600000 7290000 (lw_Z below #[Value.ref b] s) (F0 m pc ls [.int 1]) := by
  intro T hT X
  obtain ⟨fs, hret, hrun, hended, hW, hframe⟩ := X.leave (v := some (.int 1)) (hlocks := hlocks) (fun h => by rw [hr] at h; cases h)
  have hmeth' : T.vm.method? m = some meth := X.method'
  refine ⟨T.setFrames fs, ?_, .returned (some (.int 1)), hrun, hended, rfl, ⟨_, rfl⟩, hW, hframe⟩
  jvm_step X.here [X.here.top, hx, hb, hdg, hmeth', hr, ret, narrow_b1]
  (try refine ⟨rfl, ?_⟩); (try refine ⟨rfl, ?_⟩)
  first | (intro acts; rw [hret _ acts rfl rfl rfl]) | rw [hret _ _ rfl rfl rfl]
  exact Steps.refl _
/-- what holds at the law's entry: the machine, the code, the tables' words (any of lw_tbl by 'hts w (by decide +kernel)'), the script of L ints xs at the cell b, what the Statement gives of the start (any of its parts by flat_of_before) -/
def lw_At (p : Program) (s : State) (m : MethodId) (meth : Method) (c : Code) (b L : Nat) (xs : Nat → Int32) : Prop :=
  p.tables.exec = Jvm.exec ∧ c.code = code ∧ meth.sig.returnType = ret ∧ c.maxLocals = 4 ∧ s.vm.findClass R_law = some m.cls ∧ (∀ w ∈ lw_tbl, w.before #[Value.ref b] s = true) ∧ va_X b L xs s s.heap ∧ b < s.heap.size ∧ meth.locks = false ∧ (Jvm.Cond.and given_1 narrow_1).before #[Value.ref b] s = true
/-! THE LAW, 2: its loop -/
theorem nI_sub4 {L i : Nat} (hL : L ≤ 256) (hi : i ≤ 260) : nI L - nI 4 < nI i ↔ L < i + 4 := by
  rw [Int32.lt_iff_toInt_lt, pk_sub_toInt (by omega) (by omega), nI_toInt (by omega)]
  omega
theorem nI_self (x : Int32) : x = nI x.toBitVec.toNat := by
  apply Int32.toBitVec_inj.1
  show x.toBitVec = BitVec.ofNat 32 x.toBitVec.toNat
  simp
theorem and15 (x : Int32) : ∃ k, k < 16 ∧ x &&& nI 15 = nI k := by
  refine ⟨x.toBitVec.toNat &&& 15, Nat.lt_succ_of_le Nat.and_le_right, ?_⟩
  rw [← nI_and, ← nI_self x]
section SLD
variable {p : Program} {l : Launch} {e : Env} {R : Room} {s : State} {m : MethodId} {args : Array Value} {below : List Frame} {meth : Method} {c : Code} {H H0 : Heap} {locs : List Loc} {cells slots : Nat} {Q : State → Prop} {cc : ByteArray} {pc : Nat} {ls : Array Slot} {rest : List Value} {A : Nat → Prop}
theorem nv_sld (hexec : p.tables.exec = Jvm.exec) (hb : c.code = cc) {b L : Nat} {xs : Nat → Int32} (hX : va_X b L xs s H0) (hbl : b < H0.size) (hbA : ¬ A b) (hS : va_S A H0 H locs) {k : Nat} (hk : k < L) (hL : L < 2 ^ 31) (hdg : decode cc pc = .ok (.iaload, 1))
    (kk : W p l e R s m args below meth c H locs cells slots Q (F0 m (pc + 1) ls (.int (xs k) :: rest))) : W p l e R s m args below meth c H locs cells slots Q (F0 m pc ls (.int (nI k) :: .ref b :: rest)) :=
  va_sld hexec hb hX hbl hbA hS (vp_in_nI hk hL) hdg (by rw [nI_clamp (by omega)]; exact kk)
end SLD
set_option maxHeartbeats 4000000 in
set_option maxRecDepth 100000 in
/-- the law's loop at its head: i ints are read, both worlds stand for the same -/
theorem law_loop {p : Program} {l : Launch} {e : Env} {s : State} {m : MethodId} {below : List Frame} {meth : Method} {c : Code} {D : va_G} {di db : ClassId} {ad ad2 : Nat → Nat} {b L : Nat} {xs : Nat → Int32} (hL : L ≤ 256) (C0 : lw_At p s m meth c b L xs) (hK : va_K D vwCl (tyX di db) s) :
    ∀ (d i : Nat), L + 4 < i + d → i ≤ L + 4 → ∀ (u v : va_W), LW ad ad2 di db u v → ∀ (H : Heap) (locs : List Loc), va_P D vwCl (u ++ v) H → va_D (fun q : Nat => s.heap.size ≤ q) (u ++ v) → va_S (fun q : Nat => s.heap.size ≤ q) s.heap H locs → ∀ ls : Array Slot, lv_has ls 4 [(0, .ref b), (1, .ref (ad 0)), (2, .ref (ad2 0)), (3, .int (nI i))] → W p l e room_1 s m #[Value.ref b] below meth c H locs 20 256 (lw_Z below #[Value.ref b] s) (F0 m 18 ls []) := by
  obtain ⟨hx, hb, hr, hml, hown, hts0, hX, hbl, hlocks, hgv⟩ := C0
  have hts : ∀ w ∈ lw_all, w.before #[Value.ref b] s = true := fun w h => hts0 w (lw_all_tbl h)
  have hA : ∀ q : Nat, s.heap.size ≤ q → (fun q : Nat => s.heap.size ≤ q) q := fun _ h => h
  have hbA : ¬ (fun q : Nat => s.heap.size ≤ q) b := Nat.not_le.mpr hbl
  intro d
  induction d with
  | zero =>
    intro i h1 h2
    exfalso; omega
  | succ d ih =>
    intro i hd hi u v hLW H locs hP hD hS ls hl
    have K : ∀ (u v : va_W), LW ad ad2 di db u v → i + 4 ≤ L → ∀ (H : Heap) (locs : List Loc), va_P D vwCl (u ++ v) H → va_D (fun q : Nat => s.heap.size ≤ q) (u ++ v) → va_S (fun q : Nat => s.heap.size ≤ q) s.heap H locs → ∀ ls : Array Slot, lv_has ls 4 [(0, .ref b), (1, .ref (ad 0)), (2, .ref (ad2 0)), (3, .int (nI i))] → W p l e room_1 s m #[Value.ref b] below meth c H locs 20 256 (lw_Z below #[Value.ref b] s) (F0 m 314 ls []) := by
      intro u v hLW hiL H locs hP hD hS ls hl
      refine nv_iinc (k := 3) (lv' := [(3, .int (nI (i + 4))), (0, .ref b), (1, .ref (ad 0)), (2, .ref (ad2 0))]) (v := nI (i + 4)) hx hb dL_law_314 hl rfl (nI_inc4 _) (by decide) rfl (fun ls hl => ?_)
      refine lv_goto (tgt := 18) hx hb dL_law_317 (by decide) ?_
      exact ih (i + 4) (by omega) (by omega) u v hLW _ _ hP hD hS ls (lv_sub hl [1, 2, 3, 0] rfl)
    refine lv_iload_n hx hb dL_law_18 rfl (lv_at hl 3 rfl) ?_
    refine lv_aload_n hx hb dL_law_19 rfl (lv_at hl 0 rfl) ?_
    refine va_slen hx hb hX hbl hbA hS dL_law_20 ?_
    refine lv_iconst (v := nI 4) hx hb dL_law_21 (by decide) ?_
    refine lv_isub hx hb dL_law_22 ?_
    refine lv_icmp_gt (tgt := 320) hx hb dL_law_23 (by decide) (fun c23 => ?_) (fun c23 => ?_)
    · refine lv_iconst (v := 1) hx hb dL_law_320 (by decide) ?_
      refine va_forget (fun q hq => hS.2.2 q hq) ?_
      refine W.widen (k := 600000) (n := 7290000) (by decide) (by decide) ?_
      exact lw_ret hx hb hr hlocks dL_law_321
    · have hiL : i + 4 ≤ L := by
        rcases Nat.lt_or_ge L (i + 4) with q | q
        · exact absurd ((nI_sub4 hL (by omega)).mpr q) c23
        · exact q
      obtain ⟨st, mk, n, tk, ps, so, dp, te, sc, bd, de, sv, me, mo, dg, en, bd2, fx, bo, sk, rfl, rfl, hI⟩ := hLW
      obtain ⟨hn, htk, hmk, hst, hCI, hMB⟩ := id hI
      refine lv_aload_n hx hb dL_law_26 rfl (lv_at hl 0 rfl) ?_
      refine lv_iload_n hx hb dL_law_27 rfl (lv_at hl 3 rfl) ?_
      refine nv_sld hx hb hX hbl hbA hS (show i < L by omega) (by omega) dL_law_28 ?_
      refine lv_bipush (v := nI 15) hx hb dL_law_29 (by decide) ?_
      refine lv_iand hx hb dL_law_31 ?_
      obtain ⟨k, hk16, ek⟩ := and15 (xs i)
      rw [ek]
      rcases (show k = 0 ∨ k = 1 ∨ k = 2 ∨ k = 3 ∨ k = 4 ∨ k = 5 ∨ k = 6 ∨ k = 7 ∨ k = 8 ∨ k = 9 ∨ 10 ≤ k by omega) with rfl | rfl | rfl | rfl | rfl | rfl | rfl | rfl | rfl | rfl | hk10
      · refine lv_tableIn (off := 56) (tgt := 88) hx hb dL_law_32 (by decide) (by decide) rfl (by decide) ?_
        by_cases hb3 : xs (i + 3) = 0
        · refine lv_aload_n hx hb dL_law_88 rfl (lv_at hl 1 rfl) ?_
          refine lv_aload_n hx hb dL_law_89 rfl (lv_at hl 0 rfl) ?_
          refine lv_iload_n hx hb dL_law_90 rfl (lv_at hl 3 rfl) ?_
          refine lv_iconst (v := nI 1) hx hb dL_law_91 (by decide) ?_
          refine nv_iadd hx hb dL_law_92 ?_
          refine nv_sld hx hb hX hbl hbA hS (show i + 1 < L by omega) (by omega) dL_law_93 ?_
          refine lv_aload_n hx hb dL_law_94 rfl (lv_at hl 0 rfl) ?_
          refine lv_iload_n hx hb dL_law_95 rfl (lv_at hl 3 rfl) ?_
          refine lv_iconst (v := nI 2) hx hb dL_law_96 (by decide) ?_
          refine nv_iadd hx hb dL_law_97 ?_
          refine nv_sld hx hb hX hbl hbA hS (show i + 2 < L by omega) (by omega) dL_law_98 ?_
          refine lv_aload_n hx hb dL_law_99 rfl (lv_at hl 0 rfl) ?_
          refine lv_iload_n hx hb dL_law_100 rfl (lv_at hl 3 rfl) ?_
          refine lv_iconst (v := nI 3) hx hb dL_law_101 (by decide) ?_
          refine nv_iadd hx hb dL_law_102 ?_
          refine nv_sld hx hb hX hbl hbA hS (show i + 3 < L by omega) (by omega) dL_law_103 ?_
          refine lv_if_eq (tgt := 111) hx hb dL_law_104 (by decide) (fun _ => ?_) (fun q => absurd hb3 q)
          refine lv_iconst (v := nI 0) hx hb dL_law_111 (by decide) ?_
          refine lcall_i (As := [.int (xs (i + 1)), .int (xs (i + 2)), .int (nI 0)]) (rest := []) (ci := 0) (w2 := mwX ad2 di st mk n tk en bd2 fx bo sk) ⟨hx, hb, hml, hown, hts⟩ (metX0_step l D ad di db st mk n tk ps so dp te sc bd de sv me mo dg (xs (i + 1)) (xs (i + 2)) 0 (by omega) hst) (cwV 3 hts (lw_V q85 q86 q87 q27 q88) rfl rfl rfl (by decide +kernel) ⟨Nat.le_of_ble_eq_true rfl, Nat.le_of_ble_eq_true rfl⟩) rfl rfl hK hP hD hS hA rfl hl.1 rfl (Nat.le_of_ble_eq_true rfl) dL_law_112 ⟨Nat.le_of_ble_eq_true rfl, Nat.le_of_ble_eq_true rfl⟩ (fun r1 u H locs hw1 hP hD hS => ?_)
          obtain ⟨hP, hD⟩ := x_swap hP hD
          refine lv_aload_n hx hb dL_law_115 rfl (lv_at hl 2 rfl) ?_
          refine lv_aload_n hx hb dL_law_116 rfl (lv_at hl 0 rfl) ?_
          refine lv_iload_n hx hb dL_law_117 rfl (lv_at hl 3 rfl) ?_
          refine lv_iconst (v := nI 1) hx hb dL_law_118 (by decide) ?_
          refine nv_iadd hx hb dL_law_119 ?_
          refine nv_sld hx hb hX hbl hbA hS (show i + 1 < L by omega) (by omega) dL_law_120 ?_
          refine lv_aload_n hx hb dL_law_121 rfl (lv_at hl 0 rfl) ?_
          refine lv_iload_n hx hb dL_law_122 rfl (lv_at hl 3 rfl) ?_
          refine lv_iconst (v := nI 2) hx hb dL_law_123 (by decide) ?_
          refine nv_iadd hx hb dL_law_124 ?_
          refine nv_sld hx hb hX hbl hbA hS (show i + 2 < L by omega) (by omega) dL_law_125 ?_
          refine lv_aload_n hx hb dL_law_126 rfl (lv_at hl 0 rfl) ?_
          refine lv_iload_n hx hb dL_law_127 rfl (lv_at hl 3 rfl) ?_
          refine lv_iconst (v := nI 3) hx hb dL_law_128 (by decide) ?_
          refine nv_iadd hx hb dL_law_129 ?_
          refine nv_sld hx hb hX hbl hbA hS (show i + 3 < L by omega) (by omega) dL_law_130 ?_
          refine lv_if_eq (tgt := 138) hx hb dL_law_131 (by decide) (fun _ => ?_) (fun q => absurd hb3 q)
          refine lv_iconst (v := nI 0) hx hb dL_law_138 (by decide) ?_
          refine lcall_i (As := [.int (xs (i + 1)), .int (xs (i + 2)), .int (nI 0)]) (rest := [.int r1]) (ci := 1) (w2 := u) ⟨hx, hb, hml, hown, hts⟩ (metX1_step l D ad2 di db st mk n tk en bd2 fx bo sk (xs (i + 1)) (xs (i + 2)) 0 (by omega) hst) (cwV 3 hts (lw_V q216 q217 q218 q28 q219) rfl rfl rfl (by decide +kernel) ⟨Nat.le_of_ble_eq_true rfl, Nat.le_of_ble_eq_true rfl⟩) rfl rfl hK hP hD hS hA rfl hl.1 rfl (Nat.le_of_ble_eq_true rfl) dL_law_139 ⟨Nat.le_of_ble_eq_true rfl, Nat.le_of_ble_eq_true rfl⟩ (fun r2 v H locs hw2 hP hD hS => ?_)
          obtain ⟨hP, hD⟩ := x_swap hP hD
          have hlp := lp_step hI hw1 hw2
          refine lv_icmp_eq (tgt := 314) hx hb dL_law_142 (by decide) (fun _ => ?_) (fun q => absurd hlp.1 q)
          exact K u v hlp.2 hiL _ _ hP hD hS ls hl
        · refine lv_aload_n hx hb dL_law_88 rfl (lv_at hl 1 rfl) ?_
          refine lv_aload_n hx hb dL_law_89 rfl (lv_at hl 0 rfl) ?_
          refine lv_iload_n hx hb dL_law_90 rfl (lv_at hl 3 rfl) ?_
          refine lv_iconst (v := nI 1) hx hb dL_law_91 (by decide) ?_
          refine nv_iadd hx hb dL_law_92 ?_
          refine nv_sld hx hb hX hbl hbA hS (show i + 1 < L by omega) (by omega) dL_law_93 ?_
          refine lv_aload_n hx hb dL_law_94 rfl (lv_at hl 0 rfl) ?_
          refine lv_iload_n hx hb dL_law_95 rfl (lv_at hl 3 rfl) ?_
          refine lv_iconst (v := nI 2) hx hb dL_law_96 (by decide) ?_
          refine nv_iadd hx hb dL_law_97 ?_
          refine nv_sld hx hb hX hbl hbA hS (show i + 2 < L by omega) (by omega) dL_law_98 ?_
          refine lv_aload_n hx hb dL_law_99 rfl (lv_at hl 0 rfl) ?_
          refine lv_iload_n hx hb dL_law_100 rfl (lv_at hl 3 rfl) ?_
          refine lv_iconst (v := nI 3) hx hb dL_law_101 (by decide) ?_
          refine nv_iadd hx hb dL_law_102 ?_
          refine nv_sld hx hb hX hbl hbA hS (show i + 3 < L by omega) (by omega) dL_law_103 ?_
          refine lv_if_eq (tgt := 111) hx hb dL_law_104 (by decide) (fun q => absurd q hb3) (fun _ => ?_)
          refine lv_iconst (v := nI 1) hx hb dL_law_107 (by decide) ?_
          refine lv_goto (tgt := 112) hx hb dL_law_108 (by decide) ?_
          refine lcall_i (As := [.int (xs (i + 1)), .int (xs (i + 2)), .int (nI 1)]) (rest := []) (ci := 0) (w2 := mwX ad2 di st mk n tk en bd2 fx bo sk) ⟨hx, hb, hml, hown, hts⟩ (metX0_step l D ad di db st mk n tk ps so dp te sc bd de sv me mo dg (xs (i + 1)) (xs (i + 2)) 1 (by omega) hst) (cwV 3 hts (lw_V q85 q86 q87 q27 q88) rfl rfl rfl (by decide +kernel) ⟨Nat.le_of_ble_eq_true rfl, Nat.le_of_ble_eq_true rfl⟩) rfl rfl hK hP hD hS hA rfl hl.1 rfl (Nat.le_of_ble_eq_true rfl) dL_law_112 ⟨Nat.le_of_ble_eq_true rfl, Nat.le_of_ble_eq_true rfl⟩ (fun r1 u H locs hw1 hP hD hS => ?_)
          obtain ⟨hP, hD⟩ := x_swap hP hD
          refine lv_aload_n hx hb dL_law_115 rfl (lv_at hl 2 rfl) ?_
          refine lv_aload_n hx hb dL_law_116 rfl (lv_at hl 0 rfl) ?_
          refine lv_iload_n hx hb dL_law_117 rfl (lv_at hl 3 rfl) ?_
          refine lv_iconst (v := nI 1) hx hb dL_law_118 (by decide) ?_
          refine nv_iadd hx hb dL_law_119 ?_
          refine nv_sld hx hb hX hbl hbA hS (show i + 1 < L by omega) (by omega) dL_law_120 ?_
          refine lv_aload_n hx hb dL_law_121 rfl (lv_at hl 0 rfl) ?_
          refine lv_iload_n hx hb dL_law_122 rfl (lv_at hl 3 rfl) ?_
          refine lv_iconst (v := nI 2) hx hb dL_law_123 (by decide) ?_
          refine nv_iadd hx hb dL_law_124 ?_
          refine nv_sld hx hb hX hbl hbA hS (show i + 2 < L by omega) (by omega) dL_law_125 ?_
          refine lv_aload_n hx hb dL_law_126 rfl (lv_at hl 0 rfl) ?_
          refine lv_iload_n hx hb dL_law_127 rfl (lv_at hl 3 rfl) ?_
          refine lv_iconst (v := nI 3) hx hb dL_law_128 (by decide) ?_
          refine nv_iadd hx hb dL_law_129 ?_
          refine nv_sld hx hb hX hbl hbA hS (show i + 3 < L by omega) (by omega) dL_law_130 ?_
          refine lv_if_eq (tgt := 138) hx hb dL_law_131 (by decide) (fun q => absurd q hb3) (fun _ => ?_)
          refine lv_iconst (v := nI 1) hx hb dL_law_134 (by decide) ?_
          refine lv_goto (tgt := 139) hx hb dL_law_135 (by decide) ?_
          refine lcall_i (As := [.int (xs (i + 1)), .int (xs (i + 2)), .int (nI 1)]) (rest := [.int r1]) (ci := 1) (w2 := u) ⟨hx, hb, hml, hown, hts⟩ (metX1_step l D ad2 di db st mk n tk en bd2 fx bo sk (xs (i + 1)) (xs (i + 2)) 1 (by omega) hst) (cwV 3 hts (lw_V q216 q217 q218 q28 q219) rfl rfl rfl (by decide +kernel) ⟨Nat.le_of_ble_eq_true rfl, Nat.le_of_ble_eq_true rfl⟩) rfl rfl hK hP hD hS hA rfl hl.1 rfl (Nat.le_of_ble_eq_true rfl) dL_law_139 ⟨Nat.le_of_ble_eq_true rfl, Nat.le_of_ble_eq_true rfl⟩ (fun r2 v H locs hw2 hP hD hS => ?_)
          obtain ⟨hP, hD⟩ := x_swap hP hD
          have hlp := lp_step hI hw1 hw2
          refine lv_icmp_eq (tgt := 314) hx hb dL_law_142 (by decide) (fun _ => ?_) (fun q => absurd hlp.1 q)
          exact K u v hlp.2 hiL _ _ hP hD hS ls hl
      · refine lv_tableIn (off := 115) (tgt := 147) hx hb dL_law_32 (by decide) (by decide) rfl (by decide) ?_
        refine lv_aload_n hx hb dL_law_147 rfl (lv_at hl 1 rfl) ?_
        refine lv_aload_n hx hb dL_law_148 rfl (lv_at hl 0 rfl) ?_
        refine lv_iload_n hx hb dL_law_149 rfl (lv_at hl 3 rfl) ?_
        refine lv_iconst (v := nI 1) hx hb dL_law_150 (by decide) ?_
        refine nv_iadd hx hb dL_law_151 ?_
        refine nv_sld hx hb hX hbl hbA hS (show i + 1 < L by omega) (by omega) dL_law_152 ?_
        refine lv_aload_n hx hb dL_law_153 rfl (lv_at hl 0 rfl) ?_
        refine lv_iload_n hx hb dL_law_154 rfl (lv_at hl 3 rfl) ?_
        refine lv_iconst (v := nI 2) hx hb dL_law_155 (by decide) ?_
        refine nv_iadd hx hb dL_law_156 ?_
        refine nv_sld hx hb hX hbl hbA hS (show i + 2 < L by omega) (by omega) dL_law_157 ?_
        refine lcall_i (As := [.int (xs (i + 1)), .int (xs (i + 2))]) (rest := []) (ci := 0) (w2 := mwX ad2 di st mk n tk en bd2 fx bo sk) ⟨hx, hb, hml, hown, hts⟩ (metX0_mark l D ad di db st mk n tk ps so dp te sc bd de sv me mo dg (xs (i + 1)) (xs (i + 2))) (cwV 2 hts (lw_V q93 q94 q95 q27 q96) rfl rfl rfl (by decide +kernel) ⟨Nat.le_of_ble_eq_true rfl, Nat.le_of_ble_eq_true rfl⟩) rfl rfl hK hP hD hS hA rfl hl.1 rfl (Nat.le_of_ble_eq_true rfl) dL_law_158 ⟨Nat.le_of_ble_eq_true rfl, Nat.le_of_ble_eq_true rfl⟩ (fun r1 u H locs hw1 hP hD hS => ?_)
        obtain ⟨hP, hD⟩ := x_swap hP hD
        refine lv_aload_n hx hb dL_law_161 rfl (lv_at hl 2 rfl) ?_
        refine lv_aload_n hx hb dL_law_162 rfl (lv_at hl 0 rfl) ?_
        refine lv_iload_n hx hb dL_law_163 rfl (lv_at hl 3 rfl) ?_
        refine lv_iconst (v := nI 1) hx hb dL_law_164 (by decide) ?_
        refine nv_iadd hx hb dL_law_165 ?_
        refine nv_sld hx hb hX hbl hbA hS (show i + 1 < L by omega) (by omega) dL_law_166 ?_
        refine lv_aload_n hx hb dL_law_167 rfl (lv_at hl 0 rfl) ?_
        refine lv_iload_n hx hb dL_law_168 rfl (lv_at hl 3 rfl) ?_
        refine lv_iconst (v := nI 2) hx hb dL_law_169 (by decide) ?_
        refine nv_iadd hx hb dL_law_170 ?_
        refine nv_sld hx hb hX hbl hbA hS (show i + 2 < L by omega) (by omega) dL_law_171 ?_
        refine lcall_i (As := [.int (xs (i + 1)), .int (xs (i + 2))]) (rest := [.int r1]) (ci := 1) (w2 := u) ⟨hx, hb, hml, hown, hts⟩ (metX1_mark l D ad2 di db st mk n tk en bd2 fx bo sk (xs (i + 1)) (xs (i + 2))) (cwV 2 hts (lw_V q224 q225 q226 q28 q227) rfl rfl rfl (by decide +kernel) ⟨Nat.le_of_ble_eq_true rfl, Nat.le_of_ble_eq_true rfl⟩) rfl rfl hK hP hD hS hA rfl hl.1 rfl (Nat.le_of_ble_eq_true rfl) dL_law_172 ⟨Nat.le_of_ble_eq_true rfl, Nat.le_of_ble_eq_true rfl⟩ (fun r2 v H locs hw2 hP hD hS => ?_)
        obtain ⟨hP, hD⟩ := x_swap hP hD
        have hlp := lp_mark hI hw1 hw2
        refine lv_icmp_eq (tgt := 314) hx hb dL_law_175 (by decide) (fun _ => ?_) (fun q => absurd hlp.1 q)
        exact K u v hlp.2 hiL _ _ hP hD hS ls hl
      · refine lv_tableIn (off := 148) (tgt := 180) hx hb dL_law_32 (by decide) (by decide) rfl (by decide) ?_
        refine lv_aload_n hx hb dL_law_180 rfl (lv_at hl 1 rfl) ?_
        refine lv_aload_n hx hb dL_law_181 rfl (lv_at hl 0 rfl) ?_
        refine lv_iload_n hx hb dL_law_182 rfl (lv_at hl 3 rfl) ?_
        refine lv_iconst (v := nI 1) hx hb dL_law_183 (by decide) ?_
        refine nv_iadd hx hb dL_law_184 ?_
        refine nv_sld hx hb hX hbl hbA hS (show i + 1 < L by omega) (by omega) dL_law_185 ?_
        refine lcall_i (As := [.int (xs (i + 1))]) (rest := []) (ci := 0) (w2 := mwX ad2 di st mk n tk en bd2 fx bo sk) ⟨hx, hb, hml, hown, hts⟩ (metX0_token l D ad di db st mk n tk ps so dp te sc bd de sv me mo dg (xs (i + 1)) hn) (cwV 1 hts (lw_V q97 q98 q99 q27 q100) rfl rfl rfl (by decide +kernel) ⟨Nat.le_of_ble_eq_true rfl, Nat.le_of_ble_eq_true rfl⟩) rfl rfl hK hP hD hS hA rfl hl.1 rfl (Nat.le_of_ble_eq_true rfl) dL_law_186 ⟨Nat.le_of_ble_eq_true rfl, Nat.le_of_ble_eq_true rfl⟩ (fun r1 u H locs hw1 hP hD hS => ?_)
        obtain ⟨hP, hD⟩ := x_swap hP hD
        refine lv_aload_n hx hb dL_law_189 rfl (lv_at hl 2 rfl) ?_
        refine lv_aload_n hx hb dL_law_190 rfl (lv_at hl 0 rfl) ?_
        refine lv_iload_n hx hb dL_law_191 rfl (lv_at hl 3 rfl) ?_
        refine lv_iconst (v := nI 1) hx hb dL_law_192 (by decide) ?_
        refine nv_iadd hx hb dL_law_193 ?_
        refine nv_sld hx hb hX hbl hbA hS (show i + 1 < L by omega) (by omega) dL_law_194 ?_
        refine lcall_i (As := [.int (xs (i + 1))]) (rest := [.int r1]) (ci := 1) (w2 := u) ⟨hx, hb, hml, hown, hts⟩ (metX1_token l D ad2 di db st mk n tk en bd2 fx bo sk (xs (i + 1)) hn) (cwV 1 hts (lw_V q228 q229 q230 q28 q231) rfl rfl rfl (by decide +kernel) ⟨Nat.le_of_ble_eq_true rfl, Nat.le_of_ble_eq_true rfl⟩) rfl rfl hK hP hD hS hA rfl hl.1 rfl (Nat.le_of_ble_eq_true rfl) dL_law_195 ⟨Nat.le_of_ble_eq_true rfl, Nat.le_of_ble_eq_true rfl⟩ (fun r2 v H locs hw2 hP hD hS => ?_)
        obtain ⟨hP, hD⟩ := x_swap hP hD
        have hlp := lp_token hI hw1 hw2
        refine lv_icmp_eq (tgt := 314) hx hb dL_law_198 (by decide) (fun _ => ?_) (fun q => absurd hlp.1 q)
        exact K u v hlp.2 hiL _ _ hP hD hS ls hl
      · refine lv_tableIn (off := 171) (tgt := 203) hx hb dL_law_32 (by decide) (by decide) rfl (by decide) ?_
        refine lv_aload_n hx hb dL_law_203 rfl (lv_at hl 1 rfl) ?_
        refine lcall_i (As := []) (rest := []) (ci := 0) (w2 := mwX ad2 di st mk n tk en bd2 fx bo sk) ⟨hx, hb, hml, hown, hts⟩ (metX0_wipe l D ad di db st mk n tk ps so dp te sc bd de sv me mo dg ) (cwV 0 hts (lw_V q105 q106 q107 q27 q108) rfl rfl rfl (by decide +kernel) ⟨Nat.le_of_ble_eq_true rfl, Nat.le_of_ble_eq_true rfl⟩) rfl rfl hK hP hD hS hA rfl hl.1 rfl (Nat.le_of_ble_eq_true rfl) dL_law_204 ⟨Nat.le_of_ble_eq_true rfl, Nat.le_of_ble_eq_true rfl⟩ (fun r1 u H locs hw1 hP hD hS => ?_)
        obtain ⟨hP, hD⟩ := x_swap hP hD
        refine lv_aload_n hx hb dL_law_207 rfl (lv_at hl 2 rfl) ?_
        refine lcall_i (As := []) (rest := [.int r1]) (ci := 1) (w2 := u) ⟨hx, hb, hml, hown, hts⟩ (metX1_wipe l D ad2 di db st mk n tk en bd2 fx bo sk ) (cwV 0 hts (lw_V q232 q233 q234 q28 q235) rfl rfl rfl (by decide +kernel) ⟨Nat.le_of_ble_eq_true rfl, Nat.le_of_ble_eq_true rfl⟩) rfl rfl hK hP hD hS hA rfl hl.1 rfl (Nat.le_of_ble_eq_true rfl) dL_law_208 ⟨Nat.le_of_ble_eq_true rfl, Nat.le_of_ble_eq_true rfl⟩ (fun r2 v H locs hw2 hP hD hS => ?_)
        obtain ⟨hP, hD⟩ := x_swap hP hD
        have hlp := lp_wipe hI hw1 hw2
        refine lv_icmp_eq (tgt := 314) hx hb dL_law_211 (by decide) (fun _ => ?_) (fun q => absurd hlp.1 q)
        exact K u v hlp.2 hiL _ _ hP hD hS ls hl
      · refine lv_tableIn (off := 184) (tgt := 216) hx hb dL_law_32 (by decide) (by decide) rfl (by decide) ?_
        refine lv_aload_n hx hb dL_law_216 rfl (lv_at hl 1 rfl) ?_
        refine lcall_i (As := []) (rest := []) (ci := 0) (w2 := mwX ad2 di st mk n tk en bd2 fx bo sk) ⟨hx, hb, hml, hown, hts⟩ (metX0_turn l D ad di db st mk n tk ps so dp te sc bd de sv me mo dg hn htk) (cwV 0 hts (lw_V q109 q110 q111 q27 q112) rfl rfl rfl (by decide +kernel) ⟨Nat.le_of_ble_eq_true rfl, Nat.le_of_ble_eq_true rfl⟩) rfl rfl hK hP hD hS hA rfl hl.1 rfl (Nat.le_of_ble_eq_true rfl) dL_law_217 ⟨Nat.le_of_ble_eq_true rfl, Nat.le_of_ble_eq_true rfl⟩ (fun r1 u H locs hw1 hP hD hS => ?_)
        obtain ⟨hP, hD⟩ := x_swap hP hD
        refine lv_aload_n hx hb dL_law_220 rfl (lv_at hl 2 rfl) ?_
        refine lcall_i (As := []) (rest := [.int r1]) (ci := 1) (w2 := u) ⟨hx, hb, hml, hown, hts⟩ (metX1_turn l D ad2 di db st mk n tk en bd2 fx bo sk hn htk) (cwV 0 hts (lw_V q236 q237 q238 q28 q239) rfl rfl rfl (by decide +kernel) ⟨Nat.le_of_ble_eq_true rfl, Nat.le_of_ble_eq_true rfl⟩) rfl rfl hK hP hD hS hA rfl hl.1 rfl (Nat.le_of_ble_eq_true rfl) dL_law_221 ⟨Nat.le_of_ble_eq_true rfl, Nat.le_of_ble_eq_true rfl⟩ (fun r2 v H locs hw2 hP hD hS => ?_)
        obtain ⟨hP, hD⟩ := x_swap hP hD
        have hlp := lp_turn hI hw1 hw2
        refine lv_icmp_eq (tgt := 314) hx hb dL_law_224 (by decide) (fun _ => ?_) (fun q => absurd hlp.1 q)
        exact K u v hlp.2 hiL _ _ hP hD hS ls hl
      · refine lv_tableIn (off := 197) (tgt := 229) hx hb dL_law_32 (by decide) (by decide) rfl (by decide) ?_
        refine lv_aload_n hx hb dL_law_229 rfl (lv_at hl 1 rfl) ?_
        refine lcall_i (As := []) (rest := []) (ci := 0) (w2 := mwX ad2 di st mk n tk en bd2 fx bo sk) ⟨hx, hb, hml, hown, hts⟩ (metX0_sound l D ad di db st mk n tk ps so dp te sc bd de sv me mo dg hn htk hmk hst hCI) (cwV 0 hts (lw_V q113 q114 q115 q27 q116) rfl rfl rfl (by decide +kernel) ⟨Nat.le_of_ble_eq_true rfl, Nat.le_of_ble_eq_true rfl⟩) rfl rfl hK hP hD hS hA rfl hl.1 rfl (Nat.le_of_ble_eq_true rfl) dL_law_230 ⟨Nat.le_of_ble_eq_true rfl, Nat.le_of_ble_eq_true rfl⟩ (fun r1 u H locs hw1 hP hD hS => ?_)
        obtain ⟨hP, hD⟩ := x_swap hP hD
        refine lv_aload_n hx hb dL_law_233 rfl (lv_at hl 2 rfl) ?_
        refine lcall_i (As := []) (rest := [.int r1]) (ci := 1) (w2 := u) ⟨hx, hb, hml, hown, hts⟩ (metX1_sound l D ad2 di db st mk n tk en bd2 fx bo sk hn htk hMB.1) (cwV 0 hts (lw_V q244 q245 q246 q28 q247) rfl rfl rfl (by decide +kernel) ⟨Nat.le_of_ble_eq_true rfl, Nat.le_of_ble_eq_true rfl⟩) rfl rfl hK hP hD hS hA rfl hl.1 rfl (Nat.le_of_ble_eq_true rfl) dL_law_234 ⟨Nat.le_of_ble_eq_true rfl, Nat.le_of_ble_eq_true rfl⟩ (fun r2 v H locs hw2 hP hD hS => ?_)
        obtain ⟨hP, hD⟩ := x_swap hP hD
        have hlp := lp_sound hI hw1 hw2
        refine lv_icmp_eq (tgt := 314) hx hb dL_law_237 (by decide) (fun _ => ?_) (fun q => absurd hlp.1 q)
        exact K u v hlp.2 hiL _ _ hP hD hS ls hl
      · refine lv_tableIn (off := 210) (tgt := 242) hx hb dL_law_32 (by decide) (by decide) rfl (by decide) ?_
        refine lv_aload_n hx hb dL_law_242 rfl (lv_at hl 1 rfl) ?_
        refine lv_aload_n hx hb dL_law_243 rfl (lv_at hl 0 rfl) ?_
        refine lv_iload_n hx hb dL_law_244 rfl (lv_at hl 3 rfl) ?_
        refine lv_iconst (v := nI 1) hx hb dL_law_245 (by decide) ?_
        refine nv_iadd hx hb dL_law_246 ?_
        refine nv_sld hx hb hX hbl hbA hS (show i + 1 < L by omega) (by omega) dL_law_247 ?_
        refine lcall_i (As := [.int (xs (i + 1))]) (rest := []) (ci := 0) (w2 := mwX ad2 di st mk n tk en bd2 fx bo sk) ⟨hx, hb, hml, hown, hts⟩ (metX0_holds l D ad di db st mk n tk ps so dp te sc bd de sv me mo dg (xs (i + 1)) hn htk hmk hst hCI) (cwV 1 hts (lw_V q137 q138 q139 q27 q140) rfl rfl rfl (by decide +kernel) ⟨Nat.le_of_ble_eq_true rfl, Nat.le_of_ble_eq_true rfl⟩) rfl rfl hK hP hD hS hA rfl hl.1 rfl (Nat.le_of_ble_eq_true rfl) dL_law_248 ⟨Nat.le_of_ble_eq_true rfl, Nat.le_of_ble_eq_true rfl⟩ (fun r1 u H locs hw1 hP hD hS => ?_)
        obtain ⟨hP, hD⟩ := x_swap hP hD
        refine lv_aload_n hx hb dL_law_251 rfl (lv_at hl 2 rfl) ?_
        refine lv_aload_n hx hb dL_law_252 rfl (lv_at hl 0 rfl) ?_
        refine lv_iload_n hx hb dL_law_253 rfl (lv_at hl 3 rfl) ?_
        refine lv_iconst (v := nI 1) hx hb dL_law_254 (by decide) ?_
        refine nv_iadd hx hb dL_law_255 ?_
        refine nv_sld hx hb hX hbl hbA hS (show i + 1 < L by omega) (by omega) dL_law_256 ?_
        refine lcall_i (As := [.int (xs (i + 1))]) (rest := [.int r1]) (ci := 1) (w2 := u) ⟨hx, hb, hml, hown, hts⟩ (metX1_holds l D ad2 di db st mk n tk en bd2 fx bo sk (xs (i + 1)) hn htk hmk hst hMB) (cwV 1 hts (lw_V q264 q265 q266 q28 q267) rfl rfl rfl (by decide +kernel) ⟨Nat.le_of_ble_eq_true rfl, Nat.le_of_ble_eq_true rfl⟩) rfl rfl hK hP hD hS hA rfl hl.1 rfl (Nat.le_of_ble_eq_true rfl) dL_law_257 ⟨Nat.le_of_ble_eq_true rfl, Nat.le_of_ble_eq_true rfl⟩ (fun r2 v H locs hw2 hP hD hS => ?_)
        obtain ⟨hP, hD⟩ := x_swap hP hD
        have hlp := lp_holds hI hw1 hw2
        refine lv_icmp_eq (tgt := 314) hx hb dL_law_260 (by decide) (fun _ => ?_) (fun q => absurd hlp.1 q)
        exact K u v hlp.2 hiL _ _ hP hD hS ls hl
      · refine lv_tableIn (off := 233) (tgt := 265) hx hb dL_law_32 (by decide) (by decide) rfl (by decide) ?_
        refine lv_aload_n hx hb dL_law_265 rfl (lv_at hl 1 rfl) ?_
        refine lcall_i (As := []) (rest := []) (ci := 0) (w2 := mwX ad2 di st mk n tk en bd2 fx bo sk) ⟨hx, hb, hml, hown, hts⟩ (metX0_set l D ad di db st mk n tk ps so dp te sc bd de sv me mo dg hn htk hmk hst hCI) (cwV 0 hts (lw_V q170 q171 q172 q27 q173) rfl rfl rfl (by decide +kernel) ⟨Nat.le_of_ble_eq_true rfl, Nat.le_of_ble_eq_true rfl⟩) rfl rfl hK hP hD hS hA rfl hl.1 rfl (Nat.le_of_ble_eq_true rfl) dL_law_266 ⟨Nat.le_of_ble_eq_true rfl, Nat.le_of_ble_eq_true rfl⟩ (fun r1 u H locs hw1 hP hD hS => ?_)
        obtain ⟨hP, hD⟩ := x_swap hP hD
        refine lv_aload_n hx hb dL_law_269 rfl (lv_at hl 2 rfl) ?_
        refine lcall_i (As := []) (rest := [.int r1]) (ci := 1) (w2 := u) ⟨hx, hb, hml, hown, hts⟩ (metX1_set l D ad2 di db st mk n tk en bd2 fx bo sk hn htk hmk hst hMB) (cwV 0 hts (lw_V q293 q294 q295 q28 q296) rfl rfl rfl (by decide +kernel) ⟨Nat.le_of_ble_eq_true rfl, Nat.le_of_ble_eq_true rfl⟩) rfl rfl hK hP hD hS hA rfl hl.1 rfl (Nat.le_of_ble_eq_true rfl) dL_law_270 ⟨Nat.le_of_ble_eq_true rfl, Nat.le_of_ble_eq_true rfl⟩ (fun r2 v H locs hw2 hP hD hS => ?_)
        obtain ⟨hP, hD⟩ := x_swap hP hD
        have hlp := lp_set hI hw1 hw2
        refine lv_icmp_eq (tgt := 314) hx hb dL_law_273 (by decide) (fun _ => ?_) (fun q => absurd hlp.1 q)
        exact K u v hlp.2 hiL _ _ hP hD hS ls hl
      · refine lv_tableIn (off := 246) (tgt := 278) hx hb dL_law_32 (by decide) (by decide) rfl (by decide) ?_
        refine lv_aload_n hx hb dL_law_278 rfl (lv_at hl 1 rfl) ?_
        refine lcall_i (As := []) (rest := []) (ci := 0) (w2 := mwX ad2 di st mk n tk en bd2 fx bo sk) ⟨hx, hb, hml, hown, hts⟩ (metX0_depth l D ad di db st mk n tk ps so dp te sc bd de sv me mo dg hn htk hmk hst hCI) (cwV 0 hts (lw_V q174 q175 q176 q27 q177) rfl rfl rfl (by decide +kernel) ⟨Nat.le_of_ble_eq_true rfl, Nat.le_of_ble_eq_true rfl⟩) rfl rfl hK hP hD hS hA rfl hl.1 rfl (Nat.le_of_ble_eq_true rfl) dL_law_279 ⟨Nat.le_of_ble_eq_true rfl, Nat.le_of_ble_eq_true rfl⟩ (fun r1 u H locs hw1 hP hD hS => ?_)
        obtain ⟨hP, hD⟩ := x_swap hP hD
        refine lv_aload_n hx hb dL_law_282 rfl (lv_at hl 2 rfl) ?_
        refine lcall_i (As := []) (rest := [.int r1]) (ci := 1) (w2 := u) ⟨hx, hb, hml, hown, hts⟩ (metX1_depth l D ad2 di db st mk n tk en bd2 fx bo sk hn htk hMB.1) (cwV 0 hts (lw_V q297 q298 q299 q28 q300) rfl rfl rfl (by decide +kernel) ⟨Nat.le_of_ble_eq_true rfl, Nat.le_of_ble_eq_true rfl⟩) rfl rfl hK hP hD hS hA rfl hl.1 rfl (Nat.le_of_ble_eq_true rfl) dL_law_283 ⟨Nat.le_of_ble_eq_true rfl, Nat.le_of_ble_eq_true rfl⟩ (fun r2 v H locs hw2 hP hD hS => ?_)
        obtain ⟨hP, hD⟩ := x_swap hP hD
        have hlp := lp_depth hI hw1 hw2
        refine lv_icmp_eq (tgt := 314) hx hb dL_law_286 (by decide) (fun _ => ?_) (fun q => absurd hlp.1 q)
        exact K u v hlp.2 hiL _ _ hP hD hS ls hl
      · refine lv_tableIn (off := 259) (tgt := 291) hx hb dL_law_32 (by decide) (by decide) rfl (by decide) ?_
        refine lv_aload_n hx hb dL_law_291 rfl (lv_at hl 1 rfl) ?_
        refine lv_aload_n hx hb dL_law_292 rfl (lv_at hl 0 rfl) ?_
        refine lv_iload_n hx hb dL_law_293 rfl (lv_at hl 3 rfl) ?_
        refine lv_iconst (v := nI 1) hx hb dL_law_294 (by decide) ?_
        refine nv_iadd hx hb dL_law_295 ?_
        refine nv_sld hx hb hX hbl hbA hS (show i + 1 < L by omega) (by omega) dL_law_296 ?_
        refine lcall_i (As := [.int (xs (i + 1))]) (rest := []) (ci := 0) (w2 := mwX ad2 di st mk n tk en bd2 fx bo sk) ⟨hx, hb, hml, hown, hts⟩ (metX0_steps l D ad di db st mk n tk ps so dp te sc bd de sv me mo dg (xs (i + 1))) (cwV 1 hts (lw_V q178 q179 q180 q27 q181) rfl rfl rfl (by decide +kernel) ⟨Nat.le_of_ble_eq_true rfl, Nat.le_of_ble_eq_true rfl⟩) rfl rfl hK hP hD hS hA rfl hl.1 rfl (Nat.le_of_ble_eq_true rfl) dL_law_297 ⟨Nat.le_of_ble_eq_true rfl, Nat.le_of_ble_eq_true rfl⟩ (fun r1 u H locs hw1 hP hD hS => ?_)
        obtain ⟨hP, hD⟩ := x_swap hP hD
        refine lv_aload_n hx hb dL_law_300 rfl (lv_at hl 2 rfl) ?_
        refine lv_aload_n hx hb dL_law_301 rfl (lv_at hl 0 rfl) ?_
        refine lv_iload_n hx hb dL_law_302 rfl (lv_at hl 3 rfl) ?_
        refine lv_iconst (v := nI 1) hx hb dL_law_303 (by decide) ?_
        refine nv_iadd hx hb dL_law_304 ?_
        refine nv_sld hx hb hX hbl hbA hS (show i + 1 < L by omega) (by omega) dL_law_305 ?_
        refine lcall_i (As := [.int (xs (i + 1))]) (rest := [.int r1]) (ci := 1) (w2 := u) ⟨hx, hb, hml, hown, hts⟩ (metX1_steps l D ad2 di db st mk n tk en bd2 fx bo sk (xs (i + 1))) (cwV 1 hts (lw_V q301 q302 q303 q28 q304) rfl rfl rfl (by decide +kernel) ⟨Nat.le_of_ble_eq_true rfl, Nat.le_of_ble_eq_true rfl⟩) rfl rfl hK hP hD hS hA rfl hl.1 rfl (Nat.le_of_ble_eq_true rfl) dL_law_306 ⟨Nat.le_of_ble_eq_true rfl, Nat.le_of_ble_eq_true rfl⟩ (fun r2 v H locs hw2 hP hD hS => ?_)
        obtain ⟨hP, hD⟩ := x_swap hP hD
        have hlp := lp_steps hI hw1 hw2
        refine lv_icmp_eq (tgt := 314) hx hb dL_law_309 (by decide) (fun _ => ?_) (fun q => absurd hlp.1 q)
        exact K u v hlp.2 hiL _ _ hP hD hS ls hl
      · refine lv_tableOut (tgt := 314) hx hb dL_law_32 (Or.inr (by rw [nI_toInt (by omega)]; omega)) (by decide) ?_
        exact K _ _ ⟨st, mk, n, tk, ps, so, dp, te, sc, bd, de, sv, me, mo, dg, en, bd2, fx, bo, sk, rfl, rfl, hI⟩ hiL _ _ hP hD hS ls hl
end
section
/-! THE LAW, 3: its start -/
theorem LI_0 : LI (fun _ => 0) (fun _ => 0) 0 (fun _ => 0) 0 0 0 (fun _ => 0) (fun _ => 0) (fun _ => 1) (fun _ => 0) 0 (fun _ => 0) (fun _ => 0) (fun _ => 0) (fun _ => 0) (fun _ => 0) :=
  ⟨Nat.zero_le _, fun _ => Nat.zero_le _, fun _ => (show 0 < 64 by omega), fun _ => (show 0 < 64 by omega), ⟨⟨fun _ => (show 0 < 128 by omega), fun _ => (show 1 < 128 by omega), fun _ => (show 0 < 128 by omega)⟩, Or.inl rfl, fun _ _ => rfl, fun _ => Nat.zero_le _, Or.inl rfl⟩, fun _ => (show 0 < 128 by omega), fun _ => (show 0 < 64 by omega), fun _ => (show 0 < 64 by omega), fun _ => (show 0 < 64 by omega)⟩
theorem LW_0 {ad ad2 : Nat → Nat} {di db : ClassId} : LW ad ad2 di db (cwX ad di db (fun _ => 0) (fun _ => 0) 0 (fun _ => 0) 0 0 0 (fun _ => 0) (fun _ => 0) (fun _ => 1) (fun _ => 0) 0 (fun _ => 0) (fun _ => 0) (fun _ => 0)) (mwX ad2 di (fun _ => 0) (fun _ => 0) 0 (fun _ => 0) (fun _ => 0) (fun _ => 1) (fun _ => 0) (fun _ => 0) (fun _ => 0)) :=
  ⟨(fun _ => 0), (fun _ => 0), 0, (fun _ => 0), 0, 0, 0, (fun _ => 0), (fun _ => 0), (fun _ => 1), (fun _ => 0), 0, (fun _ => 0), (fun _ => 0), (fun _ => 0), (fun _ => 0), (fun _ => 1), (fun _ => 0), (fun _ => 0), (fun _ => 0), rfl, rfl, LI_0⟩
set_option maxHeartbeats 4000000 in
set_option maxRecDepth 100000 in
/-- THE LAW, from its entry -/
theorem whole_start {p : Program} {e : Env} {s : State} {m : MethodId} {below : List Frame} {meth : Method} {c : Code} (l : Launch) {b L : Nat} {xs : Nat → Int32} (hL : L ≤ 256) (C0 : lw_At p s m meth c b L xs) : W p l e room_1 s m #[Value.ref b] below meth c s.heap [] 0 0 (lw_Z below #[Value.ref b] s) (entryFrame m ([Value.ref b] : List Value).toArray 4) := by
  obtain ⟨hx, hb, hr, hml, hown, hts0, hX, hbl, hlocks, hgv⟩ := id C0
  have hts : ∀ w ∈ lw_all, w.before #[Value.ref b] s = true := fun w h => hts0 w (lw_all_tbl h)
  have hA : ∀ q : Nat, s.heap.size ≤ q → (fun q : Nat => s.heap.size ≤ q) q := fun _ h => h
  obtain ⟨c0, iS0, hKn0⟩ := u_known (C := RX0) (T := TX0) (N := 15) (n := 15) hts in_X0 (hts _ q30)
  obtain ⟨c1, iS1, hKn1⟩ := u_known (C := RX1) (T := TX1) (N := 9) (n := 9) hts in_X1 (hts _ q183)
  obtain ⟨D, hKc⟩ : ∃ D : va_G, ∀ (k : Nat) (q : vw_C), vwCl[k]? = some q → u_Kn s q.1 q.2.1 q.2.2 (D.1 k) (D.2 k) := by
    refine ⟨(fun k => if k = 0 then c0 else c1, fun k => if k = 0 then iS0 else iS1), ?_⟩
    intro k q hq
    match k, hq with
    | 0, hq => cases hq; exact hKn0
    | 1, hq => cases hq; exact hKn1
    | k + 2, hq => simp [vwCl] at hq
  obtain ⟨di, hdi⟩ := ar_known (hts _ q83) (Or.inl rfl)
  obtain ⟨db, hdb⟩ := ar_known (hts _ q84) (Or.inr rfl)
  have hK : va_K D vwCl (tyX di db) s := ⟨hKc, fun k q hq => by
    match k, hq with
    | 0, hq => cases hq; exact hdi
    | 1, hq => cases hq; exact hdb
    | k + 2, hq => simp [tyX] at hq⟩
  have hS : va_S (fun q : Nat => s.heap.size ≤ q) s.heap s.heap [] := va_S.rf
  have hP : va_P D vwCl [] s.heap := fun k q h => by simp at h
  have hD : va_D (fun q : Nat => s.heap.size ≤ q) [] := ⟨fun i j p q h => by simp at h, fun k q h => by simp at h⟩
  have hl := lv_entry ([.ref b]) (n := 4) (Nat.le_of_ble_eq_true rfl)
  rw [lg_entry_eq]
  generalize (lg_sl ([.ref b]) ++ List.replicate (4 - (lg_sl ([.ref b])).length) Slot.unset).toArray = ls at hl ⊢
  have hl : lv_has ls 4 [(0, .ref b)] := hl
  refine va_new (ci := 0) (fs := [.null, .null, .int (nI 0), .null, .int (nI 0), .int (nI 0), .int (nI 0), .null, .null, .null, .null, .int (nI 0), .null, .null, .null]) (C := RX0) (T := TX0) (N := 15) hx hb hts in_X0 tyX0 tyX0_ok hown (hts _ q29) (hts _ q30) (hts _ q27) hK hP hD hS hA rfl (fun j hj => by rcases (show j = 0 ∨ j = 1 ∨ j = 2 ∨ j = 3 ∨ j = 4 ∨ j = 5 ∨ j = 6 ∨ j = 7 ∨ j = 8 ∨ j = 9 ∨ j = 10 ∨ j = 11 ∨ j = 12 ∨ j = 13 ∨ j = 14 by omega) with rfl | rfl | rfl | rfl | rfl | rfl | rfl | rfl | rfl | rfl | rfl | rfl | rfl | rfl | rfl <;> rfl) (Nat.le_of_ble_eq_true rfl) (Nat.le_of_ble_eq_true rfl) dL_law_0 (fun h1 H hP hD hS => ?_)
  have hP : va_P D vwCl ([(h1, .inr (0, [.null, .null, .int (nI 0), .null, .int (nI 0), .int (nI 0), .int (nI 0), .null, .null, .null, .null, .int (nI 0), .null, .null, .null]))] ++ []) H := hP
  have hD : va_D (fun q : Nat => s.heap.size ≤ q) ([(h1, .inr (0, [.null, .null, .int (nI 0), .null, .int (nI 0), .int (nI 0), .int (nI 0), .null, .null, .null, .null, .int (nI 0), .null, .null, .null]))] ++ []) := hD
  refine lv_dup hx hb dL_law_3 rfl ?_
  refine ccall (rest := [.ref h1]) ⟨hx, hb, hml, hown, hts⟩ (metX0_init l D di db h1) (cwI 0 hts (lw_meth q33) rfl rfl rfl (hts _ q27) (hts _ q31) (hts _ q32) rfl (by decide +kernel) ⟨Nat.le_of_ble_eq_true rfl, Nat.le_of_ble_eq_true rfl⟩) hK hP hD hS hA hl.1 rfl (Nat.le_of_ble_eq_true rfl) dL_law_4 ⟨Nat.le_of_ble_eq_true rfl, Nat.le_of_ble_eq_true rfl⟩ (fun u H locs hw hP hD hS => ?_)
  obtain ⟨ad, rfl, rfl⟩ := hw
  have hP : va_P D vwCl (cwX ad di db (fun _ => 0) (fun _ => 0) 0 (fun _ => 0) 0 0 0 (fun _ => 0) (fun _ => 0) (fun _ => 1) (fun _ => 0) 0 (fun _ => 0) (fun _ => 0) (fun _ => 0)) H := hP
  have hD : va_D (fun q : Nat => s.heap.size ≤ q) (cwX ad di db (fun _ => 0) (fun _ => 0) 0 (fun _ => 0) 0 0 0 (fun _ => 0) (fun _ => 0) (fun _ => 1) (fun _ => 0) 0 (fun _ => 0) (fun _ => 0) (fun _ => 0)) := hD
  refine lv_astore_n (lv' := [(1, .ref (ad 0)), (0, .ref b)]) hx hb dL_law_7 rfl hl (by decide) rfl (fun ls hl => ?_)
  refine va_new (ci := 1) (fs := [.null, .null, .int (nI 0), .null, .null, .null, .null, .null, .null]) (C := RX1) (T := TX1) (N := 9) hx hb hts in_X1 tyX1 tyX1_ok hown (hts _ q182) (hts _ q183) (hts _ q28) hK hP hD hS hA rfl (fun j hj => by rcases (show j = 0 ∨ j = 1 ∨ j = 2 ∨ j = 3 ∨ j = 4 ∨ j = 5 ∨ j = 6 ∨ j = 7 ∨ j = 8 by omega) with rfl | rfl | rfl | rfl | rfl | rfl | rfl | rfl | rfl <;> rfl) (Nat.le_of_ble_eq_true rfl) (Nat.le_of_ble_eq_true rfl) dL_law_8 (fun h2 H hP hD hS => ?_)
  obtain ⟨hP, hD⟩ := x_swap hP hD
  refine lv_dup hx hb dL_law_11 rfl ?_
  refine ccall (rest := [.ref h2]) ⟨hx, hb, hml, hown, hts⟩ (metX1_init l D di db h2) (cwI 0 hts (lw_meth q186) rfl rfl rfl (hts _ q28) (hts _ q184) (hts _ q185) rfl (by decide +kernel) ⟨Nat.le_of_ble_eq_true rfl, Nat.le_of_ble_eq_true rfl⟩) hK hP hD hS hA hl.1 rfl (Nat.le_of_ble_eq_true rfl) dL_law_12 ⟨Nat.le_of_ble_eq_true rfl, Nat.le_of_ble_eq_true rfl⟩ (fun u H locs hw hP hD hS => ?_)
  obtain ⟨ad2, rfl, rfl⟩ := hw
  obtain ⟨hP, hD⟩ := x_swap hP hD
  refine W.widen (k := 20) (n := 256) (by decide) (by decide) ?_
  refine lv_astore_n (lv' := [(2, .ref (ad2 0)), (1, .ref (ad 0)), (0, .ref b)]) hx hb dL_law_15 rfl hl (by decide) rfl (fun ls hl => ?_)
  refine lv_iconst (v := nI 0) hx hb dL_law_16 (by decide) ?_
  refine lv_istore_n (lv' := [(3, .int (nI 0)), (2, .ref (ad2 0)), (1, .ref (ad 0)), (0, .ref b)]) hx hb dL_law_17 rfl hl (by decide) rfl (fun ls hl => ?_)
  exact law_loop hL C0 hK (L + 5) 0 (by omega) (by omega) _ _ LW_0 _ _ hP hD hS ls (lv_sub hl [3, 2, 1, 0] rfl)
end
section
set_option maxHeartbeats 4000000 in
theorem lw_walk (l : Launch) (b : Addr) (xs : List Int32) : MetFree l x (headSpec (Jvm.Cond.code x code maxLocals ret :: tables_1) room_1) (lw_P b xs) (fun _ _ _ _ _ => True) lw_Q := by
  refine MetFree.of_bodyS (code := code) (maxLocals := maxLocals) (ret := ret) (by decide) ?_ ?_
  · intro args s m h hn
    obtain ⟨meth, c, h1, h2, h3, h4, h5, h6, -, -⟩ := Cond.code_spec hn (atoms_spec (ws := Jvm.Cond.code x code maxLocals ret :: tables_1) h _ List.mem_cons_self)
    exact ⟨meth, c, h1, h2, h3, h4, h5, h6⟩
  · intro p e s m args below meth c s₁ B hml0 hP _
    obtain ⟨rfl, hx, hbd, hgv⟩ := hP
    obtain ⟨scr, harrAt, hlist, hof, hsmall⟩ := hx
    obtain ⟨hcb, hkn, -, -⟩ := State.arrayAt?_spec harrAt
    have hown : s.vm.findClass R_law = some m.cls := findClass_of_methodNamed B.named
    have hts0 : ∀ c ∈ (Jvm.Cond.code x code maxLocals ret :: tables_1), c.before #[Value.ref b] s = true := atoms_spec (ws := Jvm.Cond.code x code maxLocals ret :: tables_1) B.pre
    have hts : ∀ w ∈ lw_tbl, w.before #[Value.ref b] s = true := k2_hts_sels lw_privs (fun w hw => hts0 w (List.mem_cons_of_mem _ hw)) lw_privs_ok
    have hml : c.maxLocals = 4 := B.maxLocals_eq (hts0 _ List.mem_cons_self)
    have X₀ : Stand p l e room_1 s m #[Value.ref b] below meth c s₁ [] 0 0 := Stand.of_body B
    have hh0 : s₁.heap = s.heap := by rw [B.state]; rfl
    have hsz : scr.slots.size = xs.length := by rw [← Array.length_toList, hlist, List.length_map]
    have hval : ∀ j : Nat, j < xs.length → scr.slots[j]? = some (.int (xs.getD j 0)) := fun j hj => by
      rw [← Array.getElem?_toList, hlist]
      simp [hj]
    have hbl : b < s.heap.size := (Array.getElem?_eq_some_iff.mp hcb).1
    have hX : va_X b xs.length (fun j => xs.getD j 0) s s.heap := ⟨scr, hcb, hof, hkn, hsz, hval⟩
    have K : W p l e room_1 s m #[Value.ref b] below meth c s₁.heap [] 0 0 (lw_Z below #[Value.ref b] s) (entryFrame m ([Value.ref b] : List Value).toArray 4) := by
      rw [hh0]
      exact whole_start l hbd ⟨B.exec, B.bytes, B.returns, hml, hown, hts, hX, hbl, B.notSynchronized, hgv⟩
    obtain ⟨t, a1, o, b1, b2, b3⟩ := K s₁ rfl X₀
    exact ⟨t, o, a1, b1, b2, b3⟩
theorem lw_pre_spec {args : Array Value} {s : State} (h : (Jvm.Cond.and given_1 narrow_1).before args s = true) (hr : rest_1_c.before args s = true) : ∃ (b : Addr) (xs : List Int32), lw_P b xs args s := by
  have hs := flat_of_before _ h
  have hq := flat_of_before _ hr
  have hc : (Cond.count 1).before args s = true := hs _ (by decide +kernel)
  have harr : (Cond.arrayOf (.arg 0) .int).before args s = true := hs _ (by decide +kernel)
  have hle : (Cond.le (.length (.arg 0)) (.int 256)).before args s = true := hs _ (by decide +kernel)
  have hlen : (Cond.isInt (.length (.arg 0))).before args s = true := hq _ (by decide +kernel)
  have hall : (Cond.all (.arg 0) (.isInt (.elem (.arg 0) (.index 0)))).before args s = true := hq _ (by decide +kernel)
  obtain ⟨b, xs, hb, hx⟩ := State.ints_of_pre rfl harr hlen hall
  have hsm : xs.length < 2 ^ 31 := hx.choose_spec.2.2.2
  have hev : (Term.length (.arg 0)).eval args s none [] s = some (.int xs.length.toInt32) := hx.length_eval hb
  have hv := Cond.le_ints hev (show (Term.int 256).eval args s none [] s = some (.int 256) from rfl)
  have hd : xs.length.toInt32 ≤ 256 := by
    simpa [Cond.before, Cond.holds, hv] using hle
  have hN : xs.length ≤ 256 := (Int32.ofNat_le_ofNat hsm (by decide)).mp (show Int32.ofNat xs.length ≤ Int32.ofNat 256 from hd)
  exact ⟨b, xs, Cond.one_arg hc (show args[0]? = some (.ref b) from hb), hx, hN, h⟩
theorem lw_comes (l : Launch) : Comes l x (Jvm.Cond.code x code maxLocals ret :: tables_1) room_1 (fun tb e args s => Calls_1 tb e args s ∧ rest_1 tb e args s ∧ Pre_1 tb e args s)
    (fun _ _ args s o t => lw_Q args s o t) := by
  intro p e ha hc hk s m args below hf hfit hheap happ hpre
  obtain ⟨b, xs, hP⟩ := lw_pre_spec hpre.2.2 hpre.2.1
  obtain ⟨k, o, h1, h2, h3, hQ⟩ := lw_walk l b xs p e ha hc hk s m args below hf ((Spec.applies_iff_loose hf).mp happ).1 hP trivial
  exact ⟨k, o, h1, h2, h3, hQ⟩
theorem lw_frame {s t : State} {o : Outcome} {args : Array Value} (h : Framed s o t [] 600000 7290000) :
    Framed s o t (fieldLocs frame_1_writes args s ++ arrayLocs frame_1_arrays args s ++ staticLocs frame_1_statics s) 600000 7290000 := h
theorem lw_limb (L : Cond) (hL : ∀ (args : Array Value) (s t : State), L.after args s (.returned (some (.int 1))) t = true) :
    ArmFor flags0 classFile x code maxLocals ret World_1 tables_1 room_1 Calls_1 rest_1 Pre_1
      (fun tb e a s o t => postC L tb e a s o t ∧ Framed s o t (fieldLocs frame_1_writes a s ++ arrayLocs frame_1_arrays a s ++ staticLocs frame_1_statics s) 600000 7290000) := by
  intro l _ _ _ p e ha hc hk s m args below hf hfit hheap happ hpre
  obtain ⟨k, o, h1, h2, h3, rfl, hF⟩ := lw_comes l p e ha hc hk s m args below hf hfit hheap happ hpre
  exact ⟨k, _, h1, h2, h3, hL args s _, lw_frame hF⟩
theorem i_vc : Claimed_1_1 ∧ Claimed_1_2 := ⟨lw_limb limb_1_1 (fun args s t => by simp [limb_1_1, Cond.after, Cond.holds, Cond.value]), lw_limb limb_1_2 (fun args s t => Cond.after_iff.mpr (by
  first | (rw [show limb_1_2 = Cond.eq .result (.int 1) from rfl, Cond.eq_ints (x := 1) (y := 1) rfl rfl]; simp; done) | (simp [limb_1_2, Cond.value, Term.eval]; done)))⟩
end
